section
theorem pk_us {f : Nat → Int32} {k : Nat} {x : Int32} : upd f k x k = x := if_pos rfl
theorem pk_un {f : Nat → Int32} {k j : Nat} {x : Int32} (h : j ≠ k) : upd f k x j = f j := if_neg h
theorem pk_sub {a b : Nat} (h : b ≤ a) : nI a - nI b = nI (a - b) := by
  obtain ⟨c, rfl⟩ : ∃ c, a = c + b := ⟨a - b, by omega⟩
  rw [← nI_add, Int32.add_sub_cancel, Nat.add_sub_cancel]
theorem pk_m1 (n : Nat) : nI (n + 1) + (-1) = nI n := by
  rw [← nI_1, Int32.add_assoc, show (1 : Int32) + (-1) = 0 from rfl, Int32.add_zero]
theorem pk_mul (a b : Nat) : nI a * nI b = nI (a * b) := (Int32.ofNat_mul a b).symm
theorem pk_div {a d : Nat} (ha : a < 2 ^ 31) (h0 : 0 < d) (hd : d < 2 ^ 31) : nI a / nI d = nI (a / d) := by
  apply Int32.toInt_inj.mp
  rw [lg_idiv_nonneg (by rw [nI_toInt ha]; omega) (by rw [nI_toInt hd]; omega), nI_toInt ha, nI_toInt hd, nI_toInt (Nat.lt_of_le_of_lt (Nat.div_le_self a d) ha)]
  first | rfl | exact (Int.natCast_ediv _ _).symm
theorem pk_rem {a d : Nat} (ha : a < 2 ^ 31) (h0 : 0 < d) (hd : d < 2 ^ 31) : nI a - nI a / nI d * nI d = nI (a % d) := by
  rw [pk_div ha h0 hd, pk_mul, pk_sub (Nat.div_mul_le_self a d)]
  exact congrArg nI (by have := Nat.div_add_mod' a d; omega)
theorem pk_sub_toInt {a b : Nat} (ha : a < 2 ^ 30) (hb : b < 2 ^ 30) : (nI a - nI b).toInt = (a : Int) - b := by
  rw [Int32.toInt_sub, nI_toInt (by omega), nI_toInt (by omega)]
  exact Int.bmod_eq_of_le (by omega) (by omega)
theorem pk_sneg {a b : Nat} (hb : b < 2 ^ 30) (h : a < b) : nI a - nI b < 0 := by
  rw [Int32.lt_iff_toInt_lt, pk_sub_toInt (by omega) hb, show (0 : Int32).toInt = 0 from by decide]
  omega
theorem pk_ix (x : Int32) {n : Nat} (hn : n < 2 ^ 31) : x < 0 ∨ nI n ≤ x ∨ ∃ j : Nat, j < n ∧ x = nI j := by
  by_cases h : x < 0
  · exact Or.inl h
  · obtain ⟨j, hj, rfl⟩ := nI_of h
    by_cases h2 : j < n
    · exact Or.inr (Or.inr ⟨j, h2, rfl⟩)
    · exact Or.inr (Or.inl (nI_le (by omega) hj))
theorem pk_le {x y : Int32} {A B : Prop} (a b : Nat) (f : a ≤ b → A) (g : b < a → B) (hx : x = nI a := by rfl) (hy : y = nI b := by rfl) (ha : a < 2 ^ 31 := by omega) (hb : b < 2 ^ 31 := by omega) : (x ≤ y → A) ∧ (¬ x ≤ y → B) := by
  subst hx hy
  rw [nI_leI ha hb]
  exact ⟨f, fun z => g (by omega)⟩
theorem pk_lt {x y : Int32} {A B : Prop} (a b : Nat) (f : a < b → A) (g : b ≤ a → B) (hx : x = nI a := by rfl) (hy : y = nI b := by rfl) (ha : a < 2 ^ 31 := by omega) (hb : b < 2 ^ 31 := by omega) : (x < y → A) ∧ (¬ x < y → B) := by
  subst hx hy
  rw [nI_ltI ha hb]
  exact ⟨f, fun z => g (by omega)⟩
theorem pk_eq {x y : Int32} {A B : Prop} (a b : Nat) (f : a = b → A) (g : a ≠ b → B) (hx : x = nI a := by rfl) (hy : y = nI b := by rfl) (ha : a < 2 ^ 31 := by omega) (hb : b < 2 ^ 31 := by omega) : (x = y → A) ∧ (¬ x = y → B) := by
  subst hx hy
  rw [nI_eq ha hb]
  exact ⟨f, g⟩
theorem pk_in {x : Int32} (n N : Nat) (h : n < N) (hx : x = nI n := by rfl) (hN : N < 2 ^ 31 := by omega) : vp_in x N := by
  subst hx
  exact vp_in_nI h hN
theorem pk_cl {x : Int32} (n : Nat) (hx : x = nI n := by rfl) (h : n < 2 ^ 31 := by omega) : x.toNatClampNeg = n := by
  subst hx
  exact nI_clamp h
theorem pk_tn {n : Nat} (h : n < 2 ^ 32) : (nI n).toBitVec.toNat = n := Nat.mod_eq_of_lt h
theorem pk_least (P : Nat → Prop) (h : ∃ k, P k) : ∃ k, P k ∧ ∀ j, j < k → ¬ P j := by
  obtain ⟨k, hk⟩ := h
  induction k using Nat.strongRecOn with
  | ind k ih =>
    by_cases e : ∃ j, j < k ∧ P j
    · obtain ⟨j, hj, pj⟩ := e
      exact ih j hj pj
    · exact ⟨k, hk, fun j hj pj => e ⟨j, hj, pj⟩⟩
theorem sb_m1 {p : Nat} (h : 0 < p) : nI p + (-1) = nI (p - 1) := by
  obtain ⟨q, rfl⟩ : ∃ q, p = q + 1 := ⟨p - 1, by omega⟩
  exact pk_m1 q
def bt (x : Int32) (i : Nat) : Bool := x.toBitVec.getLsbD i
theorem b_ext {x y : Int32} (h : ∀ i, i < 32 → bt x i = bt y i) : x = y := Int32.toBitVec_inj.mp (BitVec.eq_of_getLsbD_eq (fun i hi => h i hi))
theorem b_or (x y : Int32) (i : Nat) : bt (x ||| y) i = (bt x i || bt y i) := by unfold bt; rw [Int32.toBitVec_or, BitVec.getLsbD_or]
theorem b_and (x y : Int32) (i : Nat) : bt (x &&& y) i = (bt x i && bt y i) := by unfold bt; rw [Int32.toBitVec_and, BitVec.getLsbD_and]
theorem b_xor (x y : Int32) (i : Nat) : bt (x ^^^ y) i = (bt x i ^^ bt y i) := by unfold bt; rw [Int32.toBitVec_xor, BitVec.getLsbD_xor]
theorem b_big {x : Int32} {i : Nat} (h : 32 ≤ i) : bt x i = false := BitVec.getLsbD_of_ge _ _ h
theorem b_m1 : ∀ i, i < 32 → bt (-1) i = true := by decide +kernel
theorem b_0 (i : Nat) : bt 0 i = false := BitVec.getLsbD_zero
theorem s_l : ∀ n, n < 32 → ((nI n &&& 31).toBitVec.smod 32).toNat = n := by decide +kernel
theorem b_shl (n : Nat) (hn : n < 32) (x : Int32) {i : Nat} (hi : i < 32) : bt (x <<< (nI n &&& 31)) i = (decide (n ≤ i) && bt x (i - n)) := by
  unfold bt
  rw [Int32.toBitVec_shiftLeft]
  show (x.toBitVec <<< ((nI n &&& 31).toBitVec.smod 32).toNat).getLsbD i = _
  rw [s_l n hn, BitVec.getLsbD_shiftLeft]
  rcases Nat.lt_or_ge i n with h | h
  · simp [h, Nat.not_le.mpr h]
  · simp [hi, h, Nat.not_lt.mpr h]
theorem b_sshr (n : Nat) (hn : n < 32) (x : Int32) {i : Nat} (hi : i < 32) : bt (x >>> (nI n &&& 31)) i = if n + i < 32 then bt x (n + i) else bt x 31 := by
  unfold bt
  rw [Int32.toBitVec_shiftRight]
  show (x.toBitVec.sshiftRight ((nI n &&& 31).toBitVec.smod 32).toNat).getLsbD i = _
  rw [s_l n hn, BitVec.getLsbD_sshiftRight, BitVec.msb_eq_getLsbD_last]
  simp [hi]
end
section
/-! bits of an Int32: one bit read, one bit set, complement; counts; the first that serves -/
theorem dt_one : ∀ j, j < 32 → bt 1 j = decide (j = 0) := by decide +kernel
theorem dt_b1 (x : Int32) {i : Nat} (hi : i < 32) : (x >>> (nI i &&& 31)) &&& 1 = if bt x i = true then 1 else 0 := by
  apply b_ext
  intro j hj
  rw [b_and, b_sshr i hi x hj, dt_one j hj]
  by_cases h : j = 0
  · subst h
    rw [Nat.add_zero, if_pos hi]
    cases bt x i
    · rw [if_neg (by decide), b_0]; rfl
    · rw [if_pos rfl, dt_one 0 hj]; rfl
  · rw [decide_eq_false h, Bool.and_false]
    split
    · rw [dt_one j hj, decide_eq_false h]
    · rw [b_0]
theorem dt_t (x : Int32) {i : Nat} (hi : i < 32) : (x >>> (nI i &&& 31)) &&& 1 = 1 ↔ bt x i = true := by
  rw [dt_b1 x hi]
  cases bt x i <;> simp
theorem dt_z (x : Int32) {i : Nat} (hi : i < 32) : (x >>> (nI i &&& 31)) &&& 1 = 0 ↔ bt x i = false := by
  rw [dt_b1 x hi]
  cases bt x i <;> simp
theorem dt_sh {e : Nat} (he : e < 32) {i : Nat} (hi : i < 32) : bt ((1 : Int32) <<< (nI e &&& 31)) i = decide (i = e) := by
  rw [b_shl e he 1 hi, dt_one (i - e) (by omega), ← Bool.decide_and]
  exact decide_eq_decide.mpr (by omega)
theorem dt_nt (x : Int32) {i : Nat} (hi : i < 32) : bt (x ^^^ (-1)) i = !bt x i := by
  rw [b_xor, b_m1 i hi]
  cases bt x i <;> rfl
/-- a set of entries: nothing at 24 and beyond -/
def dt_S (x : Int32) : Prop := ∀ i, 24 ≤ i → bt x i = false
theorem dt_S_or {x y : Int32} (a : dt_S x) (b : dt_S y) : dt_S (x ||| y) := fun i h => by rw [b_or, a i h, b i h]; rfl
theorem dt_S_andl {x y : Int32} (a : dt_S x) : dt_S (x &&& y) := fun i h => by rw [b_and, a i h]; rfl
theorem dt_S_andr {x y : Int32} (a : dt_S y) : dt_S (x &&& y) := fun i h => by rw [b_and, a i h, Bool.and_false]
theorem dt_S_0 : dt_S 0 := fun i _ => b_0 i
theorem dt_S_sh {e : Nat} (he : e < 24) : dt_S ((1 : Int32) <<< (nI e &&& 31)) := fun i h => by
  rcases Nat.lt_or_ge i 32 with z | z
  · rw [dt_sh (by omega) z]; exact decide_eq_false (by omega)
  · exact b_big z
theorem dt_S_ext {x y : Int32} (a : dt_S x) (b : dt_S y) (h : ∀ i, i < 24 → bt x i = bt y i) : x = y := b_ext fun i _ => by
  rcases Nat.lt_or_ge i 24 with z | z
  · exact h i z
  · rw [a i z, b i z]
theorem dt_S_ne {x : Int32} (a : dt_S x) (h : x ≠ 0) : ∃ i, i < 24 ∧ bt x i = true := by
  apply Classical.byContradiction
  intro z
  apply h
  apply dt_S_ext a dt_S_0
  intro i hi
  rw [b_0]
  cases e : bt x i
  · rfl
  · exact absurd ⟨i, hi, e⟩ z
theorem dt_ne0 {x : Int32} {i : Nat} (h : bt x i = true) : x ≠ 0 := by
  intro z
  rw [z, b_0] at h
  exact absurd h (by decide)
/-! counts -/
def dt_n (q : Nat → Bool) : Nat → Nat
  | 0 => 0
  | k + 1 => dt_n q k + (if q k = true then 1 else 0)
theorem dt_n_t {q : Nat → Bool} {k : Nat} (h : q k = true) : dt_n q (k + 1) = dt_n q k + 1 := by
  show dt_n q k + (if q k = true then 1 else 0) = _
  rw [if_pos h]
theorem dt_n_f {q : Nat → Bool} {k : Nat} (h : q k = false) : dt_n q (k + 1) = dt_n q k := by
  show dt_n q k + (if q k = true then 1 else 0) = _
  rw [if_neg (by rw [h]; decide)]
  rfl
theorem dt_n_le (q : Nat → Bool) : ∀ k, dt_n q k ≤ k
  | 0 => Nat.le_refl 0
  | k + 1 => by
    have h := dt_n_le q k
    cases e : q k
    · rw [dt_n_f e]; omega
    · rw [dt_n_t e]; omega
theorem dt_n_cg {q p : Nat → Bool} : ∀ {k : Nat}, (∀ i, i < k → q i = p i) → dt_n q k = dt_n p k
  | 0, _ => rfl
  | k + 1, h => by
    show dt_n q k + _ = dt_n p k + _
    rw [dt_n_cg (k := k) fun i hi => h i (by omega), h k (by omega)]
theorem dt_n_0 {q : Nat → Bool} : ∀ {k : Nat}, (∀ i, i < k → q i = false) → dt_n q k = 0
  | 0, _ => rfl
  | k + 1, h => by
    rw [dt_n_f (h k (by omega))]
    exact dt_n_0 fun i hi => h i (by omega)
theorem dt_n_s (q : Nat → Bool) : ∀ k, dt_n q (k + 1) = (if q 0 = true then 1 else 0) + dt_n (fun i => q (i + 1)) k
  | 0 => Nat.add_comm _ _
  | k + 1 => by
    show dt_n q (k + 1) + (if q (k + 1) = true then 1 else 0) = _ + (dt_n (fun i => q (i + 1)) k + (if q (k + 1) = true then 1 else 0))
    rw [dt_n_s q k]
    omega
theorem dt_n_up {q : Nat → Bool} {k : Nat} : ∀ m, (∀ i, k ≤ i → i < k + m → q i = false) → dt_n q (k + m) = dt_n q k
  | 0, _ => rfl
  | m + 1, h => by
    rw [← Nat.add_assoc, dt_n_f (h (k + m) (by omega) (by omega))]
    exact dt_n_up m fun i a b => h i a (by omega)
theorem dt_n_pos {q : Nat → Bool} : ∀ {k i : Nat}, i < k → q i = true → 0 < dt_n q k
  | 0, _, h, _ => absurd h (by omega)
  | k + 1, i, h, e => by
    by_cases z : i = k
    · subst z
      rw [dt_n_t e]; omega
    · have := dt_n_pos (k := k) (i := i) (by omega) e
      show 0 < dt_n q k + _
      omega
theorem dt_low : ∀ (k n : Nat), 0 < n → n < 2 ^ k → dt_n (fun i => (n &&& (n - 1)).testBit i) k + 1 = dt_n (fun i => n.testBit i) k
  | 0, n, h0, h => by
    have : (2 : Nat) ^ 0 = 1 := rfl
    omega
  | k + 1, n, h0, h => by
    have hp : (2 : Nat) ^ (k + 1) = 2 ^ k * 2 := Nat.pow_succ 2 k
    rw [dt_n_s, dt_n_s]
    have z0 : (n &&& (n - 1)).testBit 0 = false := by
      rw [Nat.testBit_and, Nat.testBit_zero, Nat.testBit_zero]
      by_cases o : n % 2 = 1
      · rw [decide_eq_false (p := (n - 1) % 2 = 1) (by omega), Bool.and_false]
      · rw [decide_eq_false o, Bool.false_and]
    have e0 : (if (n &&& (n - 1)).testBit 0 = true then 1 else 0) = 0 := by rw [z0]; rfl
    show (if (n &&& (n - 1)).testBit 0 = true then 1 else 0) + dt_n (fun i => (n &&& (n - 1)).testBit (i + 1)) k + 1 = (if n.testBit 0 = true then 1 else 0) + dt_n (fun i => n.testBit (i + 1)) k
    rw [e0]
    have a1 : dt_n (fun i => n.testBit (i + 1)) k = dt_n (fun i => (n / 2).testBit i) k := dt_n_cg fun i _ => Nat.testBit_succ n i
    by_cases o : n % 2 = 1
    · have t0 : (if n.testBit 0 = true then 1 else 0) = 1 := by rw [Nat.testBit_zero, decide_eq_true o]; rfl
      have a2 : dt_n (fun i => (n &&& (n - 1)).testBit (i + 1)) k = dt_n (fun i => (n / 2).testBit i) k := dt_n_cg fun i _ => by
        rw [Nat.testBit_and, Nat.testBit_succ, Nat.testBit_succ, show (n - 1) / 2 = n / 2 from by omega, Bool.and_self]
      rw [t0, a1, a2]
      omega
    · have t0 : (if n.testBit 0 = true then 1 else 0) = 0 := by rw [Nat.testBit_zero, decide_eq_false o]; rfl
      have a2 : dt_n (fun i => (n &&& (n - 1)).testBit (i + 1)) k = dt_n (fun i => (n / 2 &&& (n / 2 - 1)).testBit i) k := dt_n_cg fun i _ => by
        rw [Nat.testBit_and, Nat.testBit_succ, Nat.testBit_succ, Nat.testBit_and, show (n - 1) / 2 = n / 2 - 1 from by omega]
      have ih := dt_low k (n / 2) (by omega) (by omega)
      rw [t0, a1, a2]
      omega
theorem dt_ones_s (x : Int32) (h : x ≠ 0) : dt_n (bt (x &&& (x - 1))) 32 + 1 = dt_n (bt x) 32 := by
  have hn : 0 < x.toBitVec.toNat := by
    apply Nat.pos_of_ne_zero
    intro z
    apply h
    apply Int32.toBitVec_inj.mp
    apply BitVec.eq_of_toNat_eq
    rw [z]; rfl
  have hl := x.toBitVec.isLt
  have e1 : (x &&& (x - 1)).toBitVec.toNat = x.toBitVec.toNat &&& (x.toBitVec.toNat - 1) := by
    rw [Int32.toBitVec_and, BitVec.toNat_and, Int32.toBitVec_sub, BitVec.toNat_sub]
    congr 1
    show (2 ^ 32 - (1 : BitVec 32).toNat + x.toBitVec.toNat) % 2 ^ 32 = _
    rw [show (1 : BitVec 32).toNat = 1 from rfl]
    omega
  have k := dt_low 32 x.toBitVec.toNat hn hl
  rw [← e1] at k
  exact k
theorem dt_ones_0 : dt_n (bt 0) 32 = 0 := dt_n_0 fun i _ => b_0 i
theorem dt_ones_24 {x : Int32} (h : dt_S x) : dt_n (bt x) 32 = dt_n (bt x) 24 := dt_n_up (k := 24) 8 fun i a _ => h i a
/-! the first that serves -/
def dt_f (q : Nat → Bool) : Nat → Nat → Nat
  | 0, i => i
  | d + 1, i => if q i = true then i else dt_f q d (i + 1)
theorem dt_f_p {q : Nat → Bool} {d i : Nat} (h : q i = true) : dt_f q (d + 1) i = i := if_pos h
theorem dt_f_n {q : Nat → Bool} {d i : Nat} (h : q i = false) : dt_f q (d + 1) i = dt_f q d (i + 1) := if_neg (by rw [h]; decide)
theorem dt_f_sp (q : Nat → Bool) : ∀ d i, i ≤ dt_f q d i ∧ dt_f q d i ≤ i + d ∧ (dt_f q d i < i + d → q (dt_f q d i) = true) ∧ ∀ j, i ≤ j → j < dt_f q d i → q j = false
  | 0, i => ⟨Nat.le_refl _, Nat.le_refl _, fun h => absurd h (Nat.lt_irrefl _), fun j a b => absurd (Nat.lt_of_le_of_lt a b) (Nat.lt_irrefl _)⟩
  | d + 1, i => by
    cases e : q i
    · rw [dt_f_n e]
      obtain ⟨a, b, c, f⟩ := dt_f_sp q d (i + 1)
      refine ⟨by omega, by omega, fun h => c (by omega), fun j x y => ?_⟩
      by_cases z : j = i
      · rw [z, e]
      · exact f j (by omega) y
    · rw [dt_f_p e]
      exact ⟨Nat.le_refl _, by omega, fun _ => e, fun j a b => absurd (Nat.lt_of_le_of_lt a b) (Nat.lt_irrefl _)⟩
theorem dt_f_cg {q p : Nat → Bool} : ∀ {d i : Nat}, (∀ j, i ≤ j → j < i + d → q j = p j) → dt_f q d i = dt_f p d i
  | 0, _, _ => rfl
  | d + 1, i, h => by
    have k : dt_f q d (i + 1) = dt_f p d (i + 1) := dt_f_cg fun j a b => h j (by omega) (by omega)
    cases e : p i
    · rw [dt_f_n e, dt_f_n ((h i (Nat.le_refl _) (by omega)).trans e), k]
    · rw [dt_f_p e, dt_f_p ((h i (Nat.le_refl _) (by omega)).trans e)]
theorem dt_f_is {q : Nat → Bool} {d i r : Nat} (h1 : i ≤ r) (h2 : r < i + d) (h3 : q r = true) (h4 : ∀ j, i ≤ j → j < i + d → q j = true → j = r) : dt_f q d i = r := by
  obtain ⟨a, b, c, f⟩ := dt_f_sp q d i
  rcases Nat.lt_or_ge r (dt_f q d i) with z | z
  · have := f r h1 z
    rw [h3] at this
    exact absurd this (by decide)
  · exact h4 _ a (by omega) (c (by omega))
theorem dt_f_no {q : Nat → Bool} {d i : Nat} (h : ∀ j, i ≤ j → j < i + d → q j = false) : dt_f q d i = i + d := by
  obtain ⟨a, b, c, f⟩ := dt_f_sp q d i
  rcases Nat.lt_or_ge (dt_f q d i) (i + d) with z | z
  · have := c z
    rw [h _ a z] at this
    exact absurd this (by decide)
  · omega
/-! X: ones -/
theorem xd_ones_l (post : Int32 → Prop) : ∀ (d c : Nat) (x : Int32), c + d = 24 → dt_n (bt x) 32 ≤ d → post (nI (c + dt_n (bt x) 32)) → wX_ones_6 post (d + 1) (nI c) x (nI c)
  | 0, c, x, h, hx, hp => by
    have e : c = 24 := by omega
    subst e
    have z : dt_n (bt x) 32 = 0 := by omega
    rw [z] at hp
    exact br_t (nI_le (a := 24) (b := 24) (by omega) (by decide)) hp
  | d + 1, c, x, h, hx, hp => by
    refine br_f (nI_ge (b := 24) (by omega) (by decide)) (br_c (fun z => ?_) (fun z => ?_))
    · rw [z, dt_ones_0] at hp
      exact hp
    · have k := dt_ones_s x z
      refine nm_e (nm_r (nI_1 c) (nm_r (nI_1 c) ?_))
      refine xd_ones_l post d (c + 1) _ (by omega) (by omega) ?_
      rw [show c + 1 + dt_n (bt (x &&& (x - 1))) 32 = c + dt_n (bt x) 32 from by omega]
      exact hp
theorem xd_ones {post : Int32 → Prop} {x : Int32} (hx : dt_S x) (h : post (nI (dt_n (bt x) 24))) : wpX_ones post x := by
  have e := dt_ones_24 hx
  have l := dt_n_le (bt x) 24
  refine ⟨25, xd_ones_l post 24 0 x rfl (by omega) ?_⟩
  rw [e, Nat.zero_add]
  exact h
end
section
/-! the tree, pure: T who is there, p the parent, g the name, dp the depth -/
def dt_sb (p : Nat → Nat) (top : Nat) : Nat → Nat → Bool
  | 0, x => x == top
  | d + 1, x => x == top || dt_sb p top d (p x)
def dt_Tr (T : Nat → Bool) (p g dp : Nat → Nat) : Prop :=
  T 0 = true ∧ p 0 = 0 ∧ dp 0 = 0 ∧
  (∀ e, 0 < e → e < 24 → T e = true → p e < 24 ∧ T (p e) = true ∧ g e ≤ 9 ∧ dp e = dp (p e) + 1) ∧
  (∀ e, e < 24 → T e = true → dp e ≤ 23) ∧
  (∀ e f, 0 < e → e < 24 → T e = true → 0 < f → f < 24 → T f = true → p e = p f → g e = g f → e = f)
/-- x is top or below it -/
def dt_in (p : Nat → Nat) (top x : Nat) : Bool := dt_sb p top 24 x
/-- x is below top -/
def dt_bl (p : Nat → Nat) (top x : Nat) : Bool := !(x == 0) && dt_in p top (p x)
section
variable {T : Nat → Bool} {p g dp : Nat → Nat}
theorem dt_ind (H : dt_Tr T p g dp) {P : Nat → Prop} (h0 : P 0) (hs : ∀ x, 0 < x → x < 24 → T x = true → P (p x) → P x) : ∀ x, x < 24 → T x = true → P x := by
  have k : ∀ d x, dp x = d → x < 24 → T x = true → P x := by
    intro d
    induction d with
    | zero =>
      intro x e hx ht
      rcases Nat.eq_zero_or_pos x with z | z
      · rw [z]; exact h0
      · have := (H.2.2.2.1 x z hx ht).2.2.2
        omega
    | succ d ih =>
      intro x e hx ht
      rcases Nat.eq_zero_or_pos x with z | z
      · rw [z]; exact h0
      · obtain ⟨a, b, _, c⟩ := H.2.2.2.1 x z hx ht
        exact hs x z hx ht (ih (p x) (by omega) a b)
  intro x hx ht
  exact k _ x rfl hx ht
theorem dt_sb_0 (H : dt_Tr T p g dp) (top : Nat) : ∀ d, dt_sb p top d 0 = (0 == top)
  | 0 => rfl
  | d + 1 => by
    show ((0 == top) || dt_sb p top d (p 0)) = _
    rw [H.2.1, dt_sb_0 H top d, Bool.or_self]
theorem dt_sb_st (H : dt_Tr T p g dp) (top : Nat) : ∀ d x, x < 24 → T x = true → dp x ≤ d → dt_sb p top d x = dt_sb p top (dp x) x
  | 0, x, _, _, h => by rw [Nat.le_zero.mp h]
  | d + 1, x, hx, ht, h => by
    rcases Nat.eq_zero_or_pos x with z | z
    · rw [z, dt_sb_0 H, dt_sb_0 H]
    · obtain ⟨a, b, _, c⟩ := H.2.2.2.1 x z hx ht
      rw [c]
      show ((x == top) || dt_sb p top d (p x)) = ((x == top) || dt_sb p top (dp (p x)) (p x))
      rw [dt_sb_st H top d (p x) a b (by omega)]
theorem dt_in_dp (H : dt_Tr T p g dp) (top : Nat) {x : Nat} (hx : x < 24) (ht : T x = true) : dt_in p top x = dt_sb p top (dp x) x :=
  dt_sb_st H top 24 x hx ht (Nat.le_succ_of_le (H.2.2.2.2.1 x hx ht))
theorem dt_in_0 (H : dt_Tr T p g dp) (top : Nat) : dt_in p top 0 = (0 == top) := dt_sb_0 H top 24
theorem dt_in_s (H : dt_Tr T p g dp) (top : Nat) {x : Nat} (h0 : 0 < x) (hx : x < 24) (ht : T x = true) : dt_in p top x = (x == top || dt_in p top (p x)) := by
  obtain ⟨a, b, _, c⟩ := H.2.2.2.1 x h0 hx ht
  rw [dt_in_dp H top hx ht, dt_in_dp H top a b, c]
  rfl
theorem dt_in_r (x : Nat) : dt_in p x x = true := by
  show ((x == x) || _) = true
  rw [beq_self_eq_true, Bool.true_or]
theorem dt_in_root (H : dt_Tr T p g dp) : ∀ x, x < 24 → T x = true → dt_in p 0 x = true := by
  refine dt_ind H (P := fun x => dt_in p 0 x = true) ?_ ?_
  · exact dt_in_r 0
  · intro x h0 hx ht ih
    rw [dt_in_s H 0 h0 hx ht, ih, Bool.or_true]
theorem dt_in_T (H : dt_Tr T p g dp) {top : Nat} : ∀ x, x < 24 → T x = true → dt_in p top x = true → top < 24 ∧ T top = true := by
  refine dt_ind H (P := fun x => dt_in p top x = true → top < 24 ∧ T top = true) ?_ ?_
  · intro h
    rw [dt_in_0 H] at h
    have e : 0 = top := eq_of_beq h
    rw [← e]
    exact ⟨by omega, H.1⟩
  · intro x h0 hx ht ih h
    rw [dt_in_s H top h0 hx ht, Bool.or_eq_true] at h
    rcases h with h | h
    · have e : x = top := eq_of_beq h
      rw [← e]
      exact ⟨hx, ht⟩
    · exact ih h
theorem dt_bl_s {top x : Nat} (h0 : 0 < x) : dt_bl p top x = dt_in p top (p x) := by
  unfold dt_bl
  rw [show (x == 0) = false from beq_eq_false_iff_ne.mpr (by omega)]
  rfl
theorem dt_bl_0 {top : Nat} : dt_bl p top 0 = false := rfl
theorem dt_in_bl (H : dt_Tr T p g dp) (top : Nat) {x : Nat} (hx : x < 24) (ht : T x = true) : dt_in p top x = (x == top || dt_bl p top x) := by
  rcases Nat.eq_zero_or_pos x with z | z
  · rw [z, dt_in_0 H, dt_bl_0, Bool.or_false]
  · rw [dt_in_s H top z hx ht, dt_bl_s z]
end
/-! the depth, out of a rank -/
def dt_up (p : Nat → Nat) : Nat → Nat → Nat
  | 0, e => e
  | k + 1, e => dt_up p k (p e)
theorem dt_up_s (p : Nat → Nat) : ∀ k e, dt_up p (k + 1) e = p (dt_up p k e)
  | 0, _ => rfl
  | k + 1, e => dt_up_s p k (p e)
def dt_d (p : Nat → Nat) : Nat → Nat → Nat
  | 0, _ => 0
  | f + 1, e => if e = 0 then 0 else dt_d p f (p e) + 1
theorem dt_d_0 (p : Nat → Nat) : ∀ f, dt_d p f 0 = 0
  | 0 => rfl
  | _ + 1 => if_pos rfl
theorem dt_d_st (p : Nat → Nat) : ∀ k e f f', dt_up p k e = 0 → k ≤ f → k ≤ f' → dt_d p f e = dt_d p f' e ∧ dt_d p f e ≤ k
  | 0, e, f, f', h, _, _ => by
    have z : e = 0 := h
    rw [z, dt_d_0, dt_d_0]
    exact ⟨rfl, Nat.le_refl _⟩
  | k + 1, e, f + 1, f' + 1, h, h1, h2 => by
    by_cases z : e = 0
    · rw [z, dt_d_0, dt_d_0]
      exact ⟨rfl, Nat.zero_le _⟩
    · have ih := dt_d_st p k (p e) f f' h (by omega) (by omega)
      show (if e = 0 then 0 else dt_d p f (p e) + 1) = (if e = 0 then 0 else dt_d p f' (p e) + 1) ∧ (if e = 0 then 0 else dt_d p f (p e) + 1) ≤ k + 1
      rw [if_neg z, if_neg z]
      omega
  | k + 1, _, 0, _, _, h, _ => absurd h (by omega)
  | k + 1, _, _ + 1, 0, _, _, h => absurd h (by omega)
theorem dt_dep {T : Nat → Bool} {p g rk : Nat → Nat} (h0 : T 0 = true) (p0 : p 0 = 0)
    (hs : ∀ e, 0 < e → e < 24 → T e = true → p e < 24 ∧ T (p e) = true ∧ g e ≤ 9)
    (hr : ∀ e, 0 < e → e < 24 → T e = true → rk (p e) < rk e)
    (hu : ∀ e f, 0 < e → e < 24 → T e = true → 0 < f → f < 24 → T f = true → p e = p f → g e = g f → e = f) : ∃ dp, dt_Tr T p g dp := by
  have up : ∀ k e, e < 24 → T e = true → dt_up p k e < 24 ∧ T (dt_up p k e) = true := by
    intro k
    induction k with
    | zero => intro e a b; exact ⟨a, b⟩
    | succ k ih =>
      intro e a b
      rcases Nat.eq_zero_or_pos e with z | z
      · show dt_up p k (p e) < 24 ∧ T (dt_up p k (p e)) = true
        rw [z, p0]
        exact ih 0 (by omega) h0
      · have := hs e z a b
        exact ih (p e) this.1 this.2.1
  have dn : ∀ e, e < 24 → T e = true → (∀ i, i < 24 → dt_up p i e ≠ 0) → ∀ m i, i + m + 1 < 24 → rk (dt_up p (i + m + 1) e) < rk (dt_up p i e) := by
    intro e a b z m
    induction m with
    | zero =>
      intro i hi
      have u := up i e a b
      rw [Nat.add_zero, dt_up_s]
      exact hr _ (Nat.pos_of_ne_zero (z i (by omega))) u.1 u.2
    | succ m ih =>
      intro i hi
      have k1 := ih i (by omega)
      have u := up (i + m + 1) e a b
      have k2 := hr _ (Nat.pos_of_ne_zero (z (i + m + 1) (by omega))) u.1 u.2
      rw [← dt_up_s p] at k2
      exact Nat.lt_trans k2 k1
  have cA : ∀ e, e < 24 → T e = true → ∃ k, k ≤ 23 ∧ dt_up p k e = 0 := by
    intro e a b
    apply Classical.byContradiction
    intro c
    have z : ∀ i, i < 24 → dt_up p i e ≠ 0 := fun i hi hz => c ⟨i, by omega, hz⟩
    have nd : ((List.range 24).map (fun i => dt_up p i e)).Nodup := by
      show List.Pairwise _ _
      rw [List.pairwise_map]
      refine List.Pairwise.imp_of_mem ?_ (List.pairwise_lt_range (n := 24))
      intro i j hi hj hij eq
      rw [List.mem_range] at hi hj
      have k := dn e a b z (j - i - 1) i (by omega)
      rw [show i + (j - i - 1) + 1 = j from by omega, ← eq] at k
      exact Nat.lt_irrefl _ k
    have sb : ((List.range 24).map (fun i => dt_up p i e)) ⊆ List.range' 1 23 := by
      intro x hx
      rw [List.mem_map] at hx
      obtain ⟨i, hi, rfl⟩ := hx
      rw [List.mem_range] at hi
      have k1 := z i hi
      have k2 := (up i e a b).1
      rw [List.mem_range'_1]
      omega
    have l := List.Nodup.length_le_of_subset nd sb
    rw [List.length_map, List.length_range, List.length_range'] at l
    omega
  refine ⟨dt_d p 24, h0, p0, dt_d_0 p 24, ?_, ?_, hu⟩
  · intro e z a b
    obtain ⟨x, y, w⟩ := hs e z a b
    refine ⟨x, y, w, ?_⟩
    obtain ⟨k, hk, e0⟩ := cA (p e) x y
    show (if e = 0 then 0 else dt_d p 23 (p e) + 1) = _
    rw [if_neg (by omega), (dt_d_st p k (p e) 23 24 e0 hk (by omega)).1]
  · intro e a b
    obtain ⟨k, hk, e0⟩ := cA e a b
    have := (dt_d_st p k e 24 24 e0 (by omega) (by omega)).2
    omega
/-! children, and the order of entries -/
def dt_k (T : Nat → Bool) (p g : Nat → Nat) (e n : Nat) : Nat := dt_f (fun c => T c && p c == e && g c == n) 23 1
def dt_ks (k : Nat → Nat) : Nat → Nat → List Nat
  | 0, _ => []
  | d + 1, n => if k n < 24 then k n :: dt_ks k d (n + 1) else dt_ks k d (n + 1)
def dt_kd (T : Nat → Bool) (p g : Nat → Nat) (e : Nat) : List Nat := dt_ks (dt_k T p g e) 10 0
def dt_R (T : Nat → Bool) (p g : Nat → Nat) : Nat → Nat → List Nat
  | 0, _ => []
  | d + 1, e => dt_ks (dt_k T p g (p e)) (9 - g e) (g e + 1) ++ dt_R T p g d (p e)
def dt_run (K : Nat → List Nat) : Nat → List Nat → List Nat
  | 0, _ => []
  | _ + 1, [] => []
  | f + 1, e :: r => e :: dt_run K f (K e ++ r)
def dt_ol (T : Nat → Bool) (p g : Nat → Nat) : List Nat := dt_run (dt_kd T p g) 24 [0]
theorem dt_ks_t {k : Nat → Nat} {d n : Nat} (h : k n < 24) : dt_ks k (d + 1) n = k n :: dt_ks k d (n + 1) := if_pos h
theorem dt_ks_f {k : Nat → Nat} {d n : Nat} (h : ¬ k n < 24) : dt_ks k (d + 1) n = dt_ks k d (n + 1) := if_neg h
section
variable {T : Nat → Bool} {p g dp : Nat → Nat}
theorem dt_k_le (e n : Nat) : dt_k T p g e n ≤ 24 := (dt_f_sp _ 23 1).2.1
theorem dt_k_sp {e n : Nat} (h : dt_k T p g e n < 24) : 0 < dt_k T p g e n ∧ T (dt_k T p g e n) = true ∧ p (dt_k T p g e n) = e ∧ g (dt_k T p g e n) = n := by
  have s := dt_f_sp (fun c => T c && p c == e && g c == n) 23 1
  have k := s.2.2.1 h
  rw [Bool.and_eq_true, Bool.and_eq_true, beq_iff_eq, beq_iff_eq] at k
  exact ⟨s.1, k.1.1, k.1.2, k.2⟩
theorem dt_k_is (H : dt_Tr T p g dp) {c : Nat} (h0 : 0 < c) (hc : c < 24) (ht : T c = true) : dt_k T p g (p c) (g c) = c := by
  apply dt_f_is h0 (by omega)
  · rw [Bool.and_eq_true, Bool.and_eq_true, beq_iff_eq, beq_iff_eq]
    exact ⟨⟨ht, rfl⟩, rfl⟩
  · intro j a b q
    rw [Bool.and_eq_true, Bool.and_eq_true, beq_iff_eq, beq_iff_eq] at q
    exact H.2.2.2.2.2 j c a (by omega) q.1.1 h0 hc ht q.1.2 q.2
theorem dt_ks_mem {k : Nat → Nat} {c : Nat} : ∀ d n, c ∈ dt_ks k d n ↔ c < 24 ∧ ∃ m, n ≤ m ∧ m < n + d ∧ k m = c
  | 0, n => ⟨fun h => absurd h List.not_mem_nil, fun ⟨_, m, a, b, _⟩ => absurd b (by omega)⟩
  | d + 1, n => by
    have ih := dt_ks_mem (k := k) (c := c) d (n + 1)
    by_cases z : k n < 24
    · rw [dt_ks_t z, List.mem_cons, ih]
      constructor
      · rintro (rfl | ⟨a, m, b, x, y⟩)
        · exact ⟨z, n, Nat.le_refl _, by omega, rfl⟩
        · exact ⟨a, m, by omega, by omega, y⟩
      · rintro ⟨a, m, b, x, y⟩
        by_cases q : m = n
        · exact Or.inl (by rw [← y, q])
        · exact Or.inr ⟨a, m, by omega, by omega, y⟩
    · rw [dt_ks_f z, ih]
      constructor
      · rintro ⟨a, m, b, x, y⟩
        exact ⟨a, m, by omega, by omega, y⟩
      · rintro ⟨a, m, b, x, y⟩
        refine ⟨a, m, ?_, by omega, y⟩
        by_cases q : m = n
        · rw [q] at y
          omega
        · omega
theorem dt_kd_mem (H : dt_Tr T p g dp) {e c : Nat} : c ∈ dt_kd T p g e ↔ 0 < c ∧ c < 24 ∧ T c = true ∧ p c = e := by
  unfold dt_kd
  rw [dt_ks_mem]
  constructor
  · rintro ⟨a, m, _, _, rfl⟩
    have s := dt_k_sp a
    exact ⟨s.1, a, s.2.1, s.2.2.1⟩
  · rintro ⟨a, b, c', rfl⟩
    have s := H.2.2.2.1 c a b c'
    exact ⟨b, g c, Nat.zero_le _, by omega, dt_k_is H a b c'⟩
theorem dt_ks_pw {k : Nat → Nat} (hk : ∀ m, k m < 24 → g (k m) = m) : ∀ d n, (dt_ks k d n).Pairwise (fun a b => g a < g b)
  | 0, _ => List.Pairwise.nil
  | d + 1, n => by
    have ih := dt_ks_pw hk d (n + 1)
    by_cases z : k n < 24
    · rw [dt_ks_t z, List.pairwise_cons]
      refine ⟨fun b hb => ?_, ih⟩
      obtain ⟨b1, m, b2, b3, rfl⟩ := (dt_ks_mem d (n + 1)).mp hb
      rw [hk n z, hk m b1]
      omega
    · rw [dt_ks_f z]
      exact ih
theorem dt_kd_nd (e : Nat) : (dt_kd T p g e).Nodup :=
  (dt_ks_pw (g := g) (fun _ h => (dt_k_sp h).2.2.2) 10 0).imp (fun h z => by rw [z] at h; exact Nat.lt_irrefl _ h)
theorem dt_ks_hd {k : Nat → Nat} (hk : ∀ m, k m < 24 → g (k m) = m) {c : Nat} {l : List Nat} : ∀ d n, n + d = 10 → dt_ks k d n = c :: l → c < 24 ∧ (∃ m, k m = c) ∧ l = dt_ks k (9 - g c) (g c + 1)
  | 0, _, _, h => absurd h (by intro z; cases z)
  | d + 1, n, hd, h => by
    by_cases z : k n < 24
    · rw [dt_ks_t z] at h
      injection h with h1 h2
      subst h1
      refine ⟨z, ⟨n, rfl⟩, ?_⟩
      rw [hk n z, ← h2, show 9 - n = d from by omega]
    · rw [dt_ks_f z] at h
      exact dt_ks_hd hk d (n + 1) (by omega) h
/-- brothers with a name from n on: the head, and the rest -/
theorem dt_br (H : dt_Tr T p g dp) {e c n d : Nat} {l : List Nat} (hd : n + d = 10) (h : dt_ks (dt_k T p g e) d n = c :: l) : 0 < c ∧ c < 24 ∧ T c = true ∧ p c = e ∧ dp c = dp e + 1 ∧ l ++ dt_R T p g (dp e) e = dt_R T p g (dp c) c := by
  obtain ⟨a, ⟨m, hm⟩, b⟩ := dt_ks_hd (g := g) (fun _ h => (dt_k_sp h).2.2.2) d n hd h
  subst hm
  have s := dt_k_sp a
  have t := H.2.2.2.1 _ s.1 a s.2.1
  have t4 := t.2.2.2
  rw [s.2.2.1] at t4
  refine ⟨s.1, a, s.2.1, s.2.2.1, t4, ?_⟩
  rw [t4, b]
  show _ = dt_ks (dt_k T p g (p (dt_k T p g e m))) _ _ ++ dt_R T p g (dp e) (p (dt_k T p g e m))
  rw [s.2.2.1]
theorem dt_R_hd (H : dt_Tr T p g dp) : ∀ x, x < 24 → T x = true → ∀ c l, dt_R T p g (dp x) x = c :: l → 0 < c ∧ c < 24 ∧ T c = true ∧ l = dt_R T p g (dp c) c := by
  refine dt_ind H (P := fun x => ∀ c l, dt_R T p g (dp x) x = c :: l → 0 < c ∧ c < 24 ∧ T c = true ∧ l = dt_R T p g (dp c) c) ?_ ?_
  · intro c l h
    rw [H.2.2.1] at h
    exact absurd h (by intro z; cases z)
  · intro x h0 hx ht ih c l h
    have t := H.2.2.2.1 x h0 hx ht
    rw [t.2.2.2] at h
    have h' : dt_ks (dt_k T p g (p x)) (9 - g x) (g x + 1) ++ dt_R T p g (dp (p x)) (p x) = c :: l := h
    cases q : dt_ks (dt_k T p g (p x)) (9 - g x) (g x + 1) with
    | nil =>
      rw [q] at h'
      exact ih c l h'
    | cons c' l' =>
      rw [q] at h'
      injection h' with h1 h2
      subst h1
      obtain ⟨a, b, b', _, _, f⟩ := dt_br H (by omega) q
      exact ⟨a, b, b', by rw [← h2]; exact f⟩
/-- what is to come behind x -/
theorem dt_st_hd (H : dt_Tr T p g dp) {x : Nat} (hx : x < 24) (ht : T x = true) {c : Nat} {l : List Nat} (h : dt_kd T p g x ++ dt_R T p g (dp x) x = c :: l) : c < 24 ∧ T c = true ∧ l = dt_R T p g (dp c) c := by
  cases q : dt_kd T p g x with
  | nil =>
    rw [q] at h
    exact (dt_R_hd H x hx ht c l h).2
  | cons c' l' =>
    rw [q] at h
    injection h with h1 h2
    subst h1
    obtain ⟨_, b, b', _, _, f⟩ := dt_br H (n := 0) (d := 10) rfl q
    exact ⟨b, b', by rw [← h2]; exact f⟩
theorem dt_in_kd (H : dt_Tr T p g dp) {e : Nat} : ∀ x, x < 24 → T x = true → dt_in p e x = true → x = e ∨ ∃ c, c ∈ dt_kd T p g e ∧ dt_in p c x = true := by
  refine dt_ind H (P := fun x => dt_in p e x = true → x = e ∨ ∃ c, c ∈ dt_kd T p g e ∧ dt_in p c x = true) ?_ ?_
  · intro h
    rw [dt_in_0 H] at h
    exact Or.inl (eq_of_beq h)
  · intro x h0 hx ht ih h
    rw [dt_in_s H e h0 hx ht, Bool.or_eq_true] at h
    rcases h with h | h
    · exact Or.inl (eq_of_beq h)
    · right
      rcases ih h with k | ⟨c, a, b⟩
      · exact ⟨x, (dt_kd_mem H).mpr ⟨h0, hx, ht, k⟩, dt_in_r x⟩
      · refine ⟨c, a, ?_⟩
        rw [dt_in_s H c h0 hx ht, b, Bool.or_true]
def dt_Iv (T : Nat → Bool) (p : Nat → Nat) (out st : List Nat) : Prop :=
  (out ++ st).Nodup ∧ (∀ x, x ∈ out ++ st → x < 24 ∧ T x = true) ∧ (∀ x, x ∈ out ++ st → x ≠ 0 → p x ∈ out) ∧
  (∀ x, x < 24 → T x = true → x ∈ out ∨ ∃ s, s ∈ st ∧ dt_in p s x = true) ∧
  (∀ i, i < out.length → out.getD i 0 ≠ 0 → ∃ j, j < i ∧ out.getD j 0 = p (out.getD i 0))
theorem dt_Iv_0 (H : dt_Tr T p g dp) : dt_Iv T p [] [0] := by
  refine ⟨?_, ?_, ?_, ?_, ?_⟩
  · show ([0] : List Nat).Nodup
    exact List.nodup_cons.mpr ⟨List.not_mem_nil, List.nodup_nil⟩
  · intro x hx
    have e : x = 0 := List.mem_singleton.mp hx
    rw [e]
    exact ⟨by omega, H.1⟩
  · intro x hx hn
    exact absurd (List.mem_singleton.mp hx) hn
  · intro x hx ht
    exact Or.inr ⟨0, List.mem_singleton.mpr rfl, dt_in_root H x hx ht⟩
  · intro i hi
    exact absurd hi (Nat.not_lt_zero _)
theorem dt_gl {l : List Nat} {i x : Nat} (h : i < l.length) : (l ++ [x]).getD i 0 = l.getD i 0 := by
  rw [List.getD_eq_getElem?_getD, List.getD_eq_getElem?_getD, List.getElem?_append_left h]
theorem dt_gr {l : List Nat} {x : Nat} : (l ++ [x]).getD l.length 0 = x := by
  rw [List.getD_eq_getElem?_getD, List.getElem?_append_right (Nat.le_refl _), Nat.sub_self]
  rfl
theorem dt_gm {l : List Nat} {i : Nat} (h : i < l.length) : l.getD i 0 ∈ l := by
  rw [List.getD_eq_getElem?_getD, List.getElem?_eq_getElem h]
  exact List.getElem_mem h
theorem dt_gx {l : List Nat} {x : Nat} (h : x ∈ l) : ∃ i, i < l.length ∧ l.getD i 0 = x := by
  obtain ⟨i, hi, e⟩ := List.mem_iff_getElem.mp h
  refine ⟨i, hi, ?_⟩
  rw [List.getD_eq_getElem?_getD, List.getElem?_eq_getElem hi, e]
  rfl
theorem dt_Iv_s (H : dt_Tr T p g dp) {out r : List Nat} {e : Nat} (I : dt_Iv T p out (e :: r)) : dt_Iv T p (out ++ [e]) (dt_kd T p g e ++ r) := by
  obtain ⟨i1, i2, i3, i4, i5⟩ := I
  have he : e ∈ out ++ e :: r := List.mem_append_right _ List.mem_cons_self
  have eo : e ∉ out := by
    intro h
    exact (List.pairwise_append.mp i1).2.2 e h e List.mem_cons_self rfl
  have new : ∀ c, c ∈ dt_kd T p g e → c ∉ out ++ e :: r := by
    intro c hc hm
    have k := (dt_kd_mem H).mp hc
    have := i3 c hm (by omega)
    rw [k.2.2.2] at this
    exact eo this
  have as : (out ++ [e]) ++ (dt_kd T p g e ++ r) = out ++ (e :: (dt_kd T p g e ++ r)) := by
    rw [List.append_assoc]
    rfl
  have mem : ∀ x, x ∈ out ++ (e :: (dt_kd T p g e ++ r)) → x ∈ out ++ e :: r ∨ x ∈ dt_kd T p g e := by
    intro x hx
    rw [List.mem_append, List.mem_cons, List.mem_append] at hx
    rw [List.mem_append, List.mem_cons]
    rcases hx with h | h | h | h
    · exact Or.inl (Or.inl h)
    · exact Or.inl (Or.inr (Or.inl h))
    · exact Or.inr h
    · exact Or.inl (Or.inr (Or.inr h))
  refine ⟨?_, ?_, ?_, ?_, ?_⟩
  · rw [as]
    obtain ⟨n1, n2, n3⟩ := List.pairwise_append.mp i1
    obtain ⟨n4, n5⟩ := List.pairwise_cons.mp n2
    refine List.pairwise_append.mpr ⟨n1, List.pairwise_cons.mpr ⟨?_, List.pairwise_append.mpr ⟨dt_kd_nd e, n5, ?_⟩⟩, ?_⟩
    · intro b hb
      rcases List.mem_append.mp hb with h | h
      · intro z
        exact new b h (by rw [← z]; exact he)
      · exact n4 b h
    · intro a ha b hb z
      rw [z] at ha
      exact new b ha (List.mem_append_right _ (List.mem_cons_of_mem _ hb))
    · intro a ha b hb
      rcases List.mem_cons.mp hb with h | h
      · rw [h]
        exact n3 a ha e List.mem_cons_self
      · rcases List.mem_append.mp h with h | h
        · intro z
          rw [← z] at h
          exact new a h (List.mem_append_left _ ha)
        · exact n3 a ha b (List.mem_cons_of_mem _ h)
  · intro x hx
    rw [as] at hx
    rcases mem x hx with h | h
    · exact i2 x h
    · have k := (dt_kd_mem H).mp h
      exact ⟨k.2.1, k.2.2.1⟩
  · intro x hx hn
    rw [as] at hx
    rcases mem x hx with h | h
    · exact List.mem_append_left _ (i3 x h hn)
    · rw [((dt_kd_mem H).mp h).2.2.2]
      exact List.mem_append_right _ (List.mem_singleton.mpr rfl)
  · intro x hx ht
    rcases i4 x hx ht with h | ⟨s, hs, h⟩
    · exact Or.inl (List.mem_append_left _ h)
    · rcases List.mem_cons.mp hs with z | z
      · rw [z] at h
        rcases dt_in_kd H x hx ht h with k | ⟨c, a, b⟩
        · left
          rw [k]
          exact List.mem_append_right _ (List.mem_singleton.mpr rfl)
        · exact Or.inr ⟨c, List.mem_append_left _ a, b⟩
      · exact Or.inr ⟨s, List.mem_append_right _ z, h⟩
  · intro i hi hn
    rw [List.length_append, List.length_singleton] at hi
    rcases Nat.lt_or_ge i out.length with z | z
    · rw [dt_gl z] at hn
      obtain ⟨j, a, b⟩ := i5 i z hn
      refine ⟨j, a, ?_⟩
      rw [dt_gl z, dt_gl (by omega), b]
    · have e' : i = out.length := by omega
      subst e'
      rw [dt_gr] at hn
      obtain ⟨j, a, b⟩ := dt_gx (i3 e he hn)
      refine ⟨j, a, ?_⟩
      rw [dt_gr, dt_gl a, b]
theorem dt_Iv_len {out st : List Nat} (I : dt_Iv T p out st) : out.length + st.length ≤ 24 := by
  have l := List.Nodup.length_le_of_subset I.1 (l₂ := List.range 24) (fun x hx => List.mem_range.mpr (I.2.1 x hx).1)
  rw [List.length_append, List.length_range] at l
  exact l
theorem dt_run_iv (H : dt_Tr T p g dp) : ∀ f out st, dt_Iv T p out st → out.length + f = 24 → dt_Iv T p (out ++ dt_run (dt_kd T p g) f st) []
  | 0, out, st, I, h => by
    have l := dt_Iv_len I
    have z : st = [] := List.eq_nil_of_length_eq_zero (by omega)
    subst z
    show dt_Iv T p (out ++ []) []
    rw [List.append_nil]
    exact I
  | f + 1, out, [], I, _ => by
    show dt_Iv T p (out ++ []) []
    rw [List.append_nil]
    exact I
  | f + 1, out, e :: r, I, h => by
    have k := dt_run_iv H f (out ++ [e]) (dt_kd T p g e ++ r) (dt_Iv_s H I) (by rw [List.length_append, List.length_singleton]; omega)
    rw [List.append_assoc] at k
    exact k
theorem dt_ol_iv (H : dt_Tr T p g dp) : dt_Iv T p (dt_ol T p g) [] := dt_run_iv H 24 [] [0] (dt_Iv_0 H) rfl
theorem dt_ol_mem (H : dt_Tr T p g dp) {x : Nat} : x ∈ dt_ol T p g ↔ x < 24 ∧ T x = true := by
  have I := dt_ol_iv H
  constructor
  · intro h
    exact I.2.1 x (List.mem_append_left _ h)
  · intro h
    rcases I.2.2.2.1 x h.1 h.2 with k | ⟨s, k, _⟩
    · exact k
    · exact absurd k List.not_mem_nil
theorem dt_ol_nd (H : dt_Tr T p g dp) : (dt_ol T p g).Nodup := by
  have I := (dt_ol_iv H).1
  rw [List.append_nil] at I
  exact I
theorem dt_ol_le (H : dt_Tr T p g dp) : (dt_ol T p g).length ≤ 24 := dt_Iv_len (dt_ol_iv H)
theorem dt_ol_pb (H : dt_Tr T p g dp) : ∀ i, i < (dt_ol T p g).length → (dt_ol T p g).getD i 0 ≠ 0 → ∃ j, j < i ∧ (dt_ol T p g).getD j 0 = p ((dt_ol T p g).getD i 0) := (dt_ol_iv H).2.2.2.2
theorem dt_ol_0 : (dt_ol T p g).getD 0 0 = 0 ∧ 0 < (dt_ol T p g).length := ⟨rfl, Nat.succ_pos _⟩
theorem dt_ol_inj (H : dt_Tr T p g dp) {i j : Nat} (hi : i < (dt_ol T p g).length) (hj : j < (dt_ol T p g).length) (h : (dt_ol T p g).getD i 0 = (dt_ol T p g).getD j 0) : i = j := by
  rw [List.getD_eq_getElem?_getD, List.getElem?_eq_getElem hi, List.getD_eq_getElem?_getD, List.getElem?_eq_getElem hj] at h
  have h' : (dt_ol T p g)[i] = (dt_ol T p g)[j] := h
  have k := dt_ol_nd H
  rcases Nat.lt_trichotomy i j with z | z | z
  · exact absurd h' (List.pairwise_iff_getElem.mp k i j hi hj z)
  · exact z
  · exact absurd h'.symm (List.pairwise_iff_getElem.mp k j i hj hi z)
theorem dt_rg (q : Nat → Bool) : ∀ k, (List.range k).countP q = dt_n q k
  | 0 => rfl
  | k + 1 => by
    rw [List.range_succ, List.countP_append, dt_rg q k, List.countP_singleton]
    rfl
theorem dt_ol_ct (H : dt_Tr T p g dp) (q : Nat → Bool) : (dt_ol T p g).countP q = dt_n (fun x => q x && T x) 24 := by
  have pm : (dt_ol T p g).Perm ((List.range 24).filter T) := (List.perm_ext_iff_of_nodup (dt_ol_nd H) (List.Pairwise.filter T List.nodup_range)).mpr (fun a => by
    rw [dt_ol_mem H, List.mem_filter, List.mem_range])
  rw [pm.countP_eq, List.countP_filter, dt_rg]
theorem dt_ol_len (H : dt_Tr T p g dp) : (dt_ol T p g).length = dt_n T 24 := by
  have k := dt_ol_ct H (fun _ => true)
  rw [List.countP_true] at k
  rw [k]
  exact dt_n_cg fun i _ => Bool.true_and _
end
end
section
/-! X: entries, children, the order -/
def dt_q (T : Nat → Bool) (pa na : Nat → Int32) (x y : Int32) (e : Nat) : Bool := T e && (pa e == x) && (na e == y)
theorem dt_q_i {T : Nat → Bool} {pa na : Nat → Int32} {x y : Int32} {e : Nat} : dt_q T pa na x y e = true ↔ T e = true ∧ pa e = x ∧ na e = y := by
  unfold dt_q
  rw [Bool.and_eq_true, Bool.and_eq_true, beq_iff_eq, beq_iff_eq, and_assoc]
theorem dt_q_n {T : Nat → Bool} {pa na : Nat → Int32} {x y : Int32} {e : Nat} (h : ¬ (T e = true ∧ pa e = x ∧ na e = y)) : dt_q T pa na x y e = false := by
  cases z : dt_q T pa na x y e
  · rfl
  · exact absurd (dt_q_i.mp z) h
def dt_c (T : Nat → Bool) (pa na : Nat → Int32) (x y : Int32) : Nat := dt_f (dt_q T pa na x y) 23 1
theorem dt_c_le {T : Nat → Bool} {pa na : Nat → Int32} {x y : Int32} : dt_c T pa na x y ≤ 24 := (dt_f_sp _ 23 1).2.1
def dt_p (f : Nat → Int32) (e : Nat) : Nat := (f e).toNatClampNeg
theorem dt_m1 : ¬ (0 : Int32) ≤ -1 := by decide
theorem dt_m1' : (-1 : Int32) < 0 := by decide
def dt_hd : List Nat → Int32
  | [] => -1
  | e :: _ => nI e
theorem dt_beq {a b : Nat} (ha : a < 2 ^ 31) (hb : b < 2 ^ 31) : (nI a == nI b) = (a == b) := by
  rw [Bool.eq_iff_iff, beq_iff_eq, beq_iff_eq]
  exact nI_eq ha hb
/-- the tree over the arrays -/
def rl_T (T : Nat → Bool) (pa na cl : Nat → Int32) : Prop :=
  T 0 = true ∧ pa 0 = -1 ∧
  (∀ e, 0 < e → e < 24 → T e = true → pa e = nI (dt_p pa e) ∧ dt_p pa e < 24 ∧ T (dt_p pa e) = true ∧ na e = nI (dt_p na e) ∧ dt_p na e ≤ 9) ∧
  (∀ e, e < 24 → T e = true → cl e = nI (dt_p cl e) ∧ dt_p cl e < 4) ∧
  (∀ e f, 0 < e → e < 24 → T e = true → 0 < f → f < 24 → T f = true → pa e = pa f → na e = na f → e = f) ∧
  ∃ rk : Nat → Nat, ∀ e, 0 < e → e < 24 → T e = true → rk (dt_p pa e) < rk e
theorem rl_T_dp {T : Nat → Bool} {pa na cl : Nat → Int32} (h : rl_T T pa na cl) : ∃ dp, dt_Tr T (dt_p pa) (dt_p na) dp := by
  obtain ⟨h0, h1, h2, _, h3, rk, h4⟩ := h
  refine dt_dep (rk := rk) h0 ?_ (fun e a b c => ?_) h4 (fun e f a b c a' b' c' x y => ?_)
  · unfold dt_p
    rw [h1]
    decide
  · have k := h2 e a b c
    exact ⟨k.2.1, k.2.2.1, k.2.2.2.2⟩
  · have k := h2 e a b c
    have k' := h2 f a' b' c'
    exact h3 e f a b c a' b' c' (by rw [k.1, k'.1, x]) (by rw [k.2.2.2.1, k'.2.2.2.1, y])
theorem rl_T_k {T : Nat → Bool} {pa na cl : Nat → Int32} (h : rl_T T pa na cl) {e n : Nat} (he : e < 24) (hn : n < 24) : dt_c T pa na (nI e) (nI n) = dt_k T (dt_p pa) (dt_p na) e n := by
  apply dt_f_cg
  intro j a b
  unfold dt_q
  cases z : T j
  · rfl
  · obtain ⟨k1, k2, _, k3, k4⟩ := h.2.2.1 j a (by omega) z
    rw [k1, k3, dt_beq (by omega) (by omega), dt_beq (by omega) (by omega)]
section
variable {th od mn ix tk hg de : Int32} {pa na cl al so bl ia ik iv ho ki ta nu sp tr un : Nat → Int32}
theorem xd_isEntry_t {post : Int32 → Prop} {e : Nat} (he : e < 24) (hb : bt th e = true) (h : post 1) : wpX_isEntry post (th, od, mn, ix, tk, hg, de, pa, na, cl, al, so, bl, ia, ik, iv, ho, ki, ta, nu, sp, tr, un) (nI e) :=
  br_f (nI_pos (by omega)) (br_f (nI_ge (b := 24) he (by decide)) (br_t ((dt_t th (by omega)).mpr hb) h))
theorem xd_isEntry_f {post : Int32 → Prop} {x : Int32} (hn : ∀ e, e < 24 → x = nI e → bt th e = false) (h : post 0) : wpX_isEntry post (th, od, mn, ix, tk, hg, de, pa, na, cl, al, so, bl, ia, ik, iv, ho, ki, ta, nu, sp, tr, un) x := by
  by_cases z : x < 0
  · exact br_t z h
  · obtain ⟨j, hj, rfl⟩ := nI_of z
    rcases Nat.lt_or_ge j 24 with l | l
    · refine br_f z (br_f (nI_ge (b := 24) l (by decide)) (br_f (fun c => ?_) h))
      have c' := (dt_t th (by omega)).mp c
      rw [hn j l rfl] at c'
      exact absurd c' (by decide)
    · exact br_f z (br_t (nI_le (a := 24) l hj) h)
theorem xd_childOf_l {post : Int32 → Prop} {x y : Int32} : ∀ d i, i + d = 24 → (dt_f (dt_q (bt th) pa na x y) d i < 24 → post (nI (dt_f (dt_q (bt th) pa na x y) d i))) → (dt_f (dt_q (bt th) pa na x y) d i = 24 → post (-1)) → wX_childOf_2 post x y th od mn ix tk hg de pa na cl al so bl ia ik iv ho ki ta nu sp tr un (d + 1) (nI i)
  | 0, i, h, _, h2 => by
    have e : i = 24 := by omega
    subst e
    exact br_t (nI_le (a := 24) (b := 24) (by omega) (by decide)) (h2 rfl)
  | d + 1, i, h, h1, h2 => by
    have go : ¬ (bt th i = true ∧ pa i = x ∧ na i = y) → wX_childOf_2 post x y th od mn ix tk hg de pa na cl al so bl ia ik iv ho ki ta nu sp tr un (d + 1) (nI (i + 1)) := fun z => by
      rw [dt_f_n (dt_q_n z)] at h1 h2
      exact xd_childOf_l d (i + 1) (by omega) h1 h2
    have ci : (nI i).toNatClampNeg = i := nI_clamp (by omega)
    have hi : vp_in (nI i) 24 := vp_in_nI (by omega) (by decide)
    refine br_f (nI_ge (b := 24) (by omega) (by decide)) (br_c (fun a => ⟨hi, br_c (fun b => ⟨hi, br_c (fun c => ?_) (fun c => nm_r (nI_1 i) (go ?_))⟩) (fun b => nm_r (nI_1 i) (go ?_))⟩) (fun a => nm_r (nI_1 i) (go ?_)))
    · rw [ci] at b c
      have q : dt_q (bt th) pa na x y i = true := dt_q_i.mpr ⟨(dt_t th (by omega)).mp a, b, c⟩
      rw [dt_f_p q] at h1
      exact h1 (by omega)
    · rw [ci] at c
      exact fun z => c z.2.2
    · rw [ci] at b
      exact fun z => b z.2.1
    · exact fun z => a ((dt_t th (by omega)).mpr z.1)
theorem xd_childOf {post : Int32 → Prop} {x y : Int32} (h1 : dt_c (bt th) pa na x y < 24 → post (nI (dt_c (bt th) pa na x y))) (h2 : dt_c (bt th) pa na x y = 24 → post (-1)) : wpX_childOf post (th, od, mn, ix, tk, hg, de, pa, na, cl, al, so, bl, ia, ik, iv, ho, ki, ta, nu, sp, tr, un) x y :=
  ⟨24, xd_childOf_l 23 1 rfl h1 h2⟩
theorem xd_childFrom_l (H : rl_T (bt th) pa na cl) {post : Int32 → Prop} {e : Nat} (he : e < 24) : ∀ d m, m + d = 10 → post (dt_hd (dt_ks (dt_k (bt th) (dt_p pa) (dt_p na) e) d m)) → wX_childFrom_2 post (nI e) th od mn ix tk hg de pa na cl al so bl ia ik iv ho ki ta nu sp tr un (d + 1) (nI m)
  | 0, m, h, hp => by
    have z : m = 10 := by omega
    subst z
    exact br_t (nI_le (a := 10) (b := 10) (by omega) (by decide)) hp
  | d + 1, m, h, hp => by
    have k := rl_T_k H (n := m) he (by omega)
    refine br_f (nI_ge (b := 10) (by omega) (by decide)) (xd_childOf (fun a => ?_) (fun a => ?_))
    · rw [k] at a ⊢
      rw [dt_ks_t a] at hp
      exact br_f (nI_pos (by omega)) hp
    · rw [k] at a
      rw [dt_ks_f (by omega)] at hp
      exact br_t dt_m1' (nm_r (nI_1 m) (xd_childFrom_l H he d (m + 1) (by omega) hp))
theorem xd_childFrom (H : rl_T (bt th) pa na cl) {post : Int32 → Prop} {e m : Nat} (he : e < 24) (hm : m ≤ 10) (hp : post (dt_hd (dt_ks (dt_k (bt th) (dt_p pa) (dt_p na) e) (10 - m) m))) : wpX_childFrom post (th, od, mn, ix, tk, hg, de, pa, na, cl, al, so, bl, ia, ik, iv, ho, ki, ta, nu, sp, tr, un) (nI e) (nI m) :=
  ⟨10 - m + 1, xd_childFrom_l H he (10 - m) m (by omega) hp⟩
theorem xd_fol_l (H : rl_T (bt th) pa na cl) {dp : Nat → Nat} (D : dt_Tr (bt th) (dt_p pa) (dt_p na) dp) {post : Int32 → Prop} : ∀ k x i, dp x = k → x < 24 → bt th x = true → i + k ≤ 23 → post (dt_hd (dt_R (bt th) (dt_p pa) (dt_p na) k x)) → wX_following_12 post th od mn ix tk hg de pa na cl al so bl ia ik iv ho ki ta nu sp tr un (k + 2) (-1) (nI x) (nI i)
  | 0, x, i, hk, hx, ht, hi, hp => by
    have z : x = 0 := by
      rcases Nat.eq_zero_or_pos x with z | z
      · exact z
      · have := (D.2.2.2.1 x z hx ht).2.2.2
        omega
    subst z
    exact br_f (nI_ge (b := 24) (by omega) (by decide)) (br_f dt_m1 (br_t (nI_le (a := 0) (b := 0) (by omega) (by decide)) hp))
  | k + 1, x, i, hk, hx, ht, hi, hp => by
    have z : 0 < x := by
      rcases Nat.eq_zero_or_pos x with z | z
      · rw [z, D.2.2.1] at hk
        omega
      · exact z
    obtain ⟨t1, t2, t3, t4, t5⟩ := H.2.2.1 x z hx ht
    have d4 := (D.2.2.2.1 x z hx ht).2.2.2
    have ci : (nI x).toNatClampNeg = x := nI_clamp (by omega)
    have vi : vp_in (nI x) 24 := vp_in_nI hx (by decide)
    have e1 : pa (nI x).toNatClampNeg = nI (dt_p pa x) := by rw [ci]; exact t1
    have e2 : na (nI x).toNatClampNeg + 1 = nI (dt_p na x + 1) := by rw [ci, t4]; exact nI_1 _
    refine br_f (nI_ge (b := 24) (by omega) (by decide)) (br_f dt_m1 (br_f (nI_nle z (by omega)) ⟨vi, vi, ?_⟩))
    rw [e1, e2]
    refine xd_childFrom H t2 (by omega) ⟨vi, nm_e (nm_r (nI_1 i) ?_)⟩
    have hp' : post (dt_hd (dt_ks (dt_k (bt th) (dt_p pa) (dt_p na) (dt_p pa x)) (9 - dt_p na x) (dt_p na x + 1) ++ dt_R (bt th) (dt_p pa) (dt_p na) k (dt_p pa x))) := hp
    rw [show 10 - (dt_p na x + 1) = 9 - dt_p na x from by omega]
    cases q : dt_ks (dt_k (bt th) (dt_p pa) (dt_p na) (dt_p pa x)) (9 - dt_p na x) (dt_p na x + 1) with
    | nil =>
      rw [q] at hp'
      exact xd_fol_l H D k (dt_p pa x) (i + 1) (by omega) t2 t3 (by omega) hp'
    | cons c l =>
      rw [q] at hp'
      have c24 := (dt_br D (by omega) q).2.1
      exact br_f (nI_ge (b := 24) (by omega) (by decide)) (br_t (nI_pos' (by omega)) hp')
theorem xd_following (H : rl_T (bt th) pa na cl) {dp : Nat → Nat} (D : dt_Tr (bt th) (dt_p pa) (dt_p na) dp) {post : Int32 → Prop} {x : Nat} (hx : x < 24) (ht : bt th x = true) (hp : post (dt_hd (dt_kd (bt th) (dt_p pa) (dt_p na) x ++ dt_R (bt th) (dt_p pa) (dt_p na) (dp x) x))) : wpX_following post (th, od, mn, ix, tk, hg, de, pa, na, cl, al, so, bl, ia, ik, iv, ho, ki, ta, nu, sp, tr, un) (nI x) := by
  have dl := D.2.2.2.2.1 x hx ht
  refine xd_childFrom H (m := 0) hx (by omega) ?_
  show ∃ n12 : Nat, wX_following_12 post th od mn ix tk hg de pa na cl al so bl ia ik iv ho ki ta nu sp tr un n12 (dt_hd (dt_kd (bt th) (dt_p pa) (dt_p na) x)) (nI x) 0
  cases q : dt_kd (bt th) (dt_p pa) (dt_p na) x with
  | nil =>
    rw [q] at hp
    exact ⟨dp x + 2, xd_fol_l H D (dp x) x 0 rfl hx ht (by omega) hp⟩
  | cons c l =>
    rw [q] at hp
    have c24 := (dt_br D (n := 0) (d := 10) rfl q).2.1
    exact ⟨1, br_f (nI_ge (a := 0) (b := 24) (by omega) (by decide)) (br_t (nI_pos' (by omega)) hp)⟩
end
end
section
/-! the sets of those below, as they are gathered from the end of the order -/
def dt_B (T : Nat → Bool) (p : Nat → Nat) (L : List Nat) (j x y : Nat) : Prop :=
  y < 24 ∧ T y = true ∧ ∃ i, j ≤ i ∧ i < L.length ∧ 0 < L.getD i 0 ∧ p (L.getD i 0) = x ∧ dt_in p (L.getD i 0) y = true
section
variable {T : Nat → Bool} {p g dp : Nat → Nat}
theorem dt_in_tr (H : dt_Tr T p g dp) {c : Nat} (hc : 0 < c) : ∀ y, y < 24 → T y = true → dt_in p c y = true → 0 < y ∧ dt_in p (p c) (p y) = true ∧ dt_in p (p c) y = true := by
  refine dt_ind H (P := fun y => dt_in p c y = true → 0 < y ∧ dt_in p (p c) (p y) = true ∧ dt_in p (p c) y = true) ?_ ?_
  · intro h
    rw [dt_in_0 H] at h
    have : 0 = c := eq_of_beq h
    omega
  · intro y h0 hy ht ih h
    have k : dt_in p (p c) (p y) = true := by
      rw [dt_in_s H c h0 hy ht, Bool.or_eq_true] at h
      rcases h with h | h
      · rw [eq_of_beq h]
        exact dt_in_r _
      · exact (ih h).2.2
    refine ⟨h0, k, ?_⟩
    rw [dt_in_s H (p c) h0 hy ht, k, Bool.or_true]
theorem dt_ol_ix (H : dt_Tr T p g dp) {c : Nat} (hc : c < 24) (ht : T c = true) : ∃ i, i < (dt_ol T p g).length ∧ (dt_ol T p g).getD i 0 = c := dt_gx ((dt_ol_mem H).mpr ⟨hc, ht⟩)
theorem dt_ol_n0 (H : dt_Tr T p g dp) {i : Nat} (h : 0 < i) (hi : i < (dt_ol T p g).length) : 0 < (dt_ol T p g).getD i 0 := by
  apply Nat.pos_of_ne_zero
  intro z
  have := dt_ol_inj H hi dt_ol_0.2 (z.trans dt_ol_0.1.symm)
  omega
theorem dt_B_o (H : dt_Tr T p g dp) {i o : Nat} (hi : i < (dt_ol T p g).length) (ho : (dt_ol T p g).getD i 0 = o) {y : Nat} : dt_B T p (dt_ol T p g) (i + 1) o y ↔ y < 24 ∧ T y = true ∧ dt_bl p o y = true := by
  constructor
  · rintro ⟨a, b, j, c1, c2, c3, c4, c5⟩
    obtain ⟨d1, d2, _⟩ := dt_in_tr H c3 y a b c5
    rw [c4] at d2
    exact ⟨a, b, by rw [dt_bl_s d1]; exact d2⟩
  · rintro ⟨a, b, c⟩
    refine ⟨a, b, ?_⟩
    have y0 : 0 < y := by
      rcases Nat.eq_zero_or_pos y with z | z
      · rw [z, dt_bl_0] at c
        exact absurd c (by decide)
      · exact z
    rw [dt_bl_s y0] at c
    have t := H.2.2.2.1 y y0 a b
    have ch : ∃ c, 0 < c ∧ c < 24 ∧ T c = true ∧ p c = o ∧ dt_in p c y = true := by
      rcases dt_in_kd H (p y) t.1 t.2.1 c with k | ⟨c', k1, k2⟩
      · exact ⟨y, y0, a, b, k, dt_in_r y⟩
      · have m := (dt_kd_mem H).mp k1
        refine ⟨c', m.1, m.2.1, m.2.2.1, m.2.2.2, ?_⟩
        rw [dt_in_s H c' y0 a b, k2, Bool.or_true]
    obtain ⟨c', k1, k2, k3, k4, k5⟩ := ch
    obtain ⟨j, j1, j2⟩ := dt_ol_ix H k2 k3
    refine ⟨j, ?_, j1, ?_, ?_, ?_⟩
    · obtain ⟨m, m1, m2⟩ := dt_ol_pb H j j1 (by omega)
      rw [j2, k4] at m2
      have := dt_ol_inj H (Nat.lt_trans m1 j1) hi (m2.trans ho.symm)
      omega
    · rw [j2]; exact k1
    · rw [j2]; exact k4
    · rw [j2]; exact k5
theorem dt_B_s (H : dt_Tr T p g dp) {i o : Nat} (h0 : 0 < i) (hi : i < (dt_ol T p g).length) (ho : (dt_ol T p g).getD i 0 = o) {x y : Nat} : dt_B T p (dt_ol T p g) i x y ↔ (dt_B T p (dt_ol T p g) (i + 1) x y ∨ (x = p o ∧ (y = o ∨ dt_B T p (dt_ol T p g) (i + 1) o y))) := by
  have o0 := dt_ol_n0 H h0 hi
  rw [ho] at o0
  have om := (dt_ol_mem H).mp (dt_gm hi)
  rw [ho] at om
  constructor
  · rintro ⟨a, b, j, c1, c2, c3, c4, c5⟩
    by_cases z : j = i
    · right
      subst z
      rw [ho] at c4 c5
      refine ⟨c4.symm, ?_⟩
      rw [dt_in_bl H o a b, Bool.or_eq_true] at c5
      rcases c5 with c5 | c5
      · exact Or.inl (eq_of_beq c5)
      · exact Or.inr ((dt_B_o H c2 ho).mpr ⟨a, b, c5⟩)
    · left
      exact ⟨a, b, j, by omega, c2, c3, c4, c5⟩
  · rintro (⟨a, b, j, c1, c2, c3, c4, c5⟩ | ⟨rfl, rfl | c⟩)
    · exact ⟨a, b, j, by omega, c2, c3, c4, c5⟩
    · exact ⟨om.1, om.2, i, Nat.le_refl _, hi, by rw [ho]; exact o0, by rw [ho], by rw [ho]; exact dt_in_r _⟩
    · have k := (dt_B_o H hi ho).mp c
      refine ⟨k.1, k.2.1, i, Nat.le_refl _, hi, by rw [ho]; exact o0, by rw [ho], ?_⟩
      rw [ho, dt_in_bl H o k.1 k.2.1, k.2.2, Bool.or_true]
theorem dt_B_1 (H : dt_Tr T p g dp) {x y : Nat} (hx : x < 24) (ht : T x = true) : dt_B T p (dt_ol T p g) 1 x y ↔ y < 24 ∧ T y = true ∧ dt_bl p x y = true := by
  obtain ⟨i, i1, i2⟩ := dt_ol_ix H hx ht
  constructor
  · rintro ⟨a, b, j, c1, c2, c3, c4, c5⟩
    obtain ⟨d1, d2, _⟩ := dt_in_tr H c3 y a b c5
    rw [c4] at d2
    exact ⟨a, b, by rw [dt_bl_s d1]; exact d2⟩
  · intro k
    obtain ⟨a, b, j, c1, c⟩ := (dt_B_o H i1 i2).mpr k
    exact ⟨a, b, j, by omega, c⟩
theorem dt_B_e (L : List Nat) {x y : Nat} : ¬ dt_B T p L L.length x y := by
  rintro ⟨a, b, j, c1, c2, _⟩
  omega
end
/-- the order and the sets below, as X keeps them -/
def rl_O (T : Nat → Bool) (pa na : Nat → Int32) (mn : Int32) (so bl : Nat → Int32) : Prop :=
  mn = nI (dt_ol T (dt_p pa) (dt_p na)).length ∧
  (∀ j, j < (dt_ol T (dt_p pa) (dt_p na)).length → so j = nI ((dt_ol T (dt_p pa) (dt_p na)).getD j 0)) ∧
  (∀ x y, x < 24 → T x = true → y < 32 → (bt (bl x) y = true ↔ y < 24 ∧ T y = true ∧ dt_bl (dt_p pa) x y = true))
section
variable {th od mn ix tk hg de : Int32} {pa na cl al so bl ia ik iv ho ki ta nu sp tr un : Nat → Int32}
theorem xd_fo78 (H : rl_T (bt th) pa na cl) {dp : Nat → Nat} (D : dt_Tr (bt th) (dt_p pa) (dt_p na) dp) {post : SX → Prop}
    (hso : ∀ j, j < (dt_ol (bt th) (dt_p pa) (dt_p na)).length → so j = nI ((dt_ol (bt th) (dt_p pa) (dt_p na)).getD j 0))
    (hp : ∀ bl : Nat → Int32, (∀ x y, x < 24 → bt th x = true → y < 32 → (bt (bl x) y = true ↔ dt_B (bt th) (dt_p pa) (dt_ol (bt th) (dt_p pa) (dt_p na)) 1 x y)) → post (th, od, mn, ix, tk, hg, de, pa, na, cl, al, so, bl, ia, ik, iv, ho, ki, ta, nu, sp, tr, un)) :
    ∀ (i : Nat) (bl : Nat → Int32), i < (dt_ol (bt th) (dt_p pa) (dt_p na)).length → (∀ x y, x < 24 → bt th x = true → y < 32 → (bt (bl x) y = true ↔ dt_B (bt th) (dt_p pa) (dt_ol (bt th) (dt_p pa) (dt_p na)) (i + 1) x y)) → wX_findOrder_78 post th od mn ix tk hg de (i + 1) (nI i) pa na cl al so bl ia ik iv ho ki ta nu sp tr un
  | 0, bl, _, hb => br_t (nI_le (a := 0) (b := 0) (by omega) (by decide)) (hp bl hb)
  | i + 1, bl, hi, hb => by
    have l24 := dt_ol_le D
    have e0 := hso (i + 1) hi
    have o0 := dt_ol_n0 D (Nat.succ_pos i) hi
    have om := (dt_ol_mem D).mp (dt_gm hi)
    have st := @dt_B_s _ _ _ _ D (i + 1) _ (Nat.succ_pos i) hi rfl
    generalize (dt_ol (bt th) (dt_p pa) (dt_p na)).getD (i + 1) 0 = o at e0 o0 om st
    obtain ⟨t1, t2, t3, _, _⟩ := H.2.2.1 o o0 om.1 om.2
    have ci : (nI (i + 1)).toNatClampNeg = i + 1 := nI_clamp (by omega)
    have vi : vp_in (nI (i + 1)) 24 := vp_in_nI (by omega) (by decide)
    have co : (so (nI (i + 1)).toNatClampNeg) = nI o := by rw [ci, e0]
    have cc : (nI o).toNatClampNeg = o := nI_clamp (by omega)
    have vo : vp_in (nI o) 24 := vp_in_nI om.1 (by decide)
    have cp : (nI (dt_p pa o)).toNatClampNeg = dt_p pa o := nI_clamp (by omega)
    have vp : vp_in (nI (dt_p pa o)) 24 := vp_in_nI t2 (by decide)
    refine br_f (nI_nle (Nat.succ_pos i) (by omega)) ⟨vi, ?_⟩
    rw [co, cc]
    refine ⟨vo, nm_r t1 ⟨vp, vi, vo, vi, vp, nm_e (nm_r (pk_m1 i) ?_)⟩⟩
    rw [cp]
    refine xd_fo78 H D hso hp i _ (by omega) ?_
    intro x y hx ht hy
    rw [st]
    by_cases z : x = dt_p pa o
    · rw [z, pk_us, b_or, b_or, dt_sh (by omega) hy, Bool.or_eq_true, Bool.or_eq_true, hb _ y t2 t3 hy, hb o y om.1 om.2 hy, decide_eq_true_eq]
      constructor
      · rintro (a | a | a)
        · exact Or.inl a
        · exact Or.inr ⟨rfl, Or.inr a⟩
        · exact Or.inr ⟨rfl, Or.inl a⟩
      · rintro (a | ⟨_, a | a⟩)
        · exact Or.inl a
        · exact Or.inr (Or.inr a)
        · exact Or.inr (Or.inl a)
    · rw [pk_un z, hb x y hx ht hy]
      constructor
      · exact Or.inl
      · rintro (a | ⟨a, _⟩)
        · exact a
        · exact absurd a z
theorem xd_fo22 (H : rl_T (bt th) pa na cl) {dp : Nat → Nat} (D : dt_Tr (bt th) (dt_p pa) (dt_p na) dp) {post : SX → Prop} :
    ∀ (f i : Nat) (out st : List Nat) (so bl : Nat → Int32), i + f = 24 → out.length = i → (st = [] ∨ ∃ e, e < 24 ∧ bt th e = true ∧ st = e :: dt_R (bt th) (dt_p pa) (dt_p na) (dp e) e) → (∀ j, j < i → so j = nI (out.getD j 0)) → (∀ x, x ∈ out → bl x = 0) →
    (∀ so bl : Nat → Int32, (∀ j, j < (out ++ dt_run (dt_kd (bt th) (dt_p pa) (dt_p na)) f st).length → so j = nI ((out ++ dt_run (dt_kd (bt th) (dt_p pa) (dt_p na)) f st).getD j 0)) → (∀ x, x ∈ out ++ dt_run (dt_kd (bt th) (dt_p pa) (dt_p na)) f st → bl x = 0) → ∃ n78 : Nat, wX_findOrder_78 post th od (nI (out ++ dt_run (dt_kd (bt th) (dt_p pa) (dt_p na)) f st).length) ix tk hg de n78 (nI (out ++ dt_run (dt_kd (bt th) (dt_p pa) (dt_p na)) f st).length - 1) pa na cl al so bl ia ik iv ho ki ta nu sp tr un) →
    wX_findOrder_22 post th od ix tk hg de (f + 1) (dt_hd st) (nI i) (nI i) pa na cl al so bl ia ik iv ho ki ta nu sp tr un
  | 0, i, out, st, so, bl, h, hl, _, hs, hb, k => by
    have z : i = 24 := by omega
    subst z
    have e : out ++ dt_run (dt_kd (bt th) (dt_p pa) (dt_p na)) 0 st = out := List.append_nil out
    rw [e, hl] at k
    exact br_t (nI_le (a := 24) (b := 24) (by omega) (by decide)) (nm_e (k so bl hs hb))
  | f + 1, i, out, [], so, bl, h, hl, _, hs, hb, k => by
    have e : out ++ dt_run (dt_kd (bt th) (dt_p pa) (dt_p na)) (f + 1) [] = out := List.append_nil out
    rw [e, hl] at k
    exact br_f (nI_ge (b := 24) (by omega) (by decide)) (br_t dt_m1' (nm_e (k so bl hs hb)))
  | f + 1, i, out, e :: r, so, bl, h, hl, hst, hs, hb, k => by
    have sh : e < 24 ∧ bt th e = true ∧ r = dt_R (bt th) (dt_p pa) (dt_p na) (dp e) e := by
      rcases hst with z | ⟨e', a, b, z⟩
      · cases z
      · injection z with z1 z2
        subst z1
        exact ⟨a, b, z2⟩
    obtain ⟨he, ht, rfl⟩ := sh
    have ci : (nI i).toNatClampNeg = i := nI_clamp (by omega)
    have ce : (nI e).toNatClampNeg = e := nI_clamp (by omega)
    rw [show dt_hd (e :: dt_R (bt th) (dt_p pa) (dt_p na) (dp e) e) = nI e from rfl]
    refine br_f (nI_ge (b := 24) (by omega) (by decide)) (br_f (nI_pos (by omega)) ⟨vp_in_nI (by omega) (by decide), nm_e ⟨vp_in_nI he (by decide), nm_e (nm_r (nI_1 i) ?_)⟩⟩)
    rw [ci, ce]
    refine xd_following H D he ht (nm_r (nI_1 i) ?_)
    refine xd_fo22 H D f (i + 1) (out ++ [e]) _ _ _ (by omega) (by rw [List.length_append, List.length_singleton, hl]) ?_ ?_ ?_ ?_
    · cases q : dt_kd (bt th) (dt_p pa) (dt_p na) e ++ dt_R (bt th) (dt_p pa) (dt_p na) (dp e) e with
      | nil => exact Or.inl rfl
      | cons c l =>
        have w := dt_st_hd D he ht q
        exact Or.inr ⟨c, w.1, w.2.1, by rw [← w.2.2]⟩
    · intro j hj
      by_cases z : j = i
      · rw [z, pk_us, ← hl, dt_gr]
      · rw [pk_un z, dt_gl (by omega)]
        exact hs j (by omega)
    · intro x hx
      by_cases z : x = e
      · rw [z, pk_us]
      · rw [pk_un z]
        rcases List.mem_append.mp hx with w | w
        · exact hb x w
        · exact absurd (List.mem_singleton.mp w) z
    · rw [List.append_assoc]
      exact k
theorem xd_findOrder (H : rl_T (bt th) pa na cl) (hO : od = 0 ∨ od = 1 ∧ rl_O (bt th) pa na mn so bl) {post : SX → Prop}
    (hp : ∀ so bl : Nat → Int32, rl_O (bt th) pa na (nI (dt_ol (bt th) (dt_p pa) (dt_p na)).length) so bl → post (th, 1, nI (dt_ol (bt th) (dt_p pa) (dt_p na)).length, ix, tk, hg, de, pa, na, cl, al, so, bl, ia, ik, iv, ho, ki, ta, nu, sp, tr, un)) : wpX_findOrder post (th, od, mn, ix, tk, hg, de, pa, na, cl, al, so, bl, ia, ik, iv, ho, ki, ta, nu, sp, tr, un) := by
  obtain ⟨dp, D⟩ := rl_T_dp H
  rcases hO with rfl | ⟨rfl, hO⟩
  · refine br_t rfl ⟨25, ?_⟩
    refine xd_fo22 (dp := dp) H D 24 0 [] [0] so bl rfl rfl (Or.inr ⟨0, by omega, H.1, by rw [D.2.2.1]; rfl⟩) (fun j hj => absurd hj (by omega)) (fun x hx => absurd hx List.not_mem_nil) ?_
    intro so bl hs hb
    have l24 := dt_ol_le D
    have l0 := (dt_ol_0 (T := bt th) (p := dt_p pa) (g := dt_p na)).2
    have hs' : ∀ j, j < (dt_ol (bt th) (dt_p pa) (dt_p na)).length → so j = nI ((dt_ol (bt th) (dt_p pa) (dt_p na)).getD j 0) := hs
    have hb' : ∀ x, x ∈ dt_ol (bt th) (dt_p pa) (dt_p na) → bl x = 0 := hb
    show ∃ n78 : Nat, wX_findOrder_78 post th 1 (nI (dt_ol (bt th) (dt_p pa) (dt_p na)).length) ix tk hg de n78 (nI (dt_ol (bt th) (dt_p pa) (dt_p na)).length - 1) pa na cl al so bl ia ik iv ho ki ta nu sp tr un
    obtain ⟨l, hl⟩ : ∃ l, (dt_ol (bt th) (dt_p pa) (dt_p na)).length = l + 1 := ⟨(dt_ol (bt th) (dt_p pa) (dt_p na)).length - 1, by omega⟩
    have e1 : nI (dt_ol (bt th) (dt_p pa) (dt_p na)).length - 1 = nI l := by rw [hl]; exact nI_pred l
    rw [e1]
    refine ⟨l + 1, xd_fo78 H D hs' ?_ l bl (by omega) ?_⟩
    · intro bl' hb2
      refine hp so bl' ⟨rfl, hs', fun x y hx ht hy => ?_⟩
      rw [hb2 x y hx ht hy]
      exact dt_B_1 D hx ht
    · intro x y hx ht hy
      rw [hb' x ((dt_ol_mem D).mpr ⟨hx, ht⟩), b_0, ← hl]
      exact ⟨fun z => absurd z (by decide), fun z => absurd z (dt_B_e _)⟩
  · refine br_f (by decide) ?_
    have k := hp so bl
    rw [← hO.1] at k
    exact k hO
end
end
section
/-! Y: entries, children, below, the order -/
def rl_Y (T : Nat → Bool) (yt : Nat → Int32) : Prop := ∀ e, e < 24 → yt e = if T e = true then 1 else 0
theorem rl_Y1 {T : Nat → Bool} {yt : Nat → Int32} (h : rl_Y T yt) {e : Nat} (he : e < 24) (ht : T e = true) : ¬ yt (nI e).toNatClampNeg = 0 := by
  rw [nI_clamp (by omega), h e he, if_pos ht]
  decide
theorem rl_Y0 {T : Nat → Bool} {yt : Nat → Int32} (h : rl_Y T yt) {e : Nat} (he : e < 24) (ht : T e = false) : yt (nI e).toNatClampNeg = 0 := by
  rw [nI_clamp (by omega), h e he, if_neg (by rw [ht]; decide)]
theorem dt_bf {b : Bool} (h : ¬ b = true) : b = false := by
  cases b
  · rfl
  · exact absurd rfl h
def dt_W (wa : Nat → Int32) : List Nat → Prop
  | [] => True
  | e :: r => wa r.length = nI e ∧ dt_W wa r
theorem dt_W_u {wa : Nat → Int32} {x : Int32} {k : Nat} : ∀ {st : List Nat}, dt_W wa st → st.length ≤ k → dt_W (upd wa k x) st
  | [], _, _ => trivial
  | e :: r, h, l => ⟨(pk_un (show r.length ≠ k from by rw [List.length_cons] at l; omega)).trans h.1, dt_W_u h.2 (by rw [List.length_cons] at l; omega)⟩
theorem dt_ks_len (k : Nat → Nat) : ∀ d n, (dt_ks k d n).length ≤ d
  | 0, _ => Nat.le_refl _
  | d + 1, n => by
    have := dt_ks_len k d (n + 1)
    by_cases z : k n < 24
    · rw [dt_ks_t z, List.length_cons]; omega
    · rw [dt_ks_f z]; omega
section
variable {tk hg : Int32} {yt pa na cl al cn vs ki ya nu ps yo wa : Nat → Int32} {T : Nat → Bool}
theorem yd_isEntry_t (hY : rl_Y T yt) {post : Int32 → Prop} {e : Nat} (he : e < 24) (ht : T e = true) (h : post 1) : wpY_isEntry post (tk, hg, yt, pa, na, cl, al, cn, vs, ki, ya, nu, ps, yo, wa) (nI e) :=
  br_f (nI_pos (by omega)) (br_f (nI_nlt (a := 23) (b := e) (by omega) (by decide)) ⟨vp_in_nI he (by decide), br_f (rl_Y1 hY he ht) h⟩)
theorem yd_isEntry_f (hY : rl_Y T yt) {post : Int32 → Prop} {x : Int32} (hn : ∀ e, e < 24 → x = nI e → T e = false) (h : post 0) : wpY_isEntry post (tk, hg, yt, pa, na, cl, al, cn, vs, ki, ya, nu, ps, yo, wa) x := by
  by_cases z : x < 0
  · exact br_t z h
  · obtain ⟨j, hj, rfl⟩ := nI_of z
    rcases Nat.lt_or_ge j 24 with l | l
    · exact br_f z (br_f (nI_nlt (a := 23) (b := j) (by omega) (by decide)) ⟨vp_in_nI l (by decide), br_t (rl_Y0 hY l (hn j l rfl)) h⟩)
    · exact br_f z (br_t (nI_lt (a := 23) (by omega) hj) h)
theorem yd_isAttribute_t {post : Int32 → Prop} {a : Nat} (ha : a < 6) (h : post 1) : wpY_isAttribute post (tk, hg, yt, pa, na, cl, al, cn, vs, ki, ya, nu, ps, yo, wa) (nI a) :=
  br_f (nI_pos (by omega)) (br_f (nI_nlt (a := 5) (b := a) (by omega) (by decide)) h)
theorem yd_isAttribute_f {post : Int32 → Prop} {x : Int32} (hn : ∀ a, a < 6 → x ≠ nI a) (h : post 0) : wpY_isAttribute post (tk, hg, yt, pa, na, cl, al, cn, vs, ki, ya, nu, ps, yo, wa) x := by
  by_cases z : x < 0
  · exact br_t z h
  · obtain ⟨j, hj, rfl⟩ := nI_of z
    rcases Nat.lt_or_ge j 6 with l | l
    · exact absurd rfl (hn j l)
    · exact br_f z (br_t (nI_lt (a := 5) (by omega) hj) h)
theorem yd_child_l (hY : rl_Y T yt) {post : Int32 → Prop} {x y : Int32} : ∀ d i, i + d = 24 → (dt_f (dt_q T pa na x y) d i < 24 → post (nI (dt_f (dt_q T pa na x y) d i))) → (dt_f (dt_q T pa na x y) d i = 24 → post (-2)) → wY_child_12 post x y tk hg yt pa na cl al cn vs ki ya nu ps yo wa (d + 1) (nI i)
  | 0, i, h, _, h2 => by
    have e : i = 24 := by omega
    subst e
    exact br_t (nI_le (a := 24) (b := 24) (by omega) (by decide)) (h2 rfl)
  | d + 1, i, h, h1, h2 => by
    have go : ¬ (T i = true ∧ pa i = x ∧ na i = y) → wY_child_12 post x y tk hg yt pa na cl al cn vs ki ya nu ps yo wa (d + 1) (nI (i + 1)) := fun z => by
      rw [dt_f_n (dt_q_n z)] at h1 h2
      exact yd_child_l hY d (i + 1) (by omega) h1 h2
    have ci : (nI i).toNatClampNeg = i := nI_clamp (by omega)
    have hi : vp_in (nI i) 24 := vp_in_nI (by omega) (by decide)
    refine br_f (nI_ge (b := 24) (by omega) (by decide)) ⟨hi, ?_⟩
    by_cases ht : T i = true
    · refine br_f (rl_Y1 hY (by omega) ht) ⟨hi, br_c (fun b => ⟨hi, br_c (fun c => ?_) (fun c => nm_r (nI_1 i) (go ?_))⟩) (fun b => nm_r (nI_1 i) (go ?_))⟩
      · rw [ci] at b c
        have q : dt_q T pa na x y i = true := dt_q_i.mpr ⟨ht, b, c⟩
        rw [dt_f_p q] at h1
        exact h1 (by omega)
      · rw [ci] at c
        exact fun z => c z.2.2
      · rw [ci] at b
        exact fun z => b z.2.1
    · exact br_t (rl_Y0 hY (by omega) (dt_bf ht)) (nm_r (nI_1 i) (go fun z => ht z.1))
theorem yd_child_t (hY : rl_Y T yt) {post : Int32 → Prop} {e : Nat} {y : Int32} (he : e < 24) (ht : T e = true) (h1 : dt_c T pa na (nI e) y < 24 → post (nI (dt_c T pa na (nI e) y))) (h2 : dt_c T pa na (nI e) y = 24 → post (-2)) : wpY_child post (tk, hg, yt, pa, na, cl, al, cn, vs, ki, ya, nu, ps, yo, wa) (nI e) y := by
  unfold wpY_child
  refine yd_isEntry_t hY he ht (br_f (by decide) ⟨24, yd_child_l hY 23 1 rfl h1 h2⟩)
theorem yd_child_f (hY : rl_Y T yt) {post : Int32 → Prop} {x y : Int32} (hn : ∀ e, e < 24 → x = nI e → T e = false) (h : post (-1)) : wpY_child post (tk, hg, yt, pa, na, cl, al, cn, vs, ki, ya, nu, ps, yo, wa) x y := by
  unfold wpY_child
  exact yd_isEntry_f hY hn (br_t rfl h)
theorem yd_firstFree_l (hY : rl_Y T yt) {post : Int32 → Prop} : ∀ d i, i + d = 24 → (dt_f (fun e => !T e) d i < 24 → post (nI (dt_f (fun e => !T e) d i))) → (dt_f (fun e => !T e) d i = 24 → post (-1)) → wY_firstFree_2 post tk hg yt pa na cl al cn vs ki ya nu ps yo wa (d + 1) (nI i)
  | 0, i, h, _, h2 => by
    have e : i = 24 := by omega
    subst e
    exact br_t (nI_le (a := 24) (b := 24) (by omega) (by decide)) (h2 rfl)
  | d + 1, i, h, h1, h2 => by
    refine br_f (nI_ge (b := 24) (by omega) (by decide)) ⟨vp_in_nI (by omega) (by decide), ?_⟩
    by_cases ht : T i = true
    · rw [dt_f_n (show (!T i) = false from by rw [ht]; rfl)] at h1 h2
      exact br_f (rl_Y1 hY (by omega) ht) (nm_r (nI_1 i) (yd_firstFree_l hY d (i + 1) (by omega) h1 h2))
    · rw [dt_f_p (show (!T i) = true from by rw [dt_bf ht]; rfl)] at h1
      exact br_t (rl_Y0 hY (by omega) (dt_bf ht)) (h1 (by omega))
theorem yd_firstFree (hY : rl_Y T yt) {post : Int32 → Prop} (h1 : dt_f (fun e => !T e) 24 0 < 24 → post (nI (dt_f (fun e => !T e) 24 0))) (h2 : dt_f (fun e => !T e) 24 0 = 24 → post (-1)) : wpY_firstFree post (tk, hg, yt, pa, na, cl, al, cn, vs, ki, ya, nu, ps, yo, wa) :=
  ⟨25, yd_firstFree_l hY 24 0 rfl h1 h2⟩
theorem yd_isBelow_l (H : rl_T T pa na cl) {dp : Nat → Nat} (D : dt_Tr T (dt_p pa) (dt_p na) dp) {post : Int32 → Prop} {top : Nat} (htop : top < 24) : ∀ k x i, dp x = k → x < 24 → T x = true → i + k ≤ 23 → post (if dt_sb (dt_p pa) top k x = true then 1 else 0) → wY_isBelow_10 post (nI top) tk hg yt pa na cl al cn vs ki ya nu ps yo wa (k + 2) (nI x) (nI i)
  | 0, x, i, hk, hx, ht, hi, hp => by
    have z : x = 0 := by
      rcases Nat.eq_zero_or_pos x with z | z
      · exact z
      · have := (D.2.2.2.1 x z hx ht).2.2.2
        omega
    subst z
    refine br_f (nI_ge (b := 24) (by omega) (by decide)) (br_f (nI_pos (by omega)) (br_c (fun q => ?_) (fun q => ⟨vp_in_nI (by omega) (by decide), nm_r H.2.1 (nm_r (nI_1 i) ?_)⟩)))
    · have q' := (nI_eq (by omega) (by omega)).mp q
      rw [show dt_sb (dt_p pa) top 0 0 = (0 == top) from rfl, ← q', if_pos (show ((0 : Nat) == 0) = true from rfl)] at hp
      exact hp
    · have q' : ¬ 0 = top := fun z => q (by rw [z])
      rw [show dt_sb (dt_p pa) top 0 0 = (0 == top) from rfl, beq_eq_false_iff_ne.mpr q', if_neg (by decide)] at hp
      exact br_c (fun _ => hp) (fun _ => br_t dt_m1' hp)
  | k + 1, x, i, hk, hx, ht, hi, hp => by
    have z : 0 < x := by
      rcases Nat.eq_zero_or_pos x with z | z
      · rw [z, D.2.2.1] at hk
        omega
      · exact z
    obtain ⟨t1, t2, t3, _, _⟩ := H.2.2.1 x z hx ht
    have d4 := (D.2.2.2.1 x z hx ht).2.2.2
    have ci : (nI x).toNatClampNeg = x := nI_clamp (by omega)
    refine br_f (nI_ge (b := 24) (by omega) (by decide)) (br_f (nI_pos (by omega)) (br_c (fun q => ?_) (fun q => ⟨vp_in_nI hx (by decide), nm_r (e' := nI (dt_p pa x)) (by rw [ci]; exact t1) (nm_r (nI_1 i) ?_)⟩)))
    · have q' := (nI_eq (by omega) (by omega)).mp q
      rw [show dt_sb (dt_p pa) top (k + 1) x = (x == top || dt_sb (dt_p pa) top k (dt_p pa x)) from rfl, q', beq_self_eq_true, Bool.true_or, if_pos rfl] at hp
      exact hp
    · have q' : ¬ x = top := fun z => q (by rw [z])
      rw [show dt_sb (dt_p pa) top (k + 1) x = (x == top || dt_sb (dt_p pa) top k (dt_p pa x)) from rfl, beq_eq_false_iff_ne.mpr q', Bool.false_or] at hp
      exact yd_isBelow_l H D htop k (dt_p pa x) (i + 1) (by omega) t2 t3 (by omega) hp
theorem yd_isBelow (H : rl_T T pa na cl) {post : Int32 → Prop} {e top : Nat} (he : e < 24) (ht : T e = true) (htop : top < 24) (hp : post (if dt_bl (dt_p pa) top e = true then 1 else 0)) : wpY_isBelow post (tk, hg, yt, pa, na, cl, al, cn, vs, ki, ya, nu, ps, yo, wa) (nI e) (nI top) := by
  obtain ⟨dp, D⟩ := rl_T_dp H
  refine ⟨vp_in_nI he (by decide), ?_⟩
  rw [nI_clamp (by omega)]
  rcases Nat.eq_zero_or_pos e with z | z
  · subst z
    rw [dt_bl_0, if_neg (by decide)] at hp
    exact nm_r H.2.1 ⟨1, br_f (nI_ge (a := 0) (b := 24) (by omega) (by decide)) (br_t dt_m1' hp)⟩
  · obtain ⟨t1, t2, t3, _, _⟩ := H.2.2.1 e z he ht
    have d5 := D.2.2.2.2.1 _ t2 t3
    rw [dt_bl_s z, dt_in_dp D top t2 t3] at hp
    exact nm_r t1 ⟨_, yd_isBelow_l H D htop _ (dt_p pa e) 0 rfl t2 t3 (by omega) hp⟩
theorem yd_push (H : rl_T T pa na cl) (hY : rl_Y T yt) {post : SY → Prop} {J : Int32 → Int32 → (Nat → Int32) → (Nat → Int32) → (Nat → Int32) → (Nat → Int32) → (Nat → Int32) → (Nat → Int32) → (Nat → Int32) → (Nat → Int32) → (Nat → Int32) → (Nat → Int32) → (Nat → Int32) → (Nat → Int32) → (Nat → Int32) → Prop} {x1 : Int32} {e : Nat} (he : e < 24) (ht : T e = true) {r : List Nat} (hr : r.length ≤ 24)
    (hJ : ∀ wa : Nat → Int32, dt_W wa (dt_kd T (dt_p pa) (dt_p na) e ++ r) → J x1 (nI (dt_kd T (dt_p pa) (dt_p na) e ++ r).length) yt pa na cl al cn vs ki ya nu ps yo wa) :
    ∀ (m d : Nat) (wa : Nat → Int32), m + d = 10 → dt_W wa (dt_ks (dt_k T (dt_p pa) (dt_p na) e) d m ++ r) → wY_findOrder_45 post J x1 (nI e) tk hg (m + 1) (nI (dt_ks (dt_k T (dt_p pa) (dt_p na) e) d m ++ r).length) (nI m + (-1)) yt pa na cl al cn vs ki ya nu ps yo wa
  | 0, d, wa, h, hw => by
    have z : d = 10 := by omega
    subst z
    exact br_t (by decide) (hJ wa hw)
  | m + 1, d, wa, h, hw => by
    rw [pk_m1 m]
    have k := rl_T_k H (n := m) he (by omega)
    have l := dt_ks_len (dt_k T (dt_p pa) (dt_p na) e) d (m + 1)
    refine br_f (nI_pos (by omega)) (yd_child_t hY he ht (fun a => ?_) (fun a => ?_))
    · rw [k] at a ⊢
      have ll : (dt_ks (dt_k T (dt_p pa) (dt_p na) e) d (m + 1) ++ r).length < 48 := by rw [List.length_append]; omega
      have ce : (nI (dt_ks (dt_k T (dt_p pa) (dt_p na) e) d (m + 1) ++ r).length).toNatClampNeg = (dt_ks (dt_k T (dt_p pa) (dt_p na) e) d (m + 1) ++ r).length := nI_clamp (by omega)
      have es := dt_ks_t (d := d) a
      refine br_f (nI_pos (by omega)) ⟨vp_in_nI ll (by decide), nm_e (nm_r (nI_1 _) (nm_e ?_))⟩
      rw [ce]
      have g := yd_push H hY (post := post) he ht hr hJ m (d + 1) (upd wa (dt_ks (dt_k T (dt_p pa) (dt_p na) e) d (m + 1) ++ r).length (nI (dt_k T (dt_p pa) (dt_p na) e m))) (by omega) (by
        rw [es]
        exact ⟨pk_us, dt_W_u hw (Nat.le_refl _)⟩)
      rw [es] at g
      exact g
    · rw [k] at a
      have g := yd_push H hY (post := post) he ht hr hJ m (d + 1) wa (by omega) (by
        rw [dt_ks_f (by omega)]
        exact hw)
      rw [dt_ks_f (by omega)] at g
      exact br_t (by decide) (nm_e g)
theorem yd_fo11 (H : rl_T T pa na cl) (hY : rl_Y T yt) {dp : Nat → Nat} (D : dt_Tr T (dt_p pa) (dt_p na) dp) {post : SY → Prop} :
    ∀ (f i : Nat) (out st : List Nat) (yo wa : Nat → Int32), i + f = 24 → out.length = i → dt_Iv T (dt_p pa) out st → dt_W wa st → (∀ j, j < i → yo j = nI (out.getD j 0)) →
    (∀ yo wa : Nat → Int32, (∀ j, j < (out ++ dt_run (dt_kd T (dt_p pa) (dt_p na)) f st).length → yo j = nI ((out ++ dt_run (dt_kd T (dt_p pa) (dt_p na)) f st).getD j 0)) → post (tk, hg, yt, pa, na, cl, al, cn, vs, ki, ya, nu, ps, yo, wa)) →
    wY_findOrder_11 post tk hg (f + 1) (nI i) (nI st.length) yt pa na cl al cn vs ki ya nu ps yo wa
  | 0, i, out, st, yo, wa, h, hl, I, _, hs, k => by
    have l := dt_Iv_len I
    have z : st = [] := List.eq_nil_of_length_eq_zero (by omega)
    subst z
    have e : out ++ dt_run (dt_kd T (dt_p pa) (dt_p na)) 0 [] = out := List.append_nil out
    rw [e, hl] at k
    exact br_t (nI_le (a := 0) (b := 0) (by omega) (by decide)) (k yo wa hs)
  | f + 1, i, out, [], yo, wa, h, hl, I, _, hs, k => by
    have e : out ++ dt_run (dt_kd T (dt_p pa) (dt_p na)) (f + 1) [] = out := List.append_nil out
    rw [e, hl] at k
    exact br_t (nI_le (a := 0) (b := 0) (by omega) (by decide)) (k yo wa hs)
  | f + 1, i, out, e :: r, yo, wa, h, hl, I, hw, hs, k => by
    have l := dt_Iv_len I
    rw [List.length_cons] at l
    have em := I.2.1 e (List.mem_append_right _ List.mem_cons_self)
    have ci : (nI i).toNatClampNeg = i := nI_clamp (by omega)
    have cr : (nI r.length).toNatClampNeg = r.length := nI_clamp (by omega)
    refine br_f (nI_nle (n := r.length + 1) (by omega) (by omega)) (br_f (nI_ge (b := 24) (by omega) (by decide)) (nm_r (pk_m1 r.length) ⟨vp_in_nI (by omega) (by decide), nm_r (e' := nI e) (by rw [cr]; exact hw.1) ⟨vp_in_nI (by omega) (by decide), nm_e (nm_r (nI_1 i) ⟨11, ?_⟩)⟩⟩))
    rw [ci]
    have I2 := dt_Iv_s D I
    refine yd_push H hY em.1 em.2 (r := r) (by omega) (fun wa' hw' => ?_) 10 0 wa rfl hw.2
    refine yd_fo11 H hY D f (i + 1) (out ++ [e]) _ _ wa' (by omega) (by rw [List.length_append, List.length_singleton, hl]) I2 hw' ?_ ?_
    · intro j hj
      by_cases z : j = i
      · rw [z, pk_us, ← hl, dt_gr]
      · rw [pk_un z, dt_gl (by omega)]
        exact hs j (by omega)
    · rw [List.append_assoc]
      exact k
theorem yd_findOrder (H : rl_T T pa na cl) (hY : rl_Y T yt) {post : SY → Prop}
    (hp : ∀ yo wa : Nat → Int32, (∀ j, j < (dt_ol T (dt_p pa) (dt_p na)).length → yo j = nI ((dt_ol T (dt_p pa) (dt_p na)).getD j 0)) → post (tk, hg, yt, pa, na, cl, al, cn, vs, ki, ya, nu, ps, yo, wa)) : wpY_findOrder post (tk, hg, yt, pa, na, cl, al, cn, vs, ki, ya, nu, ps, yo, wa) := by
  obtain ⟨dp, D⟩ := rl_T_dp H
  exact nm_e ⟨25, yd_fo11 H hY D 24 0 [] [0] yo (upd wa 0 0) rfl rfl (dt_Iv_0 D) ⟨pk_us, trivial⟩ (fun j hj => absurd hj (by omega)) hp⟩
theorem yd_entries_l (hY : rl_Y T yt) {post : Int32 → Prop} (hp : post (nI (dt_n T 24))) : ∀ d i, i + d = 24 → wY_entries_4 post tk hg yt pa na cl al cn vs ki ya nu ps yo wa (d + 1) (nI (dt_n T i)) (nI i)
  | 0, i, h => by
    have e : i = 24 := by omega
    subst e
    exact br_t (nI_le (a := 24) (b := 24) (by omega) (by decide)) hp
  | d + 1, i, h => by
    refine br_f (nI_ge (b := 24) (by omega) (by decide)) ⟨vp_in_nI (by omega) (by decide), ?_⟩
    have g := yd_entries_l hY hp d (i + 1) (by omega)
    by_cases ht : T i = true
    · rw [dt_n_t ht] at g
      exact br_f (rl_Y1 hY (by omega) ht) (nm_r (nI_1 _) (nm_r (nI_1 i) g))
    · rw [dt_n_f (dt_bf ht)] at g
      exact br_t (rl_Y0 hY (by omega) (dt_bf ht)) (nm_r (nI_1 i) g)
theorem yd_entries (hY : rl_Y T yt) {post : Int32 → Prop} (hp : post (nI (dt_n T 24))) : wpY_entries post (tk, hg, yt, pa, na, cl, al, cn, vs, ki, ya, nu, ps, yo, wa) := ⟨25, yd_entries_l hY hp 24 0 rfl⟩
end
end
section
/-! words: letters, lengths, keys, parts -/
def dt_i (b : Bool) : Int32 := if b = true then 1 else 0
theorem dt_i1 : dt_i true = 1 := rfl
theorem dt_i0 : dt_i false = 0 := rfl
theorem dt_in1 {b : Bool} (h : b = true) : ¬ dt_i b = 0 := by rw [h]; decide
theorem dt_in0 {b : Bool} (h : b = false) : dt_i b = 0 := by rw [h]; rfl
theorem dt_inr (b : Bool) : narrow .boolean (.int (dt_i b)) = .int (dt_i b) := by cases b <;> rfl
def dt_l (w k : Nat) : Nat := if k = 0 then w % 6 else if k = 1 then w / 6 % 6 else w / 36
def dt_ln (w : Nat) : Nat := if w % 6 = 0 then 0 else if w / 6 % 6 = 0 then 1 else if w / 36 = 0 then 2 else 3
def dt_wd (w : Nat) : Bool := if w % 6 = 0 then w / 6 % 6 == 0 && w / 36 == 0 else if w / 6 % 6 = 0 then w / 36 == 0 else true
def dt_ky (w : Nat) : Nat := 36 * (w % 6) + 6 * (w / 6 % 6) + w / 36
def dt_lt : Nat → Nat → Nat → Int32
  | 0, c, _ => nI c
  | f + 1, c, w => if w = 0 then nI c else if w % 6 = 0 then -1 else dt_lt f (c + 1) (w / 6)
theorem dt_lt_is : ∀ w, w < 216 → dt_lt 3 0 w = if dt_wd w = true then nI (dt_ln w) else -1 := by decide +kernel
theorem dt_6 : ¬ (6 : Int32) = 0 := by decide
theorem dt_36 : ¬ (36 : Int32) = 0 := by decide
theorem xd_lettersOf_l {post : Int32 → Prop} : ∀ f c w, w < 6 ^ f → w < 216 → post (dt_lt f c w) → wX_lettersOf_17 post (f + 1) (nI c) (nI w)
  | 0, c, w, h, _, hp => by
    have z : w = 0 := by
      have : (6 : Nat) ^ 0 = 1 := rfl
      omega
    subst z
    exact br_t (nI_le (a := 0) (b := 0) (by omega) (by decide)) hp
  | f + 1, c, w, h, h2, hp => by
    have hp' : post (if w = 0 then nI c else if w % 6 = 0 then -1 else dt_lt f (c + 1) (w / 6)) := hp
    by_cases z : w = 0
    · rw [if_pos z] at hp'
      subst z
      exact br_t (nI_le (a := 0) (b := 0) (by omega) (by decide)) hp'
    · rw [if_neg z] at hp'
      have er : nI w - nI w / 6 * 6 = nI (w % 6) := pk_rem (d := 6) (by omega) (by omega) (by omega)
      have ed : nI w / 6 = nI (w / 6) := pk_div (d := 6) (by omega) (by omega) (by omega)
      have h6 : w / 6 < 6 ^ f := by
        rw [Nat.pow_succ] at h
        exact Nat.div_lt_of_lt_mul (by rw [Nat.mul_comm]; exact h)
      refine br_f (nI_nle (by omega) (by omega)) ⟨dt_6, ?_⟩
      rw [er]
      by_cases y : w % 6 = 0
      · rw [if_pos y] at hp'
        rw [y]
        exact br_t rfl hp'
      · rw [if_neg y] at hp'
        exact br_f (nI_ne0 (by omega) (by omega)) ⟨dt_6, nm_r ed (nm_r (nI_1 c) (xd_lettersOf_l f (c + 1) (w / 6) h6 (by omega) hp'))⟩
theorem xd_lettersOf {post : Int32 → Prop} {w : Nat} (hw : w < 216) (hp : post (if dt_wd w = true then nI (dt_ln w) else -1)) : wpX_lettersOf post (nI w) := by
  rw [← dt_lt_is w hw] at hp
  exact br_f (nI_pos (by omega)) (br_t (nI_le (b := 215) (by omega) (by decide)) ⟨4, xd_lettersOf_l 3 0 w hw hw hp⟩)
/-- a word, or a number from -999 to 999 -/
def dt_ok (a : Nat) (v : Int32) : Bool := if a < 4 then decide (0 ≤ v.toInt ∧ v.toInt ≤ 215) && dt_wd v.toNatClampNeg else decide (-999 ≤ v.toInt ∧ v.toInt ≤ 999)
theorem dt_ok_w {a : Nat} {v : Int32} (ha : a < 4) (h : dt_ok a v = true) : ∃ w, w < 216 ∧ v = nI w ∧ dt_wd w = true := by
  unfold dt_ok at h
  rw [if_pos ha, Bool.and_eq_true, decide_eq_true_eq] at h
  obtain ⟨j, hj, rfl⟩ := vp_in_of (x := v) (n := 216) (vp_in_iff.mpr (by omega)) (by omega)
  rw [nI_clamp (by omega)] at h
  exact ⟨j, hj, rfl, h.2⟩
theorem dt_ok_nI {a w : Nat} (ha : a < 4) (hw : w < 216) : dt_ok a (nI w) = dt_wd w := by
  unfold dt_ok
  rw [if_pos ha, nI_clamp (by omega), nI_toInt (by omega), decide_eq_true (p := 0 ≤ (w : Int) ∧ (w : Int) ≤ 215) (by omega), Bool.true_and]
theorem dt_ok_no {a : Nat} {v : Int32} (ha : a < 4) (h : v < 0 ∨ ¬ v ≤ 215) : dt_ok a v = false := by
  unfold dt_ok
  rw [if_pos ha, decide_eq_false, Bool.false_and]
  rintro ⟨h1, h2⟩
  rcases h with h | h
  · rw [Int32.lt_iff_toInt_lt] at h
    have : (0 : Int32).toInt = 0 := by decide
    omega
  · apply h
    rw [Int32.le_iff_toInt_le]
    exact h2
theorem dt_ok_n {a : Nat} {v : Int32} (ha : ¬ a < 4) : dt_ok a v = decide (-999 ≤ v.toInt ∧ v.toInt ≤ 999) := if_neg ha
theorem dt_c999 : (-999 : Int32).toInt = -999 := by decide
theorem dt_d999 : (999 : Int32).toInt = 999 := by decide
theorem xd_isValue {post : Int32 → Prop} {a : Nat} {v : Int32} (ha : a < 6) (hp : post (dt_i (dt_ok a v))) : wpX_isValue post (nI a) v := by
  by_cases h4 : a < 4
  · refine br_t (nI_lt (b := 4) h4 (by decide)) ?_
    by_cases z : v < 0
    · rw [dt_ok_no h4 (Or.inl z)] at hp
      exact br_t z (br_t dt_m1' hp)
    · by_cases y : v ≤ 215
      · obtain ⟨w, hw, rfl⟩ := nI_of2 (n := 215) (by decide) z y
        rw [dt_ok_nI h4 (by omega)] at hp
        refine xd_lettersOf (by omega) ?_
        cases q : dt_wd w
        · rw [q] at hp
          rw [if_neg (by decide)]
          exact br_t dt_m1' hp
        · rw [q] at hp
          rw [if_pos rfl]
          refine br_f (nI_pos ?_) hp
          unfold dt_ln
          repeat' split
          all_goals omega
      · rw [dt_ok_no h4 (Or.inr y)] at hp
        exact br_f z (br_f y (br_t dt_m1' hp))
  · refine br_f (nI_nlt (b := 4) (by omega) (by omega)) ?_
    rw [dt_ok_n h4] at hp
    refine br_c (fun z => ?_) (fun z => br_c (fun y => ?_) (fun y => ?_))
    · rw [Int32.lt_iff_toInt_lt, dt_c999] at z
      rw [decide_eq_false (by omega)] at hp
      exact hp
    · rw [Int32.lt_iff_toInt_lt, dt_d999] at y
      rw [decide_eq_false (by omega)] at hp
      exact hp
    · rw [Int32.lt_iff_toInt_lt, dt_c999] at z
      rw [Int32.lt_iff_toInt_lt, dt_d999] at y
      rw [decide_eq_true (by omega)] at hp
      exact hp
/-- the place of a value in the order of values -/
def dt_key (a : Nat) (v : Int32) : Int32 := if a < 4 then nI (dt_ky v.toNatClampNeg) else v
theorem dt_key_nI {a w : Nat} (ha : a < 4) (hw : w < 216) : dt_key a (nI w) = nI (dt_ky w) := by
  unfold dt_key
  rw [if_pos ha, nI_clamp (by omega)]
theorem dt_key_n {a : Nat} {v : Int32} (ha : ¬ a < 4) : dt_key a v = v := if_neg ha
theorem dt_ky_lt {w : Nat} (h : w < 216) : dt_ky w < 216 := by
  unfold dt_ky
  omega
theorem dt_ky_inj : ∀ w, w < 216 → dt_ky (dt_ky w) = w := by decide +kernel
theorem xd_keyOf_any {post : Int32 → Prop} {x v : Int32} (hp : ∀ r, post r) : wpX_keyOf post x v :=
  br_c (fun _ => ⟨dt_6, dt_6, dt_6, dt_36, hp _⟩) (fun _ => hp _)
theorem xd_keyOf {post : Int32 → Prop} {a : Nat} {v : Int32} (ha : a < 6) (hv : dt_ok a v = true) (hp : post (dt_key a v)) : wpX_keyOf post (nI a) v := by
  by_cases h4 : a < 4
  · obtain ⟨w, hw, rfl, _⟩ := dt_ok_w h4 hv
    refine br_t (nI_lt (b := 4) h4 (by decide)) ⟨dt_6, dt_6, dt_6, dt_36, ?_⟩
    have er : nI w - nI w / 6 * 6 = nI (w % 6) := pk_rem (d := 6) (by omega) (by omega) (by omega)
    have ed : nI w / 6 = nI (w / 6) := pk_div (d := 6) (by omega) (by omega) (by omega)
    have er2 : nI (w / 6) - nI (w / 6) / 6 * 6 = nI (w / 6 % 6) := pk_rem (d := 6) (by omega) (by omega) (by omega)
    have ed2 : nI w / 36 = nI (w / 36) := pk_div (d := 36) (by omega) (by omega) (by omega)
    rw [er, ed, er2, ed2]
    rw [dt_key_nI h4 hw] at hp
    have e : nI (w % 6) * 36 + nI (w / 6 % 6) * 6 + nI (w / 36) = nI (dt_ky w) := by
      show nI (w % 6) * nI 36 + nI (w / 6 % 6) * nI 6 + nI (w / 36) = _
      rw [pk_mul, pk_mul, nI_add, nI_add]
      exact congrArg nI (by unfold dt_ky; omega)
    rw [e]
    exact hp
  · rw [dt_key_n h4] at hp
    exact br_f (nI_nlt (b := 4) (by omega) (by omega)) hp
theorem dt_key_r {a : Nat} {v : Int32} (hv : dt_ok a v = true) : -999 ≤ (dt_key a v).toInt ∧ (dt_key a v).toInt ≤ 999 := by
  by_cases h4 : a < 4
  · obtain ⟨w, hw, rfl, _⟩ := dt_ok_w h4 hv
    have := dt_ky_lt hw
    rw [dt_key_nI h4 hw, nI_toInt (by omega)]
    omega
  · rw [dt_ok_n h4, decide_eq_true_eq] at hv
    rw [dt_key_n h4]
    exact hv
theorem dt_key_inj {a : Nat} {v x : Int32} (hv : dt_ok a v = true) (hx : dt_ok a x = true) (h : (dt_key a v).toInt = (dt_key a x).toInt) : v = x := by
  by_cases h4 : a < 4
  · obtain ⟨w, hw, rfl, _⟩ := dt_ok_w h4 hv
    obtain ⟨y, hy, rfl, _⟩ := dt_ok_w h4 hx
    have k1 := dt_ky_lt hw
    have k2 := dt_ky_lt hy
    rw [dt_key_nI h4 hw, dt_key_nI h4 hy, nI_toInt (by omega), nI_toInt (by omega)] at h
    have e : dt_ky w = dt_ky y := by omega
    rw [← dt_ky_inj w hw, e, dt_ky_inj y hy]
  · rw [dt_key_n h4, dt_key_n h4] at h
    exact Int32.toInt_inj.mp h
/-! a part in a word -/
def dt_ct : Nat → Nat → Nat → Nat → Bool
  | 0, _, _, _ => false
  | d + 1, u, q, w => if w % u = q then true else dt_ct d u q (w / 6)
def dt_un (q : Nat) : Nat := if dt_ln q = 0 then 1 else if dt_ln q = 1 then 6 else if dt_ln q = 2 then 36 else 216
def dt_con (w q : Nat) : Bool := dt_ct 4 (dt_un q) q w
theorem xd_contains_l {post : Int32 → Prop} {u q : Nat} (hu0 : 0 < u) (hu : u ≤ 216) (hq : q < 216) : ∀ d i w, i + d = 4 → w < 216 → post (dt_i (dt_ct d u q w)) → wX_contains_43 post (nI q) (nI u) (d + 1) (nI w) (nI i)
  | 0, i, w, h, _, hp => by
    have z : i = 4 := by omega
    subst z
    exact br_t (nI_le (a := 4) (b := 4) (by omega) (by decide)) hp
  | d + 1, i, w, h, hw, hp => by
    have hm : w % u < u := Nat.mod_lt _ hu0
    have er : nI w - nI w / nI u * nI u = nI (w % u) := pk_rem (d := u) (by omega) hu0 (by omega)
    have ed : nI w / 6 = nI (w / 6) := pk_div (d := 6) (by omega) (by omega) (by omega)
    have hp' : post (dt_i (if w % u = q then true else dt_ct d u q (w / 6))) := hp
    refine br_f (nI_ge (b := 4) (by omega) (by decide)) ⟨nI_ne0 hu0 (by omega), ?_⟩
    rw [er]
    by_cases z : w % u = q
    · rw [if_pos z] at hp'
      rw [z]
      exact br_t rfl hp'
    · rw [if_neg z] at hp'
      exact br_f (fun y => z ((nI_eq (by omega) (by omega)).mp y)) ⟨dt_6, nm_r ed (nm_r (nI_1 i) (xd_contains_l hu0 hu hq d (i + 1) (w / 6) (by omega) (by omega) hp'))⟩
theorem dt_ln_c (q : Nat) : dt_ln q = 0 ∨ dt_ln q = 1 ∨ dt_ln q = 2 ∨ dt_ln q = 3 := by
  unfold dt_ln
  repeat' split
  all_goals omega
theorem xd_contains {post : Int32 → Prop} {w q : Nat} (hw : w < 216) (hq : q < 216) (hd : dt_wd q = true) (hp : post (dt_i (dt_con w q))) : wpX_contains post (nI w) (nI q) := by
  unfold wpX_contains
  refine xd_lettersOf hq ?_
  rw [if_pos hd]
  have hp' : post (dt_i (dt_ct 4 (dt_un q) q w)) := hp
  unfold dt_un at hp'
  rcases dt_ln_c q with e | e | e | e
  · rw [e] at hp' ⊢
    exact br_t rfl ⟨5, xd_contains_l (u := 1) (by decide) (by decide) hq 4 0 w rfl hw hp'⟩
  · rw [e] at hp' ⊢
    exact br_f (by decide) (br_t rfl ⟨5, xd_contains_l (u := 6) (by decide) (by decide) hq 4 0 w rfl hw hp'⟩)
  · rw [e] at hp' ⊢
    exact br_f (by decide) (br_f (by decide) (br_t rfl ⟨5, xd_contains_l (u := 36) (by decide) (by decide) hq 4 0 w rfl hw hp'⟩))
  · rw [e] at hp' ⊢
    exact br_f (by decide) (br_f (by decide) (br_f (by decide) ⟨5, xd_contains_l (u := 216) (by decide) (by decide) hq 4 0 w rfl hw hp'⟩))
/-! the same words for Y -/
def dt_iw (w : Nat) : Nat → Nat → Bool → Bool
  | 0, _, b => b
  | d + 1, k, b => dt_iw w d (k + 1) (b && dt_l w k == 0)
theorem dt_iw_is : ∀ w, w < 216 → dt_iw w (3 - dt_ln w) (dt_ln w) true = dt_wd w := by decide +kernel
def dt_sl (w q pl : Nat) : Nat → Nat → Bool → Bool
  | 0, _, b => b
  | d + 1, k, b => dt_sl w q pl d (k + 1) (b && dt_l w (pl + k) == dt_l q k)
def dt_sa (w q pl : Nat) : Bool := if pl + dt_ln q ≤ dt_ln w then dt_sl w q pl (dt_ln q) 0 true else false
theorem dt_l_lt {w : Nat} (h : w < 216) (k : Nat) : dt_l w k < 6 := by
  unfold dt_l
  repeat' split
  all_goals omega
section
variable {tk hg : Int32} {yt pa na cl al cn vs ki ya nu ps yo wa : Nat → Int32}
theorem yd_letter {post : Int32 → Prop} {w k : Nat} (hw : w < 216) (hk : k < 2 ^ 31) (hp : post (nI (dt_l w k))) : wpY_letter post (tk, hg, yt, pa, na, cl, al, cn, vs, ki, ya, nu, ps, yo, wa) (nI w) (nI k) := by
  have er : nI w - nI w / 6 * 6 = nI (w % 6) := pk_rem (d := 6) (by omega) (by omega) (by omega)
  have ed : nI w / 6 = nI (w / 6) := pk_div (d := 6) (by omega) (by omega) (by omega)
  have er2 : nI (w / 6) - nI (w / 6) / 6 * 6 = nI (w / 6 % 6) := pk_rem (d := 6) (by omega) (by omega) (by omega)
  have ed2 : nI w / 36 = nI (w / 36) := pk_div (d := 36) (by omega) (by omega) (by omega)
  unfold dt_l at hp
  by_cases z : k = 0
  · rw [if_pos z] at hp
    subst z
    refine br_t rfl ⟨dt_6, ?_⟩
    rw [er]
    exact hp
  · rw [if_neg z] at hp
    refine br_f (nI_ne0 (by omega) hk) ?_
    by_cases y : k = 1
    · rw [if_pos y] at hp
      subst y
      refine br_t rfl ⟨dt_6, dt_6, ?_⟩
      rw [ed, er2]
      exact hp
    · rw [if_neg y] at hp
      refine br_f (fun x => y ((nI_eq (b := 1) hk (by omega)).mp x)) ⟨dt_36, ?_⟩
      rw [ed2]
      exact hp
theorem yd_length {post : Int32 → Prop} {w : Nat} (hw : w < 216) (hp : post (nI (dt_ln w))) : wpY_length post (tk, hg, yt, pa, na, cl, al, cn, vs, ki, ya, nu, ps, yo, wa) (nI w) := by
  unfold wpY_length
  refine yd_letter (k := 0) hw (by omega) ?_
  show ((nI (w % 6) = 0 → _) ∧ (¬ nI (w % 6) = 0 → _))
  unfold dt_ln at hp
  by_cases z : w % 6 = 0
  · rw [if_pos z] at hp
    rw [z]
    exact br_t rfl hp
  · rw [if_neg z] at hp
    refine br_f (nI_ne0 (by omega) (by omega)) (yd_letter (k := 1) hw (by omega) ?_)
    show ((nI (w / 6 % 6) = 0 → _) ∧ (¬ nI (w / 6 % 6) = 0 → _))
    by_cases y : w / 6 % 6 = 0
    · rw [if_pos y] at hp
      rw [y]
      exact br_t rfl hp
    · rw [if_neg y] at hp
      refine br_f (nI_ne0 (by omega) (by omega)) (yd_letter (k := 2) hw (by omega) ?_)
      show ((nI (w / 36) = 0 → _) ∧ (¬ nI (w / 36) = 0 → _))
      by_cases x : w / 36 = 0
      · rw [if_pos x] at hp
        rw [x]
        exact br_t rfl hp
      · rw [if_neg x] at hp
        exact br_f (nI_ne0 (by omega) (by omega)) hp
theorem yd_isWord_l {post : Int32 → Prop} {w : Nat} (hw : w < 216) : ∀ d k b, k + d = 3 → post (dt_i (dt_iw w d k b)) → wY_isWord_24 post (nI w) tk hg yt pa na cl al cn vs ki ya nu ps yo wa (d + 1) (dt_i b) (nI k)
  | 0, k, b, h, hp => by
    have z : k = 3 := by omega
    subst z
    exact br_t (nI_le (a := 3) (b := 3) (by omega) (by decide)) ⟨dt_inr b, hp⟩
  | d + 1, k, b, h, hp => by
    have hp' : post (dt_i (dt_iw w d (k + 1) (b && dt_l w k == 0))) := hp
    refine br_f (nI_ge (b := 3) (by omega) (by decide)) ?_
    cases b
    · exact br_t rfl (nm_r (nI_1 k) (yd_isWord_l hw d (k + 1) false (by omega) hp'))
    · have l6 := dt_l_lt hw k
      refine br_f (by decide) (yd_letter hw (by omega) ?_)
      rw [Bool.true_and] at hp'
      by_cases z : dt_l w k = 0
      · rw [z] at hp'
        rw [z]
        exact br_t rfl (nm_r (nI_1 k) (yd_isWord_l hw d (k + 1) true (by omega) hp'))
      · rw [beq_eq_false_iff_ne.mpr z] at hp'
        exact br_f (nI_ne0 (by omega) (by omega)) (nm_r (nI_1 k) (yd_isWord_l hw d (k + 1) false (by omega) hp'))
theorem yd_canBe {post : Int32 → Prop} {a : Nat} {v : Int32} (ha : a < 6) (hp : post (dt_i (dt_ok a v))) : wpY_canBe post (tk, hg, yt, pa, na, cl, al, cn, vs, ki, ya, nu, ps, yo, wa) (nI a) v := by
  by_cases h4 : a < 4
  · refine br_f (nI_ge (b := 4) h4 (by decide)) ?_
    unfold wpY_isWord
    by_cases z : v < 0
    · rw [dt_ok_no h4 (Or.inl z)] at hp
      exact br_t z ⟨rfl, hp⟩
    · by_cases y : v ≤ 215
      · obtain ⟨w, hw, rfl⟩ := nI_of2 (n := 215) (by decide) z y
        rw [dt_ok_nI h4 (by omega), ← dt_iw_is w (by omega)] at hp
        have l3 := dt_ln_c w
        refine br_f z (br_t y (yd_length (by omega) ⟨_, yd_isWord_l (by omega) (3 - dt_ln w) (dt_ln w) true (by omega) ⟨dt_inr _, hp⟩⟩))
      · rw [dt_ok_no h4 (Or.inr y)] at hp
        exact br_f z (br_f y ⟨rfl, hp⟩)
  · refine br_t (nI_le (a := 4) (by omega) (by omega)) ?_
    rw [dt_ok_n h4] at hp
    refine br_c (fun z => ?_) (fun z => br_c (fun y => ?_) (fun y => ?_))
    · rw [Int32.lt_iff_toInt_lt, dt_c999] at z
      rw [decide_eq_false (by omega)] at hp
      exact hp
    · rw [Int32.lt_iff_toInt_lt, dt_d999] at y
      rw [decide_eq_false (by omega)] at hp
      exact hp
    · rw [Int32.lt_iff_toInt_lt, dt_c999] at z
      rw [Int32.lt_iff_toInt_lt, dt_d999] at y
      rw [decide_eq_true (by omega)] at hp
      exact hp
theorem yd_rank {post : Int32 → Prop} {a : Nat} {v : Int32} (ha : a < 6) (hv : dt_ok a v = true) (hp : post (dt_key a v)) : wpY_rank post (tk, hg, yt, pa, na, cl, al, cn, vs, ki, ya, nu, ps, yo, wa) (nI a) v := by
  by_cases h4 : a < 4
  · obtain ⟨w, hw, rfl, _⟩ := dt_ok_w h4 hv
    refine br_t (nI_le (b := 3) (by omega) (by decide)) ?_
    refine yd_letter (k := 0) hw (by omega) (yd_letter (k := 1) hw (by omega) (yd_letter (k := 2) hw (by omega) ?_))
    rw [dt_key_nI h4 hw] at hp
    have e : nI 36 * nI (w % 6) + nI 6 * nI (w / 6 % 6) + nI (w / 36) = nI (dt_ky w) := by
      rw [pk_mul, pk_mul, nI_add, nI_add]
      rfl
    rw [← e] at hp
    exact hp
  · rw [dt_key_n h4] at hp
    exact br_f (fun z => absurd ((nI_leI (b := 3) (by omega) (by omega)).mp z) (by omega)) hp
theorem yd_standsAt_l {post : Int32 → Prop} {w q pl : Nat} (hw : w < 216) (hq : q < 216) (hpl : pl < 3) : ∀ d k b, k + d = dt_ln q → post (dt_i (dt_sl w q pl d k b)) → wY_standsAt_27 post (nI w) (nI q) (nI pl) (nI (dt_ln q)) tk hg yt pa na cl al cn vs ki ya nu ps yo wa (d + 1) (dt_i b) (nI k)
  | 0, k, b, h, hp => by
    have c3 := dt_ln_c q
    have z : k = dt_ln q := by omega
    subst z
    exact br_t (nI_le (Nat.le_refl _) (by omega)) ⟨dt_inr b, hp⟩
  | d + 1, k, b, h, hp => by
    have c3 := dt_ln_c q
    have hp' : post (dt_i (dt_sl w q pl d (k + 1) (b && dt_l w (pl + k) == dt_l q k))) := hp
    refine br_f (nI_ge (by omega) (by omega)) ?_
    cases b
    · exact br_t rfl (nm_r (nI_1 k) (yd_standsAt_l hw hq hpl d (k + 1) false (by omega) hp'))
    · have l6 := dt_l_lt hw (pl + k)
      have l7 := dt_l_lt hq k
      refine br_f (by decide) ?_
      rw [nI_add]
      refine yd_letter hw (by omega) (yd_letter hq (by omega) ?_)
      rw [Bool.true_and] at hp'
      by_cases z : dt_l w (pl + k) = dt_l q k
      · rw [z, beq_self_eq_true] at hp'
        rw [z]
        exact br_t rfl (nm_r (nI_1 k) (yd_standsAt_l hw hq hpl d (k + 1) true (by omega) hp'))
      · rw [beq_eq_false_iff_ne.mpr z] at hp'
        exact br_f (fun y => z ((nI_eq (by omega) (by omega)).mp y)) (nm_r (nI_1 k) (yd_standsAt_l hw hq hpl d (k + 1) false (by omega) hp'))
theorem yd_standsAt {post : Int32 → Prop} {w q pl : Nat} (hw : w < 216) (hq : q < 216) (hpl : pl < 3) (hp : post (dt_i (dt_sa w q pl))) : wpY_standsAt post (tk, hg, yt, pa, na, cl, al, cn, vs, ki, ya, nu, ps, yo, wa) (nI w) (nI q) (nI pl) := by
  have c3 := dt_ln_c q
  have c4 := dt_ln_c w
  unfold wpY_standsAt
  refine yd_length hq (yd_length hw ?_)
  rw [nI_add]
  unfold dt_sa at hp
  by_cases z : pl + dt_ln q ≤ dt_ln w
  · rw [if_pos z] at hp
    exact br_t (nI_le z (by omega)) ⟨_, yd_standsAt_l hw hq hpl (dt_ln q) 0 true (by omega) hp⟩
  · rw [if_neg z] at hp
    exact br_f (nI_ge (by omega) (by omega)) hp
end
/-! what a token asks of a value: Y by letters, X by keys -/
def dt_mt (s a : Nat) (x v : Int32) : Bool :=
  if s = 0 then true else if s = 1 then x == v else if s = 2 then decide ((dt_key a v).toInt ≤ (dt_key a x).toInt)
  else if s = 3 then dt_sa x.toNatClampNeg v.toNatClampNeg 0
  else dt_sa x.toNatClampNeg v.toNatClampNeg 0 || dt_sa x.toNatClampNeg v.toNatClampNeg 1 || dt_sa x.toNatClampNeg v.toNatClampNeg 2
def dt_rm (q : Nat) : Nat := if dt_ln q = 0 then 216 else if dt_ln q = 1 then 36 else if dt_ln q = 2 then 6 else 1
section
variable {tk hg : Int32} {yt pa na cl al cn vs ki ya nu ps yo wa : Nat → Int32}
theorem yd_meets {post : Int32 → Prop} {s a : Nat} {x v : Int32} (hs : s ≤ 4) (ha : a < 6) (h3 : 2 < s → a < 4) (hx : dt_ok a x = true) (hv : 0 < s → dt_ok a v = true) (hp : post (dt_i (dt_mt s a x v))) : wpY_meets post (tk, hg, yt, pa, na, cl, al, cn, vs, ki, ya, nu, ps, yo, wa) (nI s) (nI a) x v := by
  unfold dt_mt at hp
  by_cases s0 : s = 0
  · rw [if_pos s0] at hp
    subst s0
    exact br_t rfl hp
  rw [if_neg s0] at hp
  have hw := hv (by omega)
  refine br_f (nI_ne0 (by omega) (by omega)) ?_
  by_cases s1 : s = 1
  · rw [if_pos s1] at hp
    subst s1
    refine br_t rfl (br_c (fun z => ?_) (fun z => ?_))
    · rw [z, beq_self_eq_true] at hp
      exact hp
    · rw [beq_eq_false_iff_ne.mpr z] at hp
      exact hp
  rw [if_neg s1] at hp
  refine br_f (fun z => s1 ((nI_eq (b := 1) (by omega) (by omega)).mp z)) ?_
  by_cases s2 : s = 2
  · rw [if_pos s2] at hp
    subst s2
    refine br_t rfl (yd_rank ha hx (yd_rank ha hw (br_c (fun z => ?_) (fun z => ?_))))
    · rw [Int32.lt_iff_toInt_lt] at z
      rw [decide_eq_false (by omega)] at hp
      exact hp
    · rw [Int32.lt_iff_toInt_lt] at z
      rw [decide_eq_true (by omega)] at hp
      exact hp
  rw [if_neg s2] at hp
  refine br_f (fun z => s2 ((nI_eq (b := 2) (by omega) (by omega)).mp z)) ?_
  have a4 := h3 (by omega)
  obtain ⟨q, hq, rfl, _⟩ := dt_ok_w a4 hw
  clear hw hv
  obtain ⟨w, hw, rfl, _⟩ := dt_ok_w a4 hx
  rw [nI_clamp (by omega), nI_clamp (by omega)] at hp
  refine yd_standsAt (pl := 0) hw hq (by omega) ?_
  by_cases s3 : s = 3
  · rw [if_pos s3] at hp
    subst s3
    exact ⟨1, br_f (by decide) (br_f (by decide) ⟨dt_inr _, hp⟩)⟩
  rw [if_neg s3] at hp
  have s4 : s = 4 := by omega
  subst s4
  refine ⟨3, br_f (by decide) (br_t rfl ?_)⟩
  cases z : dt_sa w q 0
  · rw [z, Bool.false_or] at hp
    refine br_t rfl (yd_standsAt (pl := 1) hw hq (by omega) ?_)
    cases y : dt_sa w q 1
    · rw [y, Bool.false_or] at hp
      refine br_t rfl (nm_r (e' := 2) rfl (br_f (by decide) (br_t rfl (br_t rfl (yd_standsAt (pl := 2) hw hq (by omega) ?_)))))
      cases x : dt_sa w q 2
      · rw [x] at hp
        exact br_t rfl (nm_r (e' := 3) rfl (br_t (by decide) ⟨rfl, hp⟩))
      · rw [x] at hp
        exact br_f (by decide) (nm_r (e' := 3) rfl (br_t (by decide) ⟨rfl, hp⟩))
    · rw [y] at hp
      refine br_f (by decide) (nm_r (e' := 2) rfl (br_f (by decide) (br_t rfl (br_f (by decide) (nm_r (e' := 3) rfl (br_t (by decide) ⟨rfl, hp⟩))))))
  · rw [z] at hp
    refine br_f (by decide) (nm_r (e' := 2) rfl (br_f (by decide) (br_t rfl (br_f (by decide) (nm_r (e' := 3) rfl (br_t (by decide) ⟨rfl, hp⟩))))))
end
end
section
/-! two tables over all words -/
theorem dt_beg : ∀ q, q < 216 → dt_wd q = true → ∀ w, w < 216 → dt_wd w = true → dt_sa w q 0 = (decide (dt_ky q ≤ dt_ky w) && decide (dt_ky w < dt_ky q + dt_rm q)) := by decide +kernel
theorem dt_cont : ∀ q, q < 216 → dt_wd q = true → ∀ w, w < 216 → dt_wd w = true → dt_con w q = (dt_sa w q 0 || dt_sa w q 1 || dt_sa w q 2) := by decide +kernel
end
section
/-! X: the index -/
def dt_cd (ia ik : Nat → Int32) (i : Nat) : Int := (ia i).toInt * 4096 + (ik i).toInt
def rl_IX (T : Nat → Bool) (n : Nat) (ia ik iv ho : Nat → Int32) : Prop :=
  n ≤ 576 ∧
  (∀ i, i < n → ia i = nI (dt_p ia i) ∧ dt_p ia i < 6 ∧ dt_ok (dt_p ia i) (iv i) = true ∧ ik i = dt_key (dt_p ia i) (iv i) ∧ ho i ≠ 0 ∧ ∀ b, bt (ho i) b = true → b < 24 ∧ T b = true) ∧
  (∀ i j, i < j → j < n → dt_cd ia ik i < dt_cd ia ik j)
def dt_PL (ia ik : Nat → Int32) (n : Nat) (C : Int) (r : Nat) : Prop := r ≤ n ∧ (∀ j, j < r → dt_cd ia ik j < C) ∧ ∀ j, r ≤ j → j < n → C ≤ dt_cd ia ik j
/-- what a place says in numbers -/
theorem rl_IX_p {T : Nat → Bool} {n : Nat} {ia ik iv ho : Nat → Int32} (h : rl_IX T n ia ik iv ho) {i : Nat} (hi : i < n) : ia i = nI (dt_p ia i) ∧ dt_p ia i < 6 ∧ dt_cd ia ik i = (dt_p ia i : Int) * 4096 + (ik i).toInt ∧ -999 ≤ (ik i).toInt ∧ (ik i).toInt ≤ 999 := by
  obtain ⟨a, b, c, d, _⟩ := h.2.1 i hi
  have k := dt_key_r c
  rw [← d] at k
  refine ⟨a, b, ?_, k⟩
  unfold dt_cd
  rw [show (ia i).toInt = (dt_p ia i : Int) from by rw [a]; exact nI_toInt (by omega)]
theorem rl_IX_e {T : Nat → Bool} {n : Nat} {ia ik iv ho : Nat → Int32} (h : rl_IX T n ia ik iv ho) {i a : Nat} (hi : i < n) (ha : a < 6) : ia i = nI a ↔ dt_p ia i = a := by
  have p := rl_IX_p h hi
  rw [p.1]
  exact nI_eq (by omega) (by omega)
def dt_h (ia ho : Nat → Int32) (a e : Nat) (j : Nat) : Bool := (ia j == nI a) && bt (ho j) e
section
variable {th od mn ix tk hg de : Int32} {pa na cl al so bl ia ik iv ho ki ta nu sp tr un : Nat → Int32} {T : Nat → Bool}
theorem xd_copyPlace {post : SX → Prop} {f t : Nat} (hf : f < 576) (ht : t < 576) (hp : post (th, od, mn, ix, tk, hg, de, pa, na, cl, al, so, bl, upd ia t (ia f), upd ik t (ik f), upd iv t (iv f), upd ho t (ho f), ki, ta, nu, sp, tr, un)) : wpX_copyPlace post (th, od, mn, ix, tk, hg, de, pa, na, cl, al, so, bl, ia, ik, iv, ho, ki, ta, nu, sp, tr, un) (nI f) (nI t) := by
  have cf : (nI f).toNatClampNeg = f := nI_clamp (by omega)
  have ct : (nI t).toNatClampNeg = t := nI_clamp (by omega)
  have vf : vp_in (nI f) 576 := vp_in_nI hf (by decide)
  have vt : vp_in (nI t) 576 := vp_in_nI ht (by decide)
  exact ⟨vf, vt, nm_r (e' := upd ia t (ia f)) (by rw [cf, ct]) ⟨vf, vt, nm_r (e' := upd ik t (ik f)) (by rw [cf, ct]) ⟨vf, vt, nm_r (e' := upd iv t (iv f)) (by rw [cf, ct]) ⟨vf, vt, nm_r (e' := upd ho t (ho f)) (by rw [cf, ct]) hp⟩⟩⟩⟩
theorem xd_placeOf_l {n a : Nat} (h : rl_IX T n ia ik iv ho) (ha : a < 6) {k : Int32} (hk : -1000 ≤ k.toInt ∧ k.toInt ≤ 1999) {post : Int32 → Prop} (hp : ∀ r, dt_PL ia ik n ((a : Int) * 4096 + k.toInt) r → post (nI r)) :
    ∀ m i lo hi, i + m = 12 → lo ≤ hi → hi ≤ n → hi - lo < 2 ^ m → (∀ j, j < lo → dt_cd ia ik j < (a : Int) * 4096 + k.toInt) → (∀ j, hi ≤ j → j < n → (a : Int) * 4096 + k.toInt ≤ dt_cd ia ik j) → wX_placeOf_11 post (nI a) k th od mn ix tk hg de pa na cl al so bl ia ik iv ho ki ta nu sp tr un (m + 1) (nI lo) (nI hi) (nI i)
  | 0, i, lo, hi, e, l1, l2, l3, f1, f2 => by
    have z : i = 12 := by omega
    subst z
    have y : hi = lo := by
      have : (2 : Nat) ^ 0 = 1 := rfl
      omega
    subst y
    exact br_t (nI_le (a := 12) (b := 12) (by omega) (by decide)) (hp hi ⟨l2, f1, f2⟩)
  | m + 1, i, lo, hi, e, l1, l2, l3, f1, f2 => by
    have n576 := h.1
    refine br_f (nI_ge (b := 12) (by omega) (by decide)) ?_
    by_cases z : hi ≤ lo
    · have y : hi = lo := by omega
      subst y
      exact br_t (nI_le (Nat.le_refl _) (by omega)) (hp hi ⟨l2, f1, f2⟩)
    · have em : (nI lo + nI hi) / 2 = nI ((lo + hi) / 2) := by
        rw [nI_add]
        exact pk_div (d := 2) (by omega) (by omega) (by omega)
      have l4 : hi - lo < 2 ^ m * 2 := by rw [← Nat.pow_succ]; exact l3
      obtain ⟨mid, hm⟩ : ∃ mid, mid = (lo + hi) / 2 := ⟨_, rfl⟩
      rw [← hm] at em
      obtain ⟨p1, p2, p3, p4, p5⟩ := rl_IX_p h (i := mid) (by omega)
      have pd : dt_p ia mid < 2 ^ 31 := by omega
      have cm : (nI mid).toNatClampNeg = mid := nI_clamp (by omega)
      have vm : vp_in (nI mid) 576 := vp_in_nI (by omega) (by decide)
      have go1 : dt_cd ia ik mid < (a : Int) * 4096 + k.toInt → wX_placeOf_11 post (nI a) k th od mn ix tk hg de pa na cl al so bl ia ik iv ho ki ta nu sp tr un (m + 1) (nI (mid + 1)) (nI hi) (nI (i + 1)) := fun w =>
        xd_placeOf_l h ha hk hp m (i + 1) (mid + 1) hi (by omega) (by omega) l2 (by omega) (fun j hj => by
          rcases Nat.lt_or_ge j mid with q | q
          · have := h.2.2 j mid q (by omega)
            omega
          · rw [show j = mid from by omega]
            exact w) f2
      have go0 : (a : Int) * 4096 + k.toInt ≤ dt_cd ia ik mid → wX_placeOf_11 post (nI a) k th od mn ix tk hg de pa na cl al so bl ia ik iv ho ki ta nu sp tr un (m + 1) (nI lo) (nI mid) (nI (i + 1)) := fun w =>
        xd_placeOf_l h ha hk hp m (i + 1) lo mid (by omega) (by omega) (by omega) (by omega) f1 (fun j hj hn => by
          rcases Nat.lt_or_ge mid j with q | q
          · have := h.2.2 mid j q hn
            omega
          · rw [show j = mid from by omega]
            exact w)
      refine br_f (nI_ge (by omega) (by omega)) ⟨by decide, nm_r em ⟨vm, br_c (fun c => ?_) (fun c => ⟨vm, br_c (fun c2 => ⟨vm, br_c (fun c3 => ?_) (fun c3 => ?_)⟩) (fun c2 => ?_)⟩)⟩⟩
      · rw [cm, p1, nI_ltI pd (by omega)] at c
        exact br_f (by decide) (nm_r (nI_1 mid) (nm_r (nI_1 i) (go1 (by rw [p3]; omega))))
      · rw [cm, Int32.le_iff_toInt_le] at c3
        rw [cm] at c2
        have c2' := (rl_IX_e h (by omega) ha).mp c2
        exact br_t rfl (nm_r (nI_1 i) (go0 (by rw [p3]; omega)))
      · rw [cm, Int32.le_iff_toInt_le] at c3
        rw [cm] at c2
        have c2' := (rl_IX_e h (by omega) ha).mp c2
        exact br_f (by decide) (nm_r (nI_1 mid) (nm_r (nI_1 i) (go1 (by rw [p3]; omega))))
      · rw [cm, p1, nI_ltI pd (by omega)] at c
        rw [cm] at c2
        have c2' : ¬ dt_p ia mid = a := fun q => c2 ((rl_IX_e h (by omega) ha).mpr q)
        exact br_t rfl (nm_r (nI_1 i) (go0 (by rw [p3]; omega)))
theorem xd_placeOf {n a : Nat} (h : rl_IX T n ia ik iv ho) (ha : a < 6) {k : Int32} (hk : -1000 ≤ k.toInt ∧ k.toInt ≤ 1999) {post : Int32 → Prop} (hp : ∀ r, dt_PL ia ik n ((a : Int) * 4096 + k.toInt) r → post (nI r)) : wpX_placeOf post (th, od, mn, nI n, tk, hg, de, pa, na, cl, al, so, bl, ia, ik, iv, ho, ki, ta, nu, sp, tr, un) (nI a) k := by
  have n576 := h.1
  exact ⟨13, xd_placeOf_l h ha hk hp 12 0 0 n rfl (Nat.zero_le _) (Nat.le_refl _) (by omega) (fun j hj => absurd hj (by omega)) (fun j hj hn => absurd hn (by omega))⟩
/-- the place of a value, or -1 -/
theorem xd_indexOf {n a : Nat} (h : rl_IX T n ia ik iv ho) (ha : a < 6) {v : Int32} (hv : dt_ok a v = true) {post : Int32 → Prop}
    (h1 : ∀ i, i < n → ia i = nI a → iv i = v → post (nI i)) (h2 : (∀ i, i < n → ia i = nI a → iv i ≠ v) → post (-1)) : wpX_indexOf post (th, od, mn, nI n, tk, hg, de, pa, na, cl, al, so, bl, ia, ik, iv, ho, ki, ta, nu, sp, tr, un) (nI a) v := by
  have n576 := h.1
  have kr := dt_key_r hv
  unfold wpX_indexOf
  refine xd_keyOf ha hv (xd_placeOf h ha (by omega) (fun r hr => ?_))
  have no : (∀ i, i < n → dt_cd ia ik i ≠ (a : Int) * 4096 + (dt_key a v).toInt) → post (-1) := fun w => h2 (fun i hi e1 e2 => by
    obtain ⟨p1, p2, p3, p4, p5⟩ := rl_IX_p h hi
    have q := (rl_IX_e h hi ha).mp e1
    apply w i hi
    rw [p3, q, (h.2.1 i hi).2.2.2.1, q, e2])
  by_cases z : n ≤ r
  · refine br_t (nI_le z (by have := hr.1; omega)) (no fun i hi => ?_)
    have := hr.2.1 i (by omega)
    omega
  · have rn : r < n := by omega
    obtain ⟨p1, p2, p3, p4, p5⟩ := rl_IX_p h rn
    have cr : (nI r).toNatClampNeg = r := nI_clamp (by omega)
    have vr : vp_in (nI r) 576 := vp_in_nI (by omega) (by decide)
    have r1 := hr.2.2 r (Nat.le_refl _) rn
    have no' : (a : Int) * 4096 + (dt_key a v).toInt < dt_cd ia ik r → post (-1) := fun w => no fun i hi => by
      rcases Nat.lt_trichotomy i r with q | q | q
      · have := hr.2.1 i q
        omega
      · rw [q]; omega
      · have := h.2.2 r i q hi
        omega
    refine br_f (nI_ge rn (by omega)) ⟨vr, br_c (fun c => ⟨vr, br_c (fun c2 => ?_) (fun c2 => ?_)⟩) (fun c => ?_)⟩
    · rw [cr] at c c2
      have q := (rl_IX_e h rn ha).mp c
      refine h1 r rn c (dt_key_inj (a := a) ?_ hv ?_)
      · rw [← q]; exact (h.2.1 r rn).2.2.1
      · rw [← c2, (h.2.1 r rn).2.2.2.1, q]
    · rw [cr] at c c2
      have q := (rl_IX_e h rn ha).mp c
      apply no'
      have : (ik r).toInt ≠ (dt_key a v).toInt := fun y => c2 (Int32.toInt_inj.mp y)
      rw [p3, q] at r1 ⊢
      omega
    · rw [cr] at c
      have q : ¬ dt_p ia r = a := fun y => c ((rl_IX_e h rn ha).mpr y)
      apply no'
      rw [p3] at r1 ⊢
      omega
/-- one attribute's places from the first on: none ahead, none behind another one -/
theorem dt_ahead {n a : Nat} (h : rl_IX T n ia ik iv ho) (ha : a < 6) {r : Nat} (hr : dt_PL ia ik n ((a : Int) * 4096 + (-1000 : Int32).toInt) r) {i : Nat} (hi : i < r) : ia i ≠ nI a := by
  intro z
  have hn : i < n := by have := hr.1; omega
  obtain ⟨p1, p2, p3, p4, p5⟩ := rl_IX_p h hn
  have q := (rl_IX_e h hn ha).mp z
  have k := hr.2.1 i hi
  have c : (-1000 : Int32).toInt = -1000 := by decide
  rw [c, p3, q] at k
  omega
theorem dt_behind {n a : Nat} (h : rl_IX T n ia ik iv ho) (ha : a < 6) {C : Int} {r : Nat} (hr : dt_PL ia ik n ((a : Int) * 4096 + C) r) (hC : -1000 ≤ C) {j : Nat} (hj : r ≤ j) (hn : j < n) (hne : ia j ≠ nI a) {i : Nat} (hi : j ≤ i) (hi' : i < n) : ia i ≠ nI a := by
  intro z
  obtain ⟨p1, p2, p3, p4, p5⟩ := rl_IX_p h hn
  obtain ⟨q1, q2, q3, q4, q5⟩ := rl_IX_p h hi'
  have w := (rl_IX_e h hi' ha).mp z
  have w' : ¬ dt_p ia j = a := fun y => hne ((rl_IX_e h hn ha).mpr y)
  have k := hr.2.2 j hj hn
  rw [p3] at k
  rcases Nat.lt_or_ge j i with y | y
  · have s := h.2.2 j i y hi'
    rw [p3, q3, w] at s
    omega
  · have e : i = j := by omega
    subst e
    exact hne z
theorem xd_valuesOf_l {n a e : Nat} (h : rl_IX T n ia ik iv ho) (ha : a < 6) (he : e < 24) {r : Nat} (hr : dt_PL ia ik n ((a : Int) * 4096 + (-1000 : Int32).toInt) r) {post : Int32 → Prop} (hp : post (nI (dt_n (dt_h ia ho a e) n))) :
    ∀ d j, j + d = n → r ≤ j → wX_valuesOf_12 post (nI e) (nI a) th od mn (nI n) tk hg de pa na cl al so bl ia ik iv ho ki ta nu sp tr un (d + 1) (nI (dt_n (dt_h ia ho a e) j)) (nI j)
  | 0, j, hd, hj => by
    have n576 := h.1
    have z : j = n := by omega
    subst z
    exact br_t (nI_le (Nat.le_refl _) (by omega)) hp
  | d + 1, j, hd, hj => by
    have n576 := h.1
    have cj : (nI j).toNatClampNeg = j := nI_clamp (by omega)
    have vj : vp_in (nI j) 576 := vp_in_nI (by omega) (by decide)
    have g := xd_valuesOf_l h ha he hr hp d (j + 1) (by omega) (by omega)
    refine br_f (nI_ge (by omega) (by omega)) ⟨vj, br_c (fun c => ⟨vj, ?_⟩) (fun c => ?_)⟩
    · rw [cj] at c ⊢
      rw [dt_b1 (ho j) (by omega)]
      cases b : bt (ho j) e
      · rw [dt_n_f (show dt_h ia ho a e j = false from by unfold dt_h; rw [b, Bool.and_false])] at g
        exact nm_r (e' := nI (dt_n (dt_h ia ho a e) j)) (by rw [if_neg (by decide)]; exact Int32.add_zero _) (nm_r (nI_1 j) g)
      · rw [dt_n_t (show dt_h ia ho a e j = true from by unfold dt_h; rw [b, c, beq_self_eq_true]; rfl)] at g
        exact nm_r (e' := nI (dt_n (dt_h ia ho a e) j + 1)) (by rw [if_pos rfl]; exact nI_1 _) (nm_r (nI_1 j) g)
    · rw [cj] at c
      have e0 : dt_n (dt_h ia ho a e) (j + (d + 1)) = dt_n (dt_h ia ho a e) j := dt_n_up (d + 1) fun i h1 h2 => by
        unfold dt_h
        rw [beq_eq_false_iff_ne.mpr (dt_behind h ha hr (by decide) hj (by omega) c h1 (by omega)), Bool.false_and]
      rw [hd] at e0
      rw [e0] at hp
      exact hp
theorem dt_h0 {n a e : Nat} (h : rl_IX T n ia ik iv ho) (ha : a < 6) {r : Nat} (hr : dt_PL ia ik n ((a : Int) * 4096 + (-1000 : Int32).toInt) r) : dt_n (dt_h ia ho a e) r = 0 := dt_n_0 fun i hi => by
  unfold dt_h
  rw [beq_eq_false_iff_ne.mpr (dt_ahead h ha hr hi), Bool.false_and]
theorem xd_valuesOf {n a e : Nat} (h : rl_IX T n ia ik iv ho) (ha : a < 6) (he : e < 24) {post : Int32 → Prop} (hp : post (nI (dt_n (dt_h ia ho a e) n))) : wpX_valuesOf post (th, od, mn, nI n, tk, hg, de, pa, na, cl, al, so, bl, ia, ik, iv, ho, ki, ta, nu, sp, tr, un) (nI e) (nI a) := by
  unfold wpX_valuesOf
  refine xd_placeOf h ha (by decide) (fun r hr => ?_)
  have g : wX_valuesOf_12 post (nI e) (nI a) th od mn (nI n) tk hg de pa na cl al so bl ia ik iv ho ki ta nu sp tr un (n - r + 1) (nI (dt_n (dt_h ia ho a e) r)) (nI r) := xd_valuesOf_l h ha he hr hp (n - r) r (by have := hr.1; omega) (Nat.le_refl _)
  rw [dt_h0 h ha hr] at g
  exact ⟨_, g⟩
theorem xd_valueAt_l {n a e : Nat} (h : rl_IX T n ia ik iv ho) (ha : a < 6) (he : e < 24) {k : Int32} {r : Nat} (hr : dt_PL ia ik n ((a : Int) * 4096 + (-1000 : Int32).toInt) r) {post : Int32 → Prop}
    (h1 : ∀ j, j < n → dt_h ia ho a e j = true → k = nI (dt_n (dt_h ia ho a e) j) → post (iv j)) (h2 : (∀ j, j < n → dt_h ia ho a e j = true → k ≠ nI (dt_n (dt_h ia ho a e) j)) → post (-1001)) :
    ∀ d j, j + d = n → r ≤ j → (∀ i, i < j → dt_h ia ho a e i = true → k ≠ nI (dt_n (dt_h ia ho a e) i)) → wX_valueAt_36 post (nI e) (nI a) k th od mn (nI n) tk hg de pa na cl al so bl ia ik iv ho ki ta nu sp tr un (d + 1) (nI (dt_n (dt_h ia ho a e) j)) (nI j)
  | 0, j, hd, hj, hs => by
    have n576 := h.1
    have z : j = n := by omega
    subst z
    exact br_t (nI_le (Nat.le_refl _) (by omega)) (h2 hs)
  | d + 1, j, hd, hj, hs => by
    have n576 := h.1
    have cj : (nI j).toNatClampNeg = j := nI_clamp (by omega)
    have vj : vp_in (nI j) 576 := vp_in_nI (by omega) (by decide)
    refine br_f (nI_ge (by omega) (by omega)) ⟨vj, br_c (fun c => ⟨vj, br_c (fun c2 => br_c (fun c3 => ⟨vj, ?_⟩) (fun c3 => ?_)) (fun c2 => ?_)⟩) (fun c => ?_)⟩
    · rw [cj] at c c2 ⊢
      have b := (dt_t (ho j) (show e < 32 from by omega)).mp c2
      exact h1 j (by omega) (by unfold dt_h; rw [b, c, beq_self_eq_true]; rfl) c3.symm
    · rw [cj] at c c2
      have b := (dt_t (ho j) (show e < 32 from by omega)).mp c2
      have q : dt_h ia ho a e j = true := by unfold dt_h; rw [b, c, beq_self_eq_true]; rfl
      have g := xd_valueAt_l h ha he hr h1 h2 d (j + 1) (by omega) (by omega) (fun i hi hq => by
        by_cases z : i = j
        · rw [z]
          exact fun y => c3 y.symm
        · exact hs i (by omega) hq)
      rw [dt_n_t q] at g
      exact nm_r (nI_1 _) (nm_r (nI_1 j) g)
    · rw [cj] at c2
      have b : bt (ho j) e = false := dt_bf fun y => c2 ((dt_t (ho j) (show e < 32 from by omega)).mpr y)
      have q : dt_h ia ho a e j = false := by unfold dt_h; rw [b, Bool.and_false]
      have g := xd_valueAt_l h ha he hr h1 h2 d (j + 1) (by omega) (by omega) (fun i hi hq => by
        by_cases z : i = j
        · rw [z, q] at hq
          exact absurd hq (by decide)
        · exact hs i (by omega) hq)
      rw [dt_n_f q] at g
      exact nm_r (nI_1 j) g
    · rw [cj] at c
      refine h2 fun i hi hq => ?_
      rcases Nat.lt_or_ge i j with z | z
      · exact hs i z hq
      · unfold dt_h at hq
        rw [beq_eq_false_iff_ne.mpr (dt_behind h ha hr (by decide) hj (by omega) c z (by omega)), Bool.false_and] at hq
        exact absurd hq (by decide)
end
end
section
/-! X: sets out of the index, sweep, a new place -/
def dt_SW (ho : Nat → Int32) (k i : Nat) (g : Nat → Nat) : Prop :=
  k ≤ i ∧ (∀ j, j < k → g j < i ∧ ho (g j) ≠ 0) ∧ (∀ j l, j < l → l < k → g j < g l) ∧ (∀ q, q < i → ho q ≠ 0 → ∃ j, j < k ∧ g j = q)
theorem dt_SW_n {ho : Nat → Int32} {k i : Nat} {g : Nat → Nat} (h : dt_SW ho k i g) (z : ho i = 0) : dt_SW ho k (i + 1) g := by
  obtain ⟨a, b, c, d⟩ := h
  refine ⟨by omega, fun j hj => ⟨by have := (b j hj).1; omega, (b j hj).2⟩, c, fun q hq hn => ?_⟩
  by_cases y : q = i
  · rw [y] at hn
    exact absurd z hn
  · exact d q (by omega) hn
def dt_ex (g : Nat → Nat) (k i j : Nat) : Nat := if j = k then i else g j
theorem dt_ex_s (g : Nat → Nat) (k i : Nat) : dt_ex g k i k = i := if_pos rfl
theorem dt_ex_n (g : Nat → Nat) (k i : Nat) {j : Nat} (h : ¬ j = k) : dt_ex g k i j = g j := if_neg h
theorem dt_SW_k {ho : Nat → Int32} {k i : Nat} {g : Nat → Nat} (h : dt_SW ho k i g) (z : ho i ≠ 0) : dt_SW ho (k + 1) (i + 1) (dt_ex g k i) := by
  obtain ⟨a, b, c, d⟩ := h
  refine ⟨by omega, fun j hj => ?_, fun j l hj hl => ?_, fun q hq hn => ?_⟩
  · by_cases y : j = k
    · rw [y, dt_ex_s]
      exact ⟨by omega, z⟩
    · rw [dt_ex_n g k i y]
      have := b j (by omega)
      exact ⟨by omega, this.2⟩
  · rw [dt_ex_n g k i (show ¬ j = k from by omega)]
    by_cases y : l = k
    · rw [y, dt_ex_s]
      exact (b j (by omega)).1
    · rw [dt_ex_n g k i y]
      exact c j l hj (by omega)
  · by_cases y : q = i
    · exact ⟨k, by omega, by rw [dt_ex_s, y]⟩
    · obtain ⟨j, hj, e⟩ := d q (by omega) hn
      exact ⟨j, by omega, by rw [dt_ex_n g k i (show ¬ j = k from by omega), e]⟩
/-- four arrays by a map -/
def dt_G (g : Nat → Nat) (k : Nat) (ia ik iv ho ja jk jv jo : Nat → Int32) : Prop := ∀ j, j < k → ja j = ia (g j) ∧ jk j = ik (g j) ∧ jv j = iv (g j) ∧ jo j = ho (g j)
def dt_sf (t d : Nat) (f : Nat → Int32) (j : Nat) : Int32 := if t < j ∧ j ≤ t + d then f (j - 1) else f j
theorem dt_sf_0 (t : Nat) (f : Nat → Int32) : dt_sf t 0 f = f := by
  funext j
  unfold dt_sf
  rw [if_neg (by omega)]
theorem dt_sf_s (t d : Nat) (f : Nat → Int32) : dt_sf t d (upd f (t + d + 1) (f (t + d))) = dt_sf t (d + 1) f := by
  funext j
  unfold dt_sf
  by_cases a : t < j ∧ j ≤ t + d
  · rw [if_pos a, if_pos (show t < j ∧ j ≤ t + (d + 1) from by omega), pk_un (by omega)]
  · rw [if_neg a]
    by_cases b : j = t + d + 1
    · rw [b, pk_us, if_pos (by omega)]
      rfl
    · rw [pk_un b, if_neg (by omega)]
section
variable {th od mn ix tk hg de : Int32} {pa na cl al so bl ia ik iv ho ki ta nu sp tr un : Nat → Int32} {T : Nat → Bool}
theorem xd_sweep_l {n : Nat} (n576 : n ≤ 576) {post : SX → Prop} {ja jk jv jo : Nat → Int32}
    (hp : ∀ k g (ia ik iv ho : Nat → Int32), dt_SW jo k n g → dt_G g k ja jk jv jo ia ik iv ho → post (th, od, mn, nI k, tk, hg, de, pa, na, cl, al, so, bl, ia, ik, iv, ho, ki, ta, nu, sp, tr, un)) :
    ∀ (d i k : Nat) (g : Nat → Nat) (ia ik iv ho : Nat → Int32), i + d = n → dt_SW jo k i g → dt_G g k ja jk jv jo ia ik iv ho → (∀ j, i ≤ j → ia j = ja j ∧ ik j = jk j ∧ iv j = jv j ∧ ho j = jo j) → wX_sweep_4 post (d + 1) (nI k) (nI i) th od mn (nI n) tk hg de pa na cl al so bl ia ik iv ho ki ta nu sp tr un
  | 0, i, k, g, ia, ik, iv, ho, hd, hs, hgg, _ => by
    have z : i = n := by omega
    subst z
    exact br_t (nI_le (Nat.le_refl _) (by omega)) (hp k g ia ik iv ho hs hgg)
  | d + 1, i, k, g, ia, ik, iv, ho, hd, hs, hgg, hr => by
    have ci : (nI i).toNatClampNeg = i := nI_clamp (by omega)
    have kii := hs.1
    refine br_f (nI_ge (by omega) (by omega)) ⟨vp_in_nI (by omega) (by decide), br_c (fun c => ?_) (fun c => ?_)⟩
    · rw [ci, (hr i (Nat.le_refl _)).2.2.2] at c
      exact nm_r (nI_1 i) (xd_sweep_l n576 hp d (i + 1) k g ia ik iv ho (by omega) (dt_SW_n hs c) hgg (fun j hj => hr j (by omega)))
    · rw [ci, (hr i (Nat.le_refl _)).2.2.2] at c
      refine xd_copyPlace (by omega) (by omega) (nm_r (nI_1 k) (nm_r (nI_1 i) ?_))
      refine xd_sweep_l n576 hp d (i + 1) (k + 1) _ _ _ _ _ (by omega) (dt_SW_k hs c) ?_ ?_
      · intro j hj
        have r := hr i (Nat.le_refl _)
        by_cases y : j = k
        · subst y
          rw [pk_us, pk_us, pk_us, pk_us, dt_ex_s]
          exact r
        · rw [pk_un y, pk_un y, pk_un y, pk_un y, dt_ex_n g k i y]
          exact hgg j (by omega)
      · intro j hj
        have y : j ≠ k := by omega
        rw [pk_un y, pk_un y, pk_un y, pk_un y]
        exact hr j (by omega)
theorem xd_sweep {n : Nat} (n576 : n ≤ 576) {post : SX → Prop} {ja jk jv jo : Nat → Int32}
    (hp : ∀ k g (ia ik iv ho : Nat → Int32), dt_SW jo k n g → dt_G g k ja jk jv jo ia ik iv ho → post (th, od, mn, nI k, tk, hg, de, pa, na, cl, al, so, bl, ia, ik, iv, ho, ki, ta, nu, sp, tr, un)) : wpX_sweep post (th, od, mn, nI n, tk, hg, de, pa, na, cl, al, so, bl, ja, jk, jv, jo, ki, ta, nu, sp, tr, un) :=
  ⟨n + 1, xd_sweep_l n576 hp n 0 0 id ja jk jv jo (Nat.zero_add n) ⟨Nat.le_refl _, fun j hj => absurd hj (by omega), fun j l hj hl => absurd hl (by omega), fun q hq => absurd hq (by omega)⟩ (fun j hj => absurd hj (by omega)) (fun j _ => ⟨rfl, rfl, rfl, rfl⟩)⟩
theorem xd_openPlace_l {t : Nat} {post : SX → Prop} {m : Int32} : ∀ (d : Nat) (ia ik iv ho : Nat → Int32), t + d < 576 → post (th, od, mn, m + 1, tk, hg, de, pa, na, cl, al, so, bl, dt_sf t d ia, dt_sf t d ik, dt_sf t d iv, dt_sf t d ho, ki, ta, nu, sp, tr, un) → wX_openPlace_5 post (nI t) (d + 1) (nI (t + d)) th od mn m tk hg de pa na cl al so bl ia ik iv ho ki ta nu sp tr un
  | 0, ia, ik, iv, ho, hd, hp => by
    rw [dt_sf_0, dt_sf_0, dt_sf_0, dt_sf_0] at hp
    exact br_t (nI_le (Nat.le_refl _) (by omega)) (nm_e hp)
  | d + 1, ia, ik, iv, ho, hd, hp => by
    refine br_f (nI_ge (by omega) (by omega)) ?_
    rw [show nI (t + (d + 1)) - 1 = nI (t + d) from nI_pred (t + d)]
    refine xd_copyPlace (f := t + d) (t := t + d + 1) (by omega) (by omega) (nm_r (pk_m1 (t + d)) ?_)
    refine xd_openPlace_l d _ _ _ _ (by omega) ?_
    rw [dt_sf_s, dt_sf_s, dt_sf_s, dt_sf_s]
    exact hp
theorem xd_openPlace {n t : Nat} (ht : t ≤ n) (hn : n < 576) {post : SX → Prop} (hp : post (th, od, mn, nI (n + 1), tk, hg, de, pa, na, cl, al, so, bl, dt_sf t (n - t) ia, dt_sf t (n - t) ik, dt_sf t (n - t) iv, dt_sf t (n - t) ho, ki, ta, nu, sp, tr, un)) : wpX_openPlace post (th, od, mn, nI n, tk, hg, de, pa, na, cl, al, so, bl, ia, ik, iv, ho, ki, ta, nu, sp, tr, un) (nI t) := by
  rw [← nI_1] at hp
  have g := xd_openPlace_l (m := nI n) (n - t) ia ik iv ho (by omega) hp
  rw [show t + (n - t) = n from by omega] at g
  exact ⟨_, g⟩
theorem xd_between_l {n a : Nat} (h : rl_IX T n ia ik iv ho) (ha : a < 6) {lo hi : Int32} (hlo : -1000 ≤ lo.toInt) {r : Nat} (hr : dt_PL ia ik n ((a : Int) * 4096 + lo.toInt) r) {post : Int32 → Prop}
    (hp : ∀ s : Int32, (∀ b, bt s b = true ↔ ∃ i, i < n ∧ ia i = nI a ∧ lo.toInt ≤ (ik i).toInt ∧ (ik i).toInt ≤ hi.toInt ∧ bt (ho i) b = true) → post s) :
    ∀ (d j : Nat) (s : Int32), j + d = n → r ≤ j → (∀ b, bt s b = true ↔ ∃ i, i < j ∧ ia i = nI a ∧ lo.toInt ≤ (ik i).toInt ∧ (ik i).toInt ≤ hi.toInt ∧ bt (ho i) b = true) → wX_between_11 post (nI a) hi th od mn (nI n) tk hg de pa na cl al so bl ia ik iv ho ki ta nu sp tr un (d + 1) s (nI j)
  | 0, j, s, hd, hj, hs => by
    have n576 := h.1
    have z : j = n := by omega
    subst z
    exact br_t (nI_le (Nat.le_refl _) (by omega)) (hp s hs)
  | d + 1, j, s, hd, hj, hs => by
    have n576 := h.1
    have jn : j < n := by omega
    have cj : (nI j).toNatClampNeg = j := nI_clamp (by omega)
    have vj : vp_in (nI j) 576 := vp_in_nI (by omega) (by decide)
    have fin : (∀ i, j ≤ i → i < n → ia i = nI a → lo.toInt ≤ (ik i).toInt → (ik i).toInt ≤ hi.toInt → False) → post s := fun w => hp s fun b => by
      rw [hs b]
      constructor
      · rintro ⟨i, x, y⟩
        exact ⟨i, by omega, y⟩
      · rintro ⟨i, x, y1, y2, y3, y4⟩
        refine ⟨i, ?_, y1, y2, y3, y4⟩
        rcases Nat.lt_or_ge i j with z | z
        · exact z
        · exact (w i z x y1 y2 y3).elim
    refine br_f (nI_ge jn (by omega)) ⟨vj, br_c (fun c => ⟨vj, br_c (fun c2 => ?_) (fun c2 => ⟨vj, nm_e (nm_r (nI_1 j) ?_)⟩)⟩) (fun c => ?_)⟩
    · rw [cj] at c c2
      rw [Int32.lt_iff_toInt_lt] at c2
      refine fin fun i x y z1 z2 z3 => ?_
      rcases Nat.lt_or_ge j i with q | q
      · have k := h.2.2 j i q y
        unfold dt_cd at k
        rw [c, z1] at k
        omega
      · have e : i = j := by omega
        rw [e] at z3
        omega
    · rw [cj] at c c2 ⊢
      rw [Int32.lt_iff_toInt_lt] at c2
      refine xd_between_l h ha hlo hr hp d (j + 1) _ (by omega) (by omega) fun b => ?_
      have lj : lo.toInt ≤ (ik j).toInt := by
        obtain ⟨p1, p2, p3, p4, p5⟩ := rl_IX_p h jn
        have k := hr.2.2 j hj jn
        rw [p3, (rl_IX_e h jn ha).mp c] at k
        omega
      rw [b_or, Bool.or_eq_true, hs b]
      constructor
      · rintro (⟨i, x, y⟩ | x)
        · exact ⟨i, by omega, y⟩
        · exact ⟨j, by omega, c, lj, by omega, x⟩
      · rintro ⟨i, x, y1, y2, y3, y4⟩
        by_cases e : i = j
        · right
          rw [← e]
          exact y4
        · exact Or.inl ⟨i, by omega, y1, y2, y3, y4⟩
    · rw [cj] at c
      exact fin fun i x y z1 _ _ => dt_behind h ha hr hlo hj jn c x y z1
theorem xd_between {n a : Nat} (h : rl_IX T n ia ik iv ho) (ha : a < 6) {lo hi : Int32} (hlo : -1000 ≤ lo.toInt ∧ lo.toInt ≤ 1999) {post : Int32 → Prop}
    (hp : ∀ s : Int32, (∀ b, bt s b = true ↔ ∃ i, i < n ∧ ia i = nI a ∧ lo.toInt ≤ (ik i).toInt ∧ (ik i).toInt ≤ hi.toInt ∧ bt (ho i) b = true) → post s) : wpX_between post (th, od, mn, nI n, tk, hg, de, pa, na, cl, al, so, bl, ia, ik, iv, ho, ki, ta, nu, sp, tr, un) (nI a) lo hi := by
  unfold wpX_between
  refine xd_placeOf h ha hlo (fun r hr => ⟨_, xd_between_l h ha hlo.1 hr hp (n - r) r 0 (by have := hr.1; omega) (Nat.le_refl _) fun b => ?_⟩)
  rw [b_0]
  refine ⟨fun z => absurd z (by decide), ?_⟩
  rintro ⟨i, x, y1, y2, y3, y4⟩
  have hn : i < n := by have := hr.1; omega
  obtain ⟨p1, p2, p3, p4, p5⟩ := rl_IX_p h hn
  have k := hr.2.1 i x
  rw [p3, (rl_IX_e h hn ha).mp y1] at k
  omega
theorem xd_containing_l {n a q : Nat} (h : rl_IX T n ia ik iv ho) (ha : a < 4) (hq : q < 216) (hd : dt_wd q = true) {r : Nat} (hr : dt_PL ia ik n ((a : Int) * 4096 + (-1000 : Int32).toInt) r) {post : Int32 → Prop}
    (hp : ∀ s : Int32, (∀ b, bt s b = true ↔ ∃ i, i < n ∧ ia i = nI a ∧ dt_con (dt_p iv i) q = true ∧ bt (ho i) b = true) → post s) :
    ∀ (d j : Nat) (s : Int32), j + d = n → r ≤ j → (∀ b, bt s b = true ↔ ∃ i, i < j ∧ ia i = nI a ∧ dt_con (dt_p iv i) q = true ∧ bt (ho i) b = true) → wX_containing_12 post (nI a) (nI q) th od mn (nI n) tk hg de pa na cl al so bl ia ik iv ho ki ta nu sp tr un (d + 1) s (nI j)
  | 0, j, s, hd, hj, hs => by
    have n576 := h.1
    have z : j = n := by omega
    subst z
    exact br_t (nI_le (Nat.le_refl _) (by omega)) (hp s hs)
  | d + 1, j, s, hd', hj, hs => by
    have n576 := h.1
    have jn : j < n := by omega
    have cj : (nI j).toNatClampNeg = j := nI_clamp (by omega)
    have vj : vp_in (nI j) 576 := vp_in_nI (by omega) (by decide)
    refine br_f (nI_ge jn (by omega)) ⟨vj, br_c (fun c => ⟨vj, ?_⟩) (fun c => ?_)⟩
    · rw [cj] at c ⊢
      have e := (rl_IX_e h jn (by omega)).mp c
      have ok := (h.2.1 j jn).2.2.1
      rw [e] at ok
      obtain ⟨w, hw, ew, _⟩ := dt_ok_w ha ok
      have ep : dt_p iv j = w := by unfold dt_p; rw [ew, nI_clamp (by omega)]
      rw [ew]
      have step : ∀ s' : Int32, (∀ b, bt s' b = true ↔ bt s b = true ∨ (dt_con w q = true ∧ bt (ho j) b = true)) → wX_containing_12 post (nI a) (nI q) th od mn (nI n) tk hg de pa na cl al so bl ia ik iv ho ki ta nu sp tr un (d + 1) s' (nI (j + 1)) := fun s' hs' =>
        xd_containing_l h ha hq hd hr hp d (j + 1) s' (by omega) (by omega) fun b => by
          rw [hs' b, hs b]
          constructor
          · rintro (⟨i, x, y⟩ | ⟨x, y⟩)
            · exact ⟨i, by omega, y⟩
            · exact ⟨j, by omega, c, by rw [ep]; exact x, y⟩
          · rintro ⟨i, x, y1, y2, y3⟩
            by_cases e : i = j
            · right
              rw [e] at y2 y3
              rw [ep] at y2
              exact ⟨y2, y3⟩
            · exact Or.inl ⟨i, by omega, y1, y2, y3⟩
      refine xd_contains hw hq hd ?_
      cases z : dt_con w q
      · refine br_t rfl (nm_e (nm_r (nI_1 j) (step _ fun b => ?_)))
        rw [b_or, b_0, Bool.or_false, z]
        exact ⟨Or.inl, fun x => x.elim id (fun y => absurd y.1 (by decide))⟩
      · refine br_f (by decide) ⟨vj, nm_e (nm_r (nI_1 j) (step _ fun b => ?_))⟩
        rw [b_or, Bool.or_eq_true, z]
        exact ⟨fun x => x.elim Or.inl (fun y => Or.inr ⟨rfl, y⟩), fun x => x.elim Or.inl (fun y => Or.inr y.2)⟩
    · rw [cj] at c
      refine hp s fun b => ?_
      rw [hs b]
      constructor
      · rintro ⟨i, x, y⟩
        exact ⟨i, by omega, y⟩
      · rintro ⟨i, x, y1, y2⟩
        refine ⟨i, ?_, y1, y2⟩
        rcases Nat.lt_or_ge i j with z | z
        · exact z
        · exact (dt_behind h (by omega) hr (by decide) hj jn c z x y1).elim
theorem xd_containing {n a q : Nat} (h : rl_IX T n ia ik iv ho) (ha : a < 4) (hq : q < 216) (hd : dt_wd q = true) {post : Int32 → Prop}
    (hp : ∀ s : Int32, (∀ b, bt s b = true ↔ ∃ i, i < n ∧ ia i = nI a ∧ dt_con (dt_p iv i) q = true ∧ bt (ho i) b = true) → post s) : wpX_containing post (th, od, mn, nI n, tk, hg, de, pa, na, cl, al, so, bl, ia, ik, iv, ho, ki, ta, nu, sp, tr, un) (nI a) (nI q) := by
  unfold wpX_containing
  refine xd_placeOf h (by omega) (by decide) (fun r hr => ⟨_, xd_containing_l h ha hq hd hr hp (n - r) r 0 (by have := hr.1; omega) (Nat.le_refl _) fun b => ?_⟩)
  rw [b_0]
  refine ⟨fun z => absurd z (by decide), ?_⟩
  rintro ⟨i, x, y1, _⟩
  exact (dt_ahead h (by omega) hr x y1).elim
theorem xd_different_l {n a : Nat} (n576 : n ≤ 576) {post : Int32 → Prop} (hp : post (nI (dt_n (fun j => ia j == nI a) n))) :
    ∀ d j, j + d = n → wX_different_14 post (nI a) th od mn (nI n) tk hg de pa na cl al so bl ia ik iv ho ki ta nu sp tr un (d + 1) (nI (dt_n (fun j => ia j == nI a) j)) (nI j)
  | 0, j, hd => by
    have z : j = n := by omega
    subst z
    exact br_t (nI_le (Nat.le_refl _) (by omega)) hp
  | d + 1, j, hd => by
    have cj : (nI j).toNatClampNeg = j := nI_clamp (by omega)
    have g := xd_different_l n576 hp d (j + 1) (by omega)
    refine br_f (nI_ge (by omega) (by omega)) ⟨vp_in_nI (by omega) (by decide), br_c (fun c => ?_) (fun c => ?_)⟩
    · rw [cj] at c
      rw [dt_n_t (show (ia j == nI a) = true from by rw [c, beq_self_eq_true])] at g
      exact nm_r (nI_1 _) (nm_r (nI_1 j) g)
    · rw [cj] at c
      rw [dt_n_f (show (ia j == nI a) = false from beq_eq_false_iff_ne.mpr c)] at g
      exact nm_r (Int32.add_zero _) (nm_r (nI_1 j) g)
end
end
section
/-! X: classes and what they allow -/
section
variable {th od mn ix tk hg de : Int32} {pa na cl al so bl ia ik iv ho ki ta nu sp tr un : Nat → Int32}
theorem xd_isAttribute_t {post : Int32 → Prop} {a : Nat} (ha : a < 6) (h : post 1) : wpX_isAttribute post (nI a) :=
  br_f (nI_pos (by omega)) (br_f (nI_ge (b := 6) ha (by decide)) h)
theorem xd_isAttribute_f {post : Int32 → Prop} {x : Int32} (hn : ∀ a, a < 6 → x ≠ nI a) (h : post 0) : wpX_isAttribute post x := by
  by_cases z : x < 0
  · exact br_t z h
  · obtain ⟨j, hj, rfl⟩ := nI_of z
    rcases Nat.lt_or_ge j 6 with l | l
    · exact absurd rfl (hn j l)
    · exact br_f z (br_t (nI_le (a := 6) l hj) h)
theorem xd_membersOf_l (H : rl_T (bt th) pa na cl) {c : Int32} {post : Int32 → Prop} (hp : ∀ s : Int32, (∀ b, bt s b = true ↔ b < 24 ∧ bt th b = true ∧ bt c (dt_p cl b) = true) → post s) :
    ∀ (d j : Nat) (s : Int32), j + d = 24 → (∀ b, bt s b = true ↔ b < j ∧ bt th b = true ∧ bt c (dt_p cl b) = true) → wX_membersOf_4 post c th od mn ix tk hg de pa na cl al so bl ia ik iv ho ki ta nu sp tr un (d + 1) s (nI j)
  | 0, j, s, hd, hs => by
    have z : j = 24 := by omega
    subst z
    exact br_t (nI_le (a := 24) (b := 24) (by omega) (by decide)) (hp s hs)
  | d + 1, j, s, hd, hs => by
    have cj : (nI j).toNatClampNeg = j := nI_clamp (by omega)
    have keep : ¬ (bt th j = true ∧ bt c (dt_p cl j) = true) → wX_membersOf_4 post c th od mn ix tk hg de pa na cl al so bl ia ik iv ho ki ta nu sp tr un (d + 1) s (nI (j + 1)) := fun w =>
      xd_membersOf_l H hp d (j + 1) s (by omega) fun b => by
        rw [hs b]
        constructor
        · rintro ⟨x, y⟩
          exact ⟨by omega, y⟩
        · rintro ⟨x, y⟩
          refine ⟨?_, y⟩
          rcases Nat.lt_or_ge b j with q | q
          · exact q
          · have e : b = j := by omega
            rw [e] at y
            exact (w y).elim
    refine br_f (nI_ge (b := 24) (by omega) (by decide)) ?_
    by_cases ht : bt th j = true
    · obtain ⟨k1, k2⟩ := H.2.2.2.1 j (by omega) ht
      refine xd_isEntry_t (by omega) ht (br_f (by decide) ⟨vp_in_nI (by omega) (by decide), ?_⟩)
      rw [cj, k1]
      refine br_c (fun q => nm_e (nm_r (nI_1 j) ?_)) (fun q => nm_r (nI_1 j) (keep fun w => q ((dt_t c (by omega)).mpr w.2)))
      have q' := (dt_t c (show dt_p cl j < 32 from by omega)).mp q
      refine xd_membersOf_l H hp d (j + 1) _ (by omega) fun b => ?_
      rw [b_or, Bool.or_eq_true, hs b]
      rcases Nat.lt_or_ge b 32 with z | z
      · rw [dt_sh (by omega) z, decide_eq_true_eq]
        constructor
        · rintro (⟨x, y⟩ | rfl)
          · exact ⟨by omega, y⟩
          · exact ⟨by omega, ht, q'⟩
        · rintro ⟨x, y⟩
          by_cases e : b = j
          · exact Or.inr e
          · exact Or.inl ⟨by omega, y⟩
      · rw [b_big (x := (1 : Int32) <<< (nI j &&& 31)) z]
        constructor
        · rintro (⟨x, y⟩ | x)
          · exact ⟨by omega, y⟩
          · exact absurd x (by decide)
        · rintro ⟨x, y⟩
          omega
    · refine xd_isEntry_f (fun e he ee => ?_) (br_t rfl (nm_r (nI_1 j) (keep fun w => ht w.1)))
      have := (nI_eq (by omega) (by omega)).mp ee
      rw [← this]
      exact dt_bf ht
theorem xd_membersOf (H : rl_T (bt th) pa na cl) {c : Int32} {post : Int32 → Prop} (hp : ∀ s : Int32, (∀ b, bt s b = true ↔ b < 24 ∧ bt th b = true ∧ bt c (dt_p cl b) = true) → post s) : wpX_membersOf post (th, od, mn, ix, tk, hg, de, pa, na, cl, al, so, bl, ia, ik, iv, ho, ki, ta, nu, sp, tr, un) c :=
  ⟨25, xd_membersOf_l H hp 24 0 0 rfl fun b => by
    rw [b_0]
    exact ⟨fun z => absurd z (by decide), fun z => absurd z.1 (by omega)⟩⟩
theorem xd_allowing_l (H : rl_T (bt th) pa na cl) {a : Nat} (ha : a < 6) {post : Int32 → Prop} (hp : ∀ s : Int32, (∀ b, bt s b = true ↔ b < 24 ∧ bt th b = true ∧ bt (al (dt_p cl b)) a = true) → post s) :
    ∀ (d j : Nat) (s : Int32), j + d = 4 → (∀ b, bt s b = true ↔ b < j ∧ bt (al b) a = true) → wX_allowing_4 post (nI a) th od mn ix tk hg de pa na cl al so bl ia ik iv ho ki ta nu sp tr un (d + 1) s (nI j)
  | 0, j, s, hd, hs => by
    have z : j = 4 := by omega
    subst z
    refine br_t (nI_le (a := 4) (b := 4) (by omega) (by decide)) (xd_membersOf H fun m hm => hp m fun b => ?_)
    rw [hm b, hs]
    constructor
    · rintro ⟨x, y, _, z⟩
      exact ⟨x, y, z⟩
    · rintro ⟨x, y, z⟩
      exact ⟨x, y, (H.2.2.2.1 b x y).2, z⟩
  | d + 1, j, s, hd, hs => by
    have cj : (nI j).toNatClampNeg = j := nI_clamp (by omega)
    refine br_f (nI_ge (b := 4) (by omega) (by decide)) ⟨vp_in_nI (by omega) (by decide), nm_e (nm_r (nI_1 j) ?_)⟩
    rw [cj, dt_b1 (al j) (show a < 32 from by omega)]
    refine xd_allowing_l H ha hp d (j + 1) _ (by omega) fun b => ?_
    rw [b_or, Bool.or_eq_true, hs b]
    have key : bt ((if bt (al j) a = true then (1 : Int32) else 0) <<< (nI j &&& 31)) b = true ↔ b = j ∧ bt (al j) a = true := by
      rcases Nat.lt_or_ge b 32 with z | z
      · cases q : bt (al j) a
        · rw [if_neg (by decide), b_shl j (by omega) 0 z, b_0, Bool.and_false]
          exact ⟨fun x => absurd x (by decide), fun x => absurd x.2 (by decide)⟩
        · rw [if_pos rfl, dt_sh (by omega) z, decide_eq_true_eq]
          exact ⟨fun x => ⟨x, rfl⟩, fun x => x.1⟩
      · rw [b_big z]
        exact ⟨fun x => absurd x (by decide), fun x => absurd x.1 (by omega)⟩
    rw [key]
    constructor
    · rintro (⟨x, y⟩ | ⟨rfl, y⟩)
      · exact ⟨by omega, y⟩
      · exact ⟨by omega, y⟩
    · rintro ⟨x, y⟩
      by_cases e : b = j
      · rw [e] at y
        exact Or.inr ⟨e, y⟩
      · exact Or.inl ⟨by omega, y⟩
theorem xd_allowing (H : rl_T (bt th) pa na cl) {a : Nat} (ha : a < 6) {post : Int32 → Prop} (hp : ∀ s : Int32, (∀ b, bt s b = true ↔ b < 24 ∧ bt th b = true ∧ bt (al (dt_p cl b)) a = true) → post s) : wpX_allowing post (th, od, mn, ix, tk, hg, de, pa, na, cl, al, so, bl, ia, ik, iv, ho, ki, ta, nu, sp, tr, un) (nI a) :=
  ⟨5, xd_allowing_l H ha hp 4 0 0 rfl fun b => by
    rw [b_0]
    exact ⟨fun z => absurd z (by decide), fun z => absurd z.1 (by omega)⟩⟩
theorem xd_allow_l {T : Nat → Bool} {n c : Nat} (h : rl_IX T n ia ik iv ho) (hc : c < 4) {x m : Int32} {post : Int32 → SX → Prop}
    (h1 : ∀ i, i < n → ho i &&& m ≠ 0 → bt x (dt_p ia i) = false → post (-3) (th, od, mn, nI n, tk, hg, de, pa, na, cl, al, so, bl, ia, ik, iv, ho, ki, ta, nu, sp, tr, un)) (h2 : (∀ i, i < n → ho i &&& m ≠ 0 → bt x (dt_p ia i) = true) → post (al c) (th, od, mn, nI n, tk, hg, de, pa, na, cl, upd al c x, so, bl, ia, ik, iv, ho, ki, ta, nu, sp, tr, un)) :
    ∀ (d j : Nat), j + d = n → (∀ i, i < j → ho i &&& m ≠ 0 → bt x (dt_p ia i) = true) → wX_allow_33 post (nI c) x m th od mn (nI n) tk hg de pa na cl al so bl ia ik iv ho ki ta nu sp tr un (d + 1) (nI j)
  | 0, j, hd, hs => by
    have n576 := h.1
    have z : j = n := by omega
    subst z
    have cc : (nI c).toNatClampNeg = c := nI_clamp (by omega)
    have vc : vp_in (nI c) 4 := vp_in_nI hc (by decide)
    exact br_t (nI_le (Nat.le_refl _) (by omega)) ⟨vc, nm_r (e' := al c) (by rw [cc]) ⟨vc, nm_r (e' := upd al c x) (by rw [cc]) (h2 hs)⟩⟩
  | d + 1, j, hd, hs => by
    have n576 := h.1
    have jn : j < n := by omega
    obtain ⟨p1, p2, _⟩ := rl_IX_p h jn
    have cj : (nI j).toNatClampNeg = j := nI_clamp (by omega)
    have vj : vp_in (nI j) 576 := vp_in_nI (by omega) (by decide)
    have go : (ho j &&& m ≠ 0 → bt x (dt_p ia j) = true) → wX_allow_33 post (nI c) x m th od mn (nI n) tk hg de pa na cl al so bl ia ik iv ho ki ta nu sp tr un (d + 1) (nI (j + 1)) := fun w =>
      xd_allow_l h hc h1 h2 d (j + 1) (by omega) fun i hi y => by
        by_cases e : i = j
        · rw [e] at y ⊢
          exact w y
        · exact hs i (by omega) y
    refine br_f (nI_ge jn (by omega)) ⟨vj, ?_⟩
    rw [cj, p1]
    refine br_c (fun q => nm_r (nI_1 j) (go fun w => absurd q w)) (fun q => ⟨vj, br_c (fun q2 => ?_) (fun q2 => nm_r (nI_1 j) (go fun _ => ?_))⟩)
    · exact h1 j jn q ((dt_z x (by omega)).mp q2)
    · cases y : bt x (dt_p ia j)
      · exact absurd ((dt_z x (by omega)).mpr y) q2
      · rfl
end
end
section
/-! Y: values -/
def rl_IY (T : Nat → Bool) (cn vs : Nat → Int32) : Prop := ∀ e a, e < 24 → T e = true → a < 6 →
  cn (6 * e + a) = nI (dt_p cn (6 * e + a)) ∧ dt_p cn (6 * e + a) ≤ 4 ∧
  (∀ k, k < dt_p cn (6 * e + a) → dt_ok a (vs (4 * (6 * e + a) + k)) = true) ∧
  (∀ k l, k < l → l < dt_p cn (6 * e + a) → (dt_key a (vs (4 * (6 * e + a) + k))).toInt < (dt_key a (vs (4 * (6 * e + a) + l))).toInt)
def dt_any (q : Nat → Bool) (c : Nat) : Bool := decide (dt_f q c 0 < c)
theorem dt_any_i {q : Nat → Bool} {c : Nat} : dt_any q c = true ↔ ∃ k, k < c ∧ q k = true := by
  unfold dt_any
  rw [decide_eq_true_eq]
  obtain ⟨_, b, s, f⟩ := dt_f_sp q c 0
  constructor
  · intro z
    exact ⟨_, z, s (by omega)⟩
  · rintro ⟨k, k1, k2⟩
    apply Classical.byContradiction
    intro z
    have := f k (by omega) (by omega)
    rw [k2] at this
    exact absurd this (by decide)
theorem dt_sl1 {e a : Nat} : (6 : Int32) * nI e + nI a = nI (6 * e + a) := by
  show nI 6 * nI e + nI a = _
  rw [pk_mul, nI_add]
theorem dt_sl2 {s k : Nat} : (4 : Int32) * nI s + nI k = nI (4 * s + k) := by
  show nI 4 * nI s + nI k = _
  rw [pk_mul, nI_add]
def dt_dl (t d : Nat) (f : Nat → Int32) (j : Nat) : Int32 := if t ≤ j ∧ j < t + d then f (j + 1) else f j
theorem dt_dl_0 (t : Nat) (f : Nat → Int32) : dt_dl t 0 f = f := by
  funext j
  unfold dt_dl
  rw [if_neg (by omega)]
theorem dt_dl_s (t d : Nat) (f : Nat → Int32) : upd (dt_dl t d f) (t + d) (dt_dl t d f (t + d + 1)) = dt_dl t (d + 1) f := by
  funext j
  by_cases b : j = t + d
  · rw [b, pk_us]
    unfold dt_dl
    rw [if_neg (by omega), if_pos (by omega)]
  · rw [pk_un b]
    unfold dt_dl
    by_cases a : t ≤ j ∧ j < t + d
    · rw [if_pos a, if_pos (by omega)]
    · rw [if_neg a, if_neg (by omega)]
theorem dt_sf_p (t d : Nat) (f : Nat → Int32) : upd (dt_sf (t + 1) d f) (t + 1) (dt_sf (t + 1) d f t) = dt_sf t (d + 1) f := by
  funext j
  by_cases b : j = t + 1
  · rw [b, pk_us]
    unfold dt_sf
    rw [if_neg (by omega), if_pos (by omega)]
    rfl
  · rw [pk_un b]
    unfold dt_sf
    by_cases a : t + 1 < j ∧ j ≤ t + 1 + d
    · rw [if_pos a, if_pos (by omega)]
    · rw [if_neg a, if_neg (by omega)]
section
variable {tk hg : Int32} {yt pa na cl al cn vs ki ya nu ps yo wa : Nat → Int32} {T : Nat → Bool}
theorem yd_allows (H : rl_T T pa na cl) {post : Int32 → Prop} {e a : Nat} (he : e < 24) (ht : T e = true) (ha : a < 6) (hp : post (dt_i (bt (al (dt_p cl e)) a))) : wpY_allows post (tk, hg, yt, pa, na, cl, al, cn, vs, ki, ya, nu, ps, yo, wa) (nI e) (nI a) := by
  obtain ⟨k1, k2⟩ := H.2.2.2.1 e he ht
  refine ⟨vp_in_nI he (by decide), ?_⟩
  rw [nI_clamp (by omega), k1, nI_clamp (by omega)]
  refine ⟨vp_in_nI k2 (by decide), br_c (fun q => ?_) (fun q => ?_)⟩
  · rw [(dt_t _ (show a < 32 from by omega)).mp q] at hp
    exact hp
  · rw [dt_bf (fun z => q ((dt_t _ (show a < 32 from by omega)).mpr z))] at hp
    exact hp
theorem yd_placeOf_l {s c : Nat} {v : Int32} (hs : s < 144) (hc : cn s = nI c) (c4 : c ≤ 4) {post : Int32 → Prop} : ∀ d k, k + d = c → (dt_f (fun k => vs (4 * s + k) == v) d k < c → post (nI (dt_f (fun k => vs (4 * s + k) == v) d k))) → (dt_f (fun k => vs (4 * s + k) == v) d k = c → post (-1)) → wY_placeOf_11 post v (nI s) tk hg yt pa na cl al cn vs ki ya nu ps yo wa (d + 1) (nI k)
  | 0, k, hd, _, h2 => by
    have z : k = c := by omega
    subst z
    refine ⟨vp_in_nI hs (by decide), ?_⟩
    rw [nI_clamp (by omega), hc]
    exact br_t (nI_le (Nat.le_refl _) (by omega)) (h2 rfl)
  | d + 1, k, hd, h1, h2 => by
    refine ⟨vp_in_nI hs (by decide), ?_⟩
    rw [nI_clamp (n := s) (by omega), hc]
    refine br_f (nI_ge (by omega) (by omega)) ?_
    rw [dt_sl2, nI_clamp (by omega)]
    refine ⟨vp_in_nI (by omega) (by decide), br_c (fun q => ?_) (fun q => ?_)⟩
    · rw [dt_f_p (show (vs (4 * s + k) == v) = true from by rw [q, beq_self_eq_true])] at h1
      exact h1 (by omega)
    · rw [dt_f_n (show (vs (4 * s + k) == v) = false from beq_eq_false_iff_ne.mpr q)] at h1 h2
      exact nm_r (nI_1 k) (yd_placeOf_l hs hc c4 d (k + 1) (by omega) h1 h2)
theorem yd_placeOf {e a c : Nat} {v : Int32} (he : e < 24) (ha : a < 6) (hc : cn (6 * e + a) = nI c) (c4 : c ≤ 4) {post : Int32 → Prop} (h1 : ∀ k, k < c → vs (4 * (6 * e + a) + k) = v → post (nI k)) (h2 : (∀ k, k < c → vs (4 * (6 * e + a) + k) ≠ v) → post (-1)) : wpY_placeOf post (tk, hg, yt, pa, na, cl, al, cn, vs, ki, ya, nu, ps, yo, wa) (nI e) (nI a) v := by
  refine nm_r dt_sl1 ⟨_, yd_placeOf_l (by omega) hc c4 c 0 (by omega) (fun z => ?_) (fun z => ?_)⟩
  · have k := (dt_f_sp (fun k => vs (4 * (6 * e + a) + k) == v) c 0).2.2.1 (by omega)
    exact h1 _ z (eq_of_beq k)
  · refine h2 fun k hk e2 => ?_
    have := (dt_f_sp (fun k => vs (4 * (6 * e + a) + k) == v) c 0).2.2.2 k (by omega) (by omega)
    rw [e2, beq_self_eq_true] at this
    exact absurd this (by decide)
/-- the values of a slot are shifted until the new one's place is open -/
theorem yd_put_l {s a c : Nat} {v : Int32} (hs : s < 144) (ha : a < 6) (hc : cn s = nI c) (c3 : c ≤ 3) (hv : dt_ok a v = true) (ho : ∀ k, k < c → dt_ok a (vs (4 * s + k)) = true) {post : Int32 → SY → Prop}
    (hp : ∀ t, t ≤ c → (t = 0 ∨ ∃ i, i + 1 = t ∧ (dt_key a (vs (4 * s + i))).toInt ≤ (dt_key a v).toInt) → (∀ j, t ≤ j → j < c → (dt_key a v).toInt < (dt_key a (vs (4 * s + j))).toInt) → post (nI (c + 1)) (tk, hg, yt, pa, na, cl, al, upd cn s (nI (c + 1)), upd (dt_sf (4 * s + t) (c - t) vs) (4 * s + t) v, ki, ya, nu, ps, yo, wa)) :
    ∀ k, k ≤ c → (∀ j, k ≤ j → j < c → (dt_key a v).toInt < (dt_key a (vs (4 * s + j))).toInt) → wY_put_86 post (nI a) v (nI s) tk hg (k + 1) (nI k) yt pa na cl al cn (dt_sf (4 * s + k) (c - k) vs) ki ya nu ps yo wa := by
  have fin : ∀ k, k ≤ c → (k = 0 ∨ ∃ i, i + 1 = k ∧ (dt_key a (vs (4 * s + i))).toInt ≤ (dt_key a v).toInt) → (∀ j, k ≤ j → j < c → (dt_key a v).toInt < (dt_key a (vs (4 * s + j))).toInt) → wY_put_151 post v (nI s) (nI k) tk hg yt pa na cl al cn (dt_sf (4 * s + k) (c - k) vs) ki ya nu ps yo wa := by
    intro k hk h1 h2
    have cs : (nI s).toNatClampNeg = s := nI_clamp (by omega)
    have vv : vp_in (nI s) 144 := vp_in_nI hs (by decide)
    unfold wY_put_151
    rw [dt_sl2, nI_clamp (by omega), cs, hc]
    refine ⟨vp_in_nI (by omega) (by decide), nm_e ⟨vv, vv, nm_r (e' := upd cn s (nI (c + 1))) (by rw [nI_1]) ⟨vv, ?_⟩⟩⟩
    rw [pk_us]
    exact hp k hk h1 h2
  intro k
  induction k with
  | zero =>
    intro hk h2
    exact br_t (nI_le (a := 0) (b := 0) (by omega) (by decide)) (fin 0 hk (Or.inl rfl) h2)
  | succ k ih =>
    intro hk h2
    refine br_f (nI_nle (by omega) (by omega)) ?_
    have e1 : (4 : Int32) * nI s + nI (k + 1) - 1 = nI (4 * s + k) := by rw [dt_sl2]; exact nI_pred _
    have er : dt_sf (4 * s + (k + 1)) (c - (k + 1)) vs (4 * s + k) = vs (4 * s + k) := if_neg (by omega)
    rw [e1, dt_sl2, nI_clamp (by omega), nI_clamp (by omega), er]
    have vi : vp_in (nI (4 * s + k)) 576 := vp_in_nI (by omega) (by decide)
    refine ⟨vi, yd_rank ha (ho k (by omega)) (yd_rank ha hv (br_c (fun q => ?_) (fun q => ⟨vi, vp_in_nI (by omega) (by decide), nm_r (e' := dt_sf (4 * s + k) (c - k) vs) ?_ (nm_r (pk_m1 k) ?_)⟩)))⟩
    · rw [Int32.le_iff_toInt_le] at q
      exact fin (k + 1) hk (Or.inr ⟨k, rfl, q⟩) h2
    · have := dt_sf_p (4 * s + k) (c - (k + 1)) vs
      rw [show dt_sf (4 * s + k + 1) (c - (k + 1)) vs (4 * s + k) = vs (4 * s + k) from if_neg (by omega), show c - (k + 1) + 1 = c - k from by omega] at this
      exact this
    · rw [Int32.le_iff_toInt_le] at q
      refine ih (by omega) fun j h3 h4 => ?_
      by_cases z : j = k
      · rw [z]; omega
      · exact h2 j (by omega) h4
theorem yd_drop_l {s c k : Nat} (hs : s < 144) (hc : cn s = nI c) (c3 : c ≤ 3) (hk : k ≤ c) {post : Int32 → SY → Prop} (hp : post (nI c) (tk, hg, yt, pa, na, cl, al, cn, dt_dl (4 * s + k) (c - k) vs, ki, ya, nu, ps, yo, wa)) :
    ∀ d i, i + d = c → k ≤ i → wY_drop_61 post (nI s) tk hg (d + 1) (nI i) yt pa na cl al cn (dt_dl (4 * s + k) (i - k) vs) ki ya nu ps yo wa
  | 0, i, hd, hi => by
    have z : i = c := by omega
    subst z
    have vv : vp_in (nI s) 144 := vp_in_nI hs (by decide)
    refine ⟨vv, ?_⟩
    rw [nI_clamp (by omega), hc]
    exact br_t (nI_le (Nat.le_refl _) (by omega)) ⟨vv, hp⟩
  | d + 1, i, hd, hi => by
    have vv : vp_in (nI s) 144 := vp_in_nI hs (by decide)
    refine ⟨vv, ?_⟩
    rw [nI_clamp (n := s) (by omega), hc]
    refine br_f (nI_ge (by omega) (by omega)) ?_
    rw [dt_sl2, nI_1 (4 * s + i), nI_clamp (by omega), nI_clamp (by omega)]
    refine ⟨vp_in_nI (by omega) (by decide), vp_in_nI (by omega) (by decide), nm_r (e' := dt_dl (4 * s + k) (i + 1 - k) vs) ?_ (nm_r (nI_1 i) (yd_drop_l hs hc c3 hk hp d (i + 1) (by omega) (by omega)))⟩
    have := dt_dl_s (4 * s + k) (i - k) vs
    rw [show 4 * s + k + (i - k) = 4 * s + i from by omega, show i - k + 1 = i + 1 - k from by omega] at this
    exact this
/-- one slot speaks against new rights of class c -/
def dt_ag (T : Nat → Bool) (cl cn : Nat → Int32) (c : Nat) (x : Int32) (s : Nat) : Prop := T (s / 6) = true ∧ dt_p cl (s / 6) = c ∧ 0 < dt_p cn s ∧ bt x (s % 6) = false
theorem yd_allow_l (H : rl_T T pa na cl) (hY : rl_Y T yt) (hI : rl_IY T cn vs) {c : Nat} (hc : c < 4) {x : Int32} {post : Int32 → SY → Prop}
    (h1 : ∀ s, s < 144 → dt_ag T cl cn c x s → post (-3) (tk, hg, yt, pa, na, cl, al, cn, vs, ki, ya, nu, ps, yo, wa)) (h2 : (∀ s, s < 144 → ¬ dt_ag T cl cn c x s) → post (al c) (tk, hg, yt, pa, na, cl, upd al c x, cn, vs, ki, ya, nu, ps, yo, wa)) :
    ∀ (d j : Nat), j + d = 144 → (∀ s, s < j → ¬ dt_ag T cl cn c x s) → wY_allow_24 post (nI c) x tk hg yt pa na cl al cn vs ki ya nu ps yo wa (d + 1) (nI j)
  | 0, j, hd, hs => by
    have z : j = 144 := by omega
    subst z
    have cc : (nI c).toNatClampNeg = c := nI_clamp (by omega)
    have vc : vp_in (nI c) 4 := vp_in_nI hc (by decide)
    exact br_t (nI_le (a := 144) (b := 144) (by omega) (by decide)) ⟨vc, nm_r (e' := al c) (by rw [cc]) ⟨vc, nm_r (e' := upd al c x) (by rw [cc]) (h2 hs)⟩⟩
  | d + 1, j, hd, hs => by
    have e1 : nI j / 6 = nI (j / 6) := pk_div (d := 6) (by omega) (by omega) (by omega)
    have e2 : nI j - nI (j / 6) * 6 = nI (j % 6) := by rw [← e1]; exact pk_rem (d := 6) (by omega) (by omega) (by omega)
    have v6 : vp_in (nI (j / 6)) 24 := vp_in_nI (by omega) (by decide)
    have c6 : (nI (j / 6)).toNatClampNeg = j / 6 := nI_clamp (by omega)
    have cj : (nI j).toNatClampNeg = j := nI_clamp (by omega)
    have go : ¬ dt_ag T cl cn c x j → wY_allow_24 post (nI c) x tk hg yt pa na cl al cn vs ki ya nu ps yo wa (d + 1) (nI (j + 1)) := fun w =>
      yd_allow_l H hY hI hc h1 h2 d (j + 1) (by omega) fun s hs' => by
        by_cases e : s = j
        · rw [e]; exact w
        · exact hs s (by omega)
    refine br_f (nI_ge (b := 144) (by omega) (by decide)) ⟨dt_6, ?_⟩
    rw [e1, e2]
    refine ⟨v6, ?_⟩
    by_cases ht : T (j / 6) = true
    · obtain ⟨k1, k2⟩ := H.2.2.2.1 (j / 6) (by omega) ht
      have i1 := hI (j / 6) (j % 6) (by omega) ht (by omega)
      rw [show 6 * (j / 6) + j % 6 = j from by omega] at i1
      refine br_f (rl_Y1 hY (by omega) ht) ⟨dt_6, v6, ?_⟩
      rw [c6, cj, k1, i1.1]
      refine br_c (fun q => ⟨vp_in_nI (by omega) (by decide), br_c (fun q2 => nm_r (nI_1 j) (go fun w => ?_)) (fun q2 => ⟨dt_6, br_c (fun q3 => ?_) (fun q3 => nm_r (nI_1 j) (go fun w => ?_))⟩)⟩) (fun q => nm_r (nI_1 j) (go fun w => ?_))
      · have := (nI_leI (b := 0) (by omega) (by omega)).mp q2
        have := w.2.2.1
        omega
      · refine h1 j (by omega) ⟨ht, (nI_eq (by omega) (by omega)).mp q, ?_, (dt_z x (by omega)).mp q3⟩
        apply Nat.pos_of_ne_zero
        intro z
        rw [z] at q2
        exact q2 (by decide)
      · exact q3 ((dt_z x (by omega)).mpr w.2.2.2)
      · exact q (by rw [w.2.1])
    · exact br_t (rl_Y0 hY (by omega) (dt_bf ht)) (nm_r (nI_1 j) (go fun w => ht w.1))
/-- a token without parts, asked of one entry: 0, 1 or 2 -/
def dt_sd (s a : Nat) (v : Int32) : Bool := (s == 0 || dt_ok a v) && !(decide (2 < s) && decide (3 < a))
def dt_sv (cl al cn vs : Nat → Int32) (s a : Nat) (v : Int32) (e : Nat) : Nat :=
  if (bt (al (dt_p cl e)) a && dt_sd s a v) = true then (if dt_any (fun k => dt_mt s a (vs (4 * (6 * e + a) + k)) v) (dt_p cn (6 * e + a)) = true then 1 else 0) else 2
theorem yd_simple_l {e s a c : Nat} {v : Int32} (he : e < 24) (hs : s ≤ 4) (ha : a < 6) (hc : cn (6 * e + a) = nI c) (c4 : c ≤ 4) (ho : ∀ k, k < c → dt_ok a (vs (4 * (6 * e + a) + k)) = true) (hd : dt_sd s a v = true) {post : Int32 → Prop} :
    ∀ d k, k + d = c → post (if dt_f (fun k => dt_mt s a (vs (4 * (6 * e + a) + k)) v) d k < c then 1 else 0) → wY_simple_47 post (nI s) (nI a) v (nI (6 * e + a)) tk hg yt pa na cl al cn vs ki ya nu ps yo wa (d + 1) (nI k)
  | 0, k, hk, hp => by
    have z : k = c := by omega
    subst z
    refine ⟨vp_in_nI (by omega) (by decide), ?_⟩
    rw [nI_clamp (by omega), hc]
    have hp' : post (if k < k then 1 else 0) := hp
    rw [if_neg (Nat.lt_irrefl _)] at hp'
    exact br_t (nI_le (Nat.le_refl _) (by omega)) hp'
  | d + 1, k, hk, hp => by
    refine ⟨vp_in_nI (by omega) (by decide), ?_⟩
    rw [nI_clamp (n := 6 * e + a) (by omega), hc]
    refine br_f (nI_ge (by omega) (by omega)) ?_
    rw [dt_sl2, nI_clamp (by omega)]
    unfold dt_sd at hd
    rw [Bool.and_eq_true, Bool.or_eq_true, beq_iff_eq, Bool.not_eq_true', Bool.and_eq_false_iff, decide_eq_false_iff_not, decide_eq_false_iff_not] at hd
    refine ⟨vp_in_nI (by omega) (by decide), yd_meets hs ha (fun z => by omega) (ho k (by omega)) (fun z => hd.1.resolve_left (by omega)) ?_⟩
    cases q : dt_mt s a (vs (4 * (6 * e + a) + k)) v
    · rw [dt_f_n q] at hp
      refine br_t rfl (nm_r (nI_1 k) (yd_simple_l he hs ha hc c4 ho ?_ d (k + 1) (by omega) hp))
      unfold dt_sd
      rw [Bool.and_eq_true, Bool.or_eq_true, beq_iff_eq, Bool.not_eq_true', Bool.and_eq_false_iff, decide_eq_false_iff_not, decide_eq_false_iff_not]
      exact hd
    · rw [dt_f_p q, if_pos (by omega)] at hp
      exact br_f (by decide) hp
theorem yd_simple (H : rl_T T pa na cl) (hI : rl_IY T cn vs) {e s a : Nat} {v : Int32} (he : e < 24) (ht : T e = true) (hs : s ≤ 4) (ha : a < 6) {post : Int32 → Prop} (hp : post (nI (dt_sv cl al cn vs s a v e))) : wpY_simple post (tk, hg, yt, pa, na, cl, al, cn, vs, ki, ya, nu, ps, yo, wa) (nI s) (nI a) v (nI e) := by
  obtain ⟨i1, i2, i3, _⟩ := hI e a he ht ha
  have two : (bt (al (dt_p cl e)) a && dt_sd s a v) = false → post 2 := fun z => by
    unfold dt_sv at hp
    rw [if_neg (by rw [z]; decide)] at hp
    exact hp
  have fin : bt (al (dt_p cl e)) a = true → dt_sd s a v = true → wY_simple_35 post (nI s) (nI a) v (nI e) tk hg yt pa na cl al cn vs ki ya nu ps yo wa := fun z1 z2 => by
    unfold dt_sv at hp
    rw [if_pos (by rw [z1, z2]; rfl)] at hp
    refine nm_r dt_sl1 ⟨_, yd_simple_l he hs ha i1 i2 i3 z2 _ 0 (Nat.zero_add _) ?_⟩
    unfold dt_any at hp
    by_cases y : dt_f (fun k => dt_mt s a (vs (4 * (6 * e + a) + k)) v) (dt_p cn (6 * e + a)) 0 < dt_p cn (6 * e + a)
    · rw [decide_eq_true y, if_pos rfl] at hp
      rw [if_pos y]
      exact hp
    · rw [decide_eq_false y, if_neg (by decide)] at hp
      rw [if_neg y]
      exact hp
  unfold wpY_simple
  refine yd_allows H he ht ha ?_
  cases b : bt (al (dt_p cl e)) a
  · exact br_t rfl (two (by rw [b]; rfl))
  have rest : (s = 0 ∨ dt_ok a v = true) → wY_simple_23 post (nI s) (nI a) v (nI e) tk hg yt pa na cl al cn vs ki ya nu ps yo wa := fun w => by
    refine br_c (fun q => ?_) (fun q => br_c (fun q2 => ?_) (fun q2 => ?_))
    · have q' := (nI_leI (b := 2) (by omega) (by omega)).mp q
      refine fin b ?_
      unfold dt_sd
      rw [decide_eq_false (show ¬ 2 < s from by omega), Bool.false_and, Bool.not_false, Bool.and_true, Bool.or_eq_true, beq_iff_eq]
      exact w
    · have q' := (nI_leI (b := 3) (by omega) (by omega)).mp q2
      refine fin b ?_
      unfold dt_sd
      rw [decide_eq_false (show ¬ 3 < a from by omega), Bool.and_false, Bool.not_false, Bool.and_true, Bool.or_eq_true, beq_iff_eq]
      exact w
    · refine two ?_
      have q3 : ¬ s ≤ 2 := fun z => q (nI_le (b := 2) z (by decide))
      have q4 : ¬ a ≤ 3 := fun z => q2 (nI_le (b := 3) z (by decide))
      unfold dt_sd
      rw [decide_eq_true (show 2 < s from by omega), decide_eq_true (show 3 < a from by omega), Bool.and_self, Bool.not_true, Bool.and_false, Bool.and_false]
  refine br_f (by decide) ?_
  by_cases s0 : s = 0
  · exact br_t (nI_le (b := 0) (by omega) (by decide)) (rest (Or.inl s0))
  · refine br_f (nI_nle (by omega) (by omega)) (yd_canBe ha ?_)
    cases q : dt_ok a v
    · refine br_t rfl (two ?_)
      unfold dt_sd
      rw [q, beq_eq_false_iff_ne.mpr s0, Bool.or_self, Bool.false_and, Bool.and_false]
    · exact br_f (by decide) (rest (Or.inr q))
end
end
section
/-! X: who has what a token asks; one token pushed -/
def rl_IM (T : Nat → Bool) (n : Nat) (ia iv ho cn vs : Nat → Int32) : Prop := ∀ e a v, e < 24 → T e = true → a < 6 →
  ((∃ i, i < n ∧ ia i = nI a ∧ iv i = v ∧ bt (ho i) e = true) ↔ ∃ k, k < dt_p cn (6 * e + a) ∧ vs (4 * (6 * e + a) + k) = v)
theorem dt_c1000 : (-1000 : Int32).toInt = -1000 := by decide
theorem dt_d1000 : (1000 : Int32).toInt = 1000 := by decide
theorem dt_sa_beg {a : Nat} (ha : a < 4) {x v : Int32} (hx : dt_ok a x = true) (hv : dt_ok a v = true) : dt_sa x.toNatClampNeg v.toNatClampNeg 0 = true ↔ (dt_key a v).toInt ≤ (dt_key a x).toInt ∧ (dt_key a x).toInt ≤ (dt_key a v + nI (dt_rm v.toNatClampNeg) - 1).toInt := by
  obtain ⟨w, hw, rfl, w1⟩ := dt_ok_w ha hx
  obtain ⟨q, hq, rfl, q1⟩ := dt_ok_w ha hv
  have k1 := dt_ky_lt hw
  have k2 := dt_ky_lt hq
  have r1 : 0 < dt_rm q ∧ dt_rm q ≤ 216 := by
    unfold dt_rm
    repeat' split
    all_goals omega
  rw [nI_clamp (by omega), nI_clamp (by omega), dt_beg q hq q1 w hw w1, dt_key_nI ha hw, dt_key_nI ha hq, nI_add]
  have e : nI (dt_ky q + dt_rm q) - 1 = nI (dt_ky q + dt_rm q - 1) := by
    obtain ⟨m, hm⟩ : ∃ m, dt_ky q + dt_rm q = m + 1 := ⟨dt_ky q + dt_rm q - 1, by omega⟩
    rw [hm]
    exact nI_pred m
  rw [e, nI_toInt (by omega), nI_toInt (by omega), nI_toInt (by omega), Bool.and_eq_true, decide_eq_true_eq, decide_eq_true_eq]
  omega
section
variable {th od mn ix tk hg de : Int32} {pa na cl al so bl ia ik iv ho ki ta nu sp tr un : Nat → Int32} {T : Nat → Bool}
theorem xd_beginning {n a : Nat} (h : rl_IX T n ia ik iv ho) (ha : a < 4) {v : Int32} (hv : dt_ok a v = true) {post : Int32 → Prop}
    (hp : ∀ s : Int32, (∀ b, bt s b = true ↔ ∃ i, i < n ∧ ia i = nI a ∧ dt_sa (dt_p iv i) v.toNatClampNeg 0 = true ∧ bt (ho i) b = true) → post s) : wpX_beginning post (th, od, mn, nI n, tk, hg, de, pa, na, cl, al, so, bl, ia, ik, iv, ho, ki, ta, nu, sp, tr, un) (nI a) v := by
  have kr := dt_key_r hv
  have fin : ∀ z : Int32, z = nI (dt_rm v.toNatClampNeg) → wX_beginning_36 post (nI a) v z th od mn (nI n) tk hg de pa na cl al so bl ia ik iv ho ki ta nu sp tr un := by
    intro z hz
    unfold wX_beginning_36
    refine xd_keyOf (by omega) hv (xd_between h (by omega) (by omega) fun s hs => hp s fun b => ?_)
    rw [hs b, hz]
    constructor
    · rintro ⟨i, i1, i2, i3, i4, i5⟩
      have e := (rl_IX_e h i1 (by omega)).mp i2
      obtain ⟨_, _, p3, p4, _⟩ := h.2.1 i i1
      rw [e] at p3 p4
      rw [p4] at i3 i4
      exact ⟨i, i1, i2, (dt_sa_beg ha p3 hv).mpr ⟨i3, i4⟩, i5⟩
    · rintro ⟨i, i1, i2, i3, i4⟩
      have e := (rl_IX_e h i1 (by omega)).mp i2
      obtain ⟨_, _, p3, p4, _⟩ := h.2.1 i i1
      rw [e] at p3 p4
      have k := (dt_sa_beg ha p3 hv).mp i3
      rw [← p4] at k
      exact ⟨i, i1, i2, k.1, k.2, i4⟩
  obtain ⟨w, hw, rfl, w1⟩ := dt_ok_w ha hv
  rw [nI_clamp (by omega)] at fin
  unfold wpX_beginning
  refine xd_lettersOf hw ?_
  rw [if_pos w1]
  unfold dt_rm at fin
  rcases dt_ln_c w with e | e | e | e
  · rw [e] at fin ⊢
    exact br_t rfl (fin _ rfl)
  · rw [e] at fin ⊢
    exact br_f (by decide) (br_t rfl (fin _ rfl))
  · rw [e] at fin ⊢
    exact br_f (by decide) (br_f (by decide) (br_t rfl (fin _ rfl)))
  · rw [e] at fin ⊢
    exact br_f (by decide) (br_f (by decide) (br_f (by decide) (fin _ rfl)))
theorem xd_holding {n s a : Nat} (h : rl_IX T n ia ik iv ho) (hs : s ≤ 4) (ha : a < 6) {v : Int32} (hd : dt_sd s a v = true) {post : Int32 → Prop}
    (hp : ∀ m : Int32, (∀ b, bt m b = true ↔ ∃ i, i < n ∧ ia i = nI a ∧ dt_mt s a (iv i) v = true ∧ bt (ho i) b = true) → post m) : wpX_holding post (th, od, mn, nI n, tk, hg, de, pa, na, cl, al, so, bl, ia, ik, iv, ho, ki, ta, nu, sp, tr, un) (nI s) (nI a) v := by
  unfold dt_sd at hd
  rw [Bool.and_eq_true, Bool.or_eq_true, beq_iff_eq, Bool.not_eq_true', Bool.and_eq_false_iff, decide_eq_false_iff_not, decide_eq_false_iff_not] at hd
  unfold wpX_holding
  by_cases s0 : s = 0
  · subst s0
    refine xd_keyOf_any fun r => br_f (by decide) (br_f (by decide) (br_t rfl (xd_between h ha (by decide) fun m hm => hp m fun b => ?_)))
    rw [hm b, dt_c1000, dt_d1000]
    constructor
    · rintro ⟨i, i1, i2, _, _, i5⟩
      exact ⟨i, i1, i2, rfl, i5⟩
    · rintro ⟨i, i1, i2, _, i5⟩
      obtain ⟨_, _, _, p4, p5⟩ := rl_IX_p h i1
      exact ⟨i, i1, i2, by omega, by omega, i5⟩
  have hv := hd.1.resolve_left s0
  have kr := dt_key_r hv
  refine xd_keyOf ha hv (br_f (nI_pos (by omega)) ?_)
  by_cases s4 : s = 4
  · subst s4
    have a4 : a < 4 := by omega
    obtain ⟨q, hq, rfl, q1⟩ := dt_ok_w a4 hv
    refine br_t (by decide) (xd_containing h a4 hq q1 fun m hm => hp m fun b => ?_)
    rw [hm b]
    constructor
    · rintro ⟨i, i1, i2, i3, i5⟩
      refine ⟨i, i1, i2, ?_, i5⟩
      have e := (rl_IX_e h i1 (by omega)).mp i2
      have p3 := (h.2.1 i i1).2.2.1
      rw [e] at p3
      obtain ⟨w, hw, ew, w1⟩ := dt_ok_w a4 p3
      unfold dt_p at i3
      rw [ew, nI_clamp (by omega), dt_cont q hq q1 w hw w1] at i3
      unfold dt_mt
      rw [if_neg (by decide), if_neg (by decide), if_neg (by decide), if_neg (by decide), ew, nI_clamp (by omega), nI_clamp (by omega)]
      exact i3
    · rintro ⟨i, i1, i2, i3, i5⟩
      refine ⟨i, i1, i2, ?_, i5⟩
      have e := (rl_IX_e h i1 (by omega)).mp i2
      have p3 := (h.2.1 i i1).2.2.1
      rw [e] at p3
      obtain ⟨w, hw, ew, w1⟩ := dt_ok_w a4 p3
      unfold dt_mt at i3
      rw [if_neg (by decide), if_neg (by decide), if_neg (by decide), if_neg (by decide), ew, nI_clamp (by omega), nI_clamp (by omega)] at i3
      unfold dt_p
      rw [ew, nI_clamp (by omega), dt_cont q hq q1 w hw w1]
      exact i3
  refine br_f (nI_nlt (a := 3) (b := s) (by omega) (by decide)) (br_f (nI_ne0 (by omega) (by omega)) ?_)
  by_cases s1 : s = 1
  · subst s1
    refine br_t rfl (xd_between h ha (by omega) fun m hm => hp m fun b => ?_)
    rw [hm b]
    constructor
    · rintro ⟨i, i1, i2, i3, i4, i5⟩
      have e := (rl_IX_e h i1 (by omega)).mp i2
      obtain ⟨_, _, p3, p4, _⟩ := h.2.1 i i1
      rw [e] at p3 p4
      rw [p4] at i3 i4
      refine ⟨i, i1, i2, ?_, i5⟩
      show (iv i == v) = true
      rw [dt_key_inj p3 hv (by omega), beq_self_eq_true]
    · rintro ⟨i, i1, i2, i3, i5⟩
      have e := (rl_IX_e h i1 (by omega)).mp i2
      obtain ⟨_, _, p3, p4, _⟩ := h.2.1 i i1
      have i3' : (iv i == v) = true := i3
      rw [e, eq_of_beq i3'] at p4
      exact ⟨i, i1, i2, by rw [p4]; exact Int.le_refl _, by rw [p4]; exact Int.le_refl _, i5⟩
  refine br_f (fun z => s1 ((nI_eq (b := 1) (by omega) (by omega)).mp z)) ?_
  by_cases s2 : s = 2
  · subst s2
    refine br_t rfl (xd_between h ha (by omega) fun m hm => hp m fun b => ?_)
    rw [hm b, dt_d1000]
    constructor
    · rintro ⟨i, i1, i2, i3, i4, i5⟩
      have e := (rl_IX_e h i1 (by omega)).mp i2
      obtain ⟨_, _, p3, p4, _⟩ := h.2.1 i i1
      rw [e] at p4
      rw [p4] at i3
      exact ⟨i, i1, i2, decide_eq_true i3, i5⟩
    · rintro ⟨i, i1, i2, i3, i5⟩
      have e := (rl_IX_e h i1 (by omega)).mp i2
      obtain ⟨_, _, p3, p4, _⟩ := h.2.1 i i1
      obtain ⟨_, _, _, _, p6⟩ := rl_IX_p h i1
      rw [e] at p4
      have i3' := of_decide_eq_true (p := (dt_key a v).toInt ≤ (dt_key a (iv i)).toInt) i3
      rw [← p4] at i3'
      exact ⟨i, i1, i2, i3', by omega, i5⟩
  refine br_f (fun z => s2 ((nI_eq (b := 2) (by omega) (by omega)).mp z)) ?_
  have s3 : s = 3 := by omega
  subst s3
  exact br_t rfl (xd_beginning h (by omega) hv fun m hm => hp m fun b => by rw [hm b]; exact Iff.rfl)
theorem xd_push103 {post : SX → Prop} {may set : Int32} {d : Nat} (hd : d < 20) (hp : post (th, od, mn, ix, tk, hg, nI (d + 1), pa, na, cl, al, so, bl, ia, ik, iv, ho, ki, ta, nu, sp, upd tr d (set &&& may), upd un d (th &&& (may ^^^ (-1))))) : wX_pushPlain_103 post may set th od mn ix tk hg (nI d) pa na cl al so bl ia ik iv ho ki ta nu sp tr un := by
  have cd : (nI d).toNatClampNeg = d := nI_clamp (by omega)
  have vd : vp_in (nI d) 20 := vp_in_nI hd (by decide)
  exact ⟨vd, nm_r (e' := upd tr d (set &&& may)) (by rw [cd]) ⟨vd, nm_r (e' := upd un d (th &&& (may ^^^ (-1)))) (by rw [cd]) (nm_r (nI_1 d) hp)⟩⟩
theorem xd_pushPlain {cn vs : Nat → Int32} {n i s a d : Nat} {v : Int32} (H : rl_T (bt th) pa na cl) (h : rl_IX (bt th) n ia ik iv ho) (hM : rl_IM (bt th) n ia iv ho cn vs) (hi : i < 20) (hs : s ≤ 4) (ha : a < 6) (hd : d < 20) (e1 : ki i = nI s) (e2 : ta i = nI a) (e3 : nu i = v) {post : SX → Prop}
    (hp : ∀ f g : Int32, (∀ e, e < 24 → bt th e = true → (bt f e = true ↔ dt_sv cl al cn vs s a v e = 1) ∧ (bt g e = true ↔ dt_sv cl al cn vs s a v e = 2)) → post (th, od, mn, nI n, tk, hg, nI (d + 1), pa, na, cl, al, so, bl, ia, ik, iv, ho, ki, ta, nu, sp, upd tr d f, upd un d g)) : wpX_pushPlain post (th, od, mn, nI n, tk, hg, nI d, pa, na, cl, al, so, bl, ia, ik, iv, ho, ki, ta, nu, sp, tr, un) (nI i) := by
  have ci : (nI i).toNatClampNeg = i := nI_clamp (by omega)
  have vi : vp_in (nI i) 20 := vp_in_nI hi (by decide)
  have p66 : dt_sd s a v = false → wX_pushPlain_66 post (nI s) (nI a) v th od mn (nI n) tk hg (nI d) pa na cl al so bl ia ik iv ho ki ta nu sp tr un := fun z => by
    show wX_pushPlain_67 post (nI s) (nI a) v 0 th od mn (nI n) tk hg (nI d) pa na cl al so bl ia ik iv ho ki ta nu sp tr un
    refine br_t rfl (br_t rfl (xd_push103 hd (hp _ _ fun e he ht => ?_)))
    have sv : dt_sv cl al cn vs s a v e = 2 := by
      unfold dt_sv
      rw [z, Bool.and_false, if_neg (by decide)]
    rw [sv, b_and, b_0, Bool.false_and, b_and, ht, dt_nt 0 (by omega), b_0]
    exact ⟨⟨fun q => absurd q (by decide), fun q => absurd q (by decide)⟩, ⟨fun _ => rfl, fun _ => rfl⟩⟩
  have p62 : dt_sd s a v = true → wX_pushPlain_62 post (nI s) (nI a) v th od mn (nI n) tk hg (nI d) pa na cl al so bl ia ik iv ho ki ta nu sp tr un := fun z => by
    show wX_pushPlain_67 post (nI s) (nI a) v 1 th od mn (nI n) tk hg (nI d) pa na cl al so bl ia ik iv ho ki ta nu sp tr un
    refine br_f (by decide) (xd_allowing H ha fun may hmay => br_f (by decide) (xd_holding h hs ha z fun set hset => xd_push103 hd (hp _ _ fun e he ht => ?_)))
    rw [b_and, Bool.and_eq_true, hset, b_and, ht, Bool.true_and, dt_nt may (by omega)]
    have hm := hmay e
    cases q : bt (al (dt_p cl e)) a
    · have mf : bt may e = false := dt_bf fun y => by
        have := (hm.mp y).2.2
        rw [q] at this
        exact absurd this (by decide)
      have sv : dt_sv cl al cn vs s a v e = 2 := by
        unfold dt_sv
        rw [q, Bool.false_and, if_neg (by decide)]
      rw [mf, sv]
      exact ⟨⟨fun y => absurd y.2 (by decide), fun y => absurd y (by decide)⟩, ⟨fun _ => rfl, fun _ => rfl⟩⟩
    · have mt : bt may e = true := hm.mpr ⟨he, ht, q⟩
      have sv : dt_sv cl al cn vs s a v e = if dt_any (fun k => dt_mt s a (vs (4 * (6 * e + a) + k)) v) (dt_p cn (6 * e + a)) = true then 1 else 0 := by
        unfold dt_sv
        rw [q, z, if_pos (by decide)]
      rw [mt, sv]
      have ex : (∃ i, i < n ∧ ia i = nI a ∧ dt_mt s a (iv i) v = true ∧ bt (ho i) e = true) ↔ dt_any (fun k => dt_mt s a (vs (4 * (6 * e + a) + k)) v) (dt_p cn (6 * e + a)) = true := by
        rw [dt_any_i]
        constructor
        · rintro ⟨i, i1, i2, i3, i4⟩
          obtain ⟨k, k1, k2⟩ := (hM e a (iv i) he ht ha).mp ⟨i, i1, i2, rfl, i4⟩
          exact ⟨k, k1, by rw [k2]; exact i3⟩
        · rintro ⟨k, k1, k2⟩
          obtain ⟨i, i1, i2, i3, i4⟩ := (hM e a _ he ht ha).mpr ⟨k, k1, rfl⟩
          exact ⟨i, i1, i2, by rw [i3]; exact k2, i4⟩
      rw [ex]
      cases y : dt_any (fun k => dt_mt s a (vs (4 * (6 * e + a) + k)) v) (dt_p cn (6 * e + a))
      · rw [if_neg (by decide)]
        exact ⟨⟨fun w => absurd w.1 (by decide), fun w => absurd w (by decide)⟩, ⟨fun w => absurd w (by decide), fun w => absurd w (by decide)⟩⟩
      · rw [if_pos rfl]
        exact ⟨⟨fun _ => rfl, fun _ => ⟨rfl, rfl⟩⟩, ⟨fun w => absurd w (by decide), fun w => absurd w (by decide)⟩⟩
  have p37 : ∀ w : Bool, w = decide (2 < s) → wX_pushPlain_37 post (nI s) (nI a) v (dt_i w) th od mn (nI n) tk hg (nI d) pa na cl al so bl ia ik iv ho ki ta nu sp tr un := fun w hw => by
    by_cases s0 : s = 0
    · refine br_t (by rw [s0]; rfl) (p62 ?_)
      rw [s0]
      rfl
    · refine br_f (nI_ne0 (by omega) (by omega)) (xd_isValue ha ?_)
      cases q : dt_ok a v
      · refine br_t rfl (p66 ?_)
        unfold dt_sd
        rw [q, beq_eq_false_iff_ne.mpr s0, Bool.or_self, Bool.false_and]
      · refine br_f (by decide) ?_
        cases w
        · refine br_t rfl (p62 ?_)
          unfold dt_sd
          rw [q, ← hw, Bool.or_true]
          rfl
        · refine br_f (by decide) (br_c (fun y => p66 ?_) (fun y => p62 ?_))
          · have := (nI_leI (a := 4) (by omega) (by omega)).mp y
            unfold dt_sd
            rw [← hw, decide_eq_true (show 3 < a from by omega), Bool.and_self, Bool.not_true, Bool.and_false]
          · have : ¬ 4 ≤ a := fun x => y (nI_le (a := 4) x (by omega))
            unfold dt_sd
            rw [q, decide_eq_false (show ¬ 3 < a from by omega), Bool.and_false, Bool.or_true]
            rfl
  refine ⟨vi, nm_r (e' := nI s) (by rw [ci, e1]) ⟨vi, nm_r (e' := nI a) (by rw [ci, e2]) ⟨vi, nm_r (e' := v) (by rw [ci, e3]) ?_⟩⟩⟩
  refine br_c (fun y => ?_) (fun y => br_c (fun y2 => ?_) (fun y2 => ?_))
  · have := (nI_eq (b := 3) (by omega) (by omega)).mp y
    exact p37 true (decide_eq_true (by omega)).symm
  · have := (nI_eq (b := 4) (by omega) (by omega)).mp y2
    exact p37 true (decide_eq_true (by omega)).symm
  · refine p37 false (decide_eq_false fun z => ?_).symm
    rcases (by omega : s = 3 ∨ s = 4) with r | r
    · exact y (by rw [r]; rfl)
    · exact y2 (by rw [r]; rfl)
end
end
section
/-! filters worked out: Y entry by entry, X for all at once -/
def dt_tk (k : Nat) : Nat := if k ≤ 4 then 0 else if k = 5 then 1 else 2
def dt_hh (ki : Nat → Int32) : Nat → Nat
  | 0 => 0
  | t + 1 => dt_hh ki t + 1 - dt_tk (dt_p ki t)
def dt_tn (f : Nat) : Nat := if f = 2 then 2 else 1 - f
def dt_bo (f g : Nat) : Nat := if f = 0 ∨ g = 0 then 0 else if f = 1 ∧ g = 1 then 1 else 2
def dt_jn (b : Bool) (f g : Nat) : Nat := if b = true then dt_tn (dt_bo (dt_tn f) (dt_tn g)) else dt_bo f g
def dt_pt (ki : Nat → Int32) (sv : Nat → Nat) : Nat → Nat → Nat
  | 0, _ => 0
  | t + 1, j =>
    if dt_p ki t ≤ 4 then (if j = dt_hh ki t then sv t else dt_pt ki sv t j)
    else if dt_p ki t = 5 then (if j + 1 = dt_hh ki t then dt_tn (dt_pt ki sv t j) else dt_pt ki sv t j)
    else (if j + 2 = dt_hh ki t then dt_jn (dt_p ki t == 7) (dt_pt ki sv t j) (dt_pt ki sv t (j + 1)) else dt_pt ki sv t j)
def dt_se (cl al cn vs ki ta nu : Nat → Int32) (e i : Nat) : Nat := dt_sv cl al cn vs (dt_p ki i) (dt_p ta i) (nu i) e
def dt_tt (cl al cn vs ki ta nu : Nat → Int32) (t e : Nat) : Nat := dt_pt ki (dt_se cl al cn vs ki ta nu e) t (dt_hh ki t - 1)
theorem dt_tn_le (f : Nat) : dt_tn f ≤ 2 := by
  unfold dt_tn
  split <;> omega
theorem dt_bo_le (f g : Nat) : dt_bo f g ≤ 2 := by
  unfold dt_bo
  repeat' split
  all_goals omega
theorem dt_jn_le (b : Bool) (f g : Nat) : dt_jn b f g ≤ 2 := by
  unfold dt_jn
  split
  · exact dt_tn_le _
  · exact dt_bo_le _ _
theorem dt_sv_le (cl al cn vs : Nat → Int32) (s a : Nat) (v : Int32) (e : Nat) : dt_sv cl al cn vs s a v e ≤ 2 := by
  unfold dt_sv
  repeat' split
  all_goals omega
theorem dt_pt_le {ki : Nat → Int32} {sv : Nat → Nat} (h : ∀ i, sv i ≤ 2) : ∀ t j, dt_pt ki sv t j ≤ 2
  | 0, _ => Nat.zero_le _
  | t + 1, j => by
    have ih := dt_pt_le (ki := ki) h t
    unfold dt_pt
    repeat' split
    all_goals first | exact h _ | exact ih _ | exact dt_tn_le _ | exact dt_jn_le _ _ _
theorem dt_tk_0 {k : Nat} (h : k ≤ 4) : dt_tk k = 0 := if_pos h
theorem dt_tk_1 {k : Nat} (h : k = 5) : dt_tk k = 1 := by rw [h]; rfl
theorem dt_tk_2 {k : Nat} (h : 5 < k) : dt_tk k = 2 := by
  unfold dt_tk
  rw [if_neg (by omega), if_neg (by omega)]
theorem dt_hh_s (ki : Nat → Int32) (t : Nat) : dt_hh ki (t + 1) = dt_hh ki t + 1 - dt_tk (dt_p ki t) := rfl
theorem dt_pt_0 {ki : Nat → Int32} {sv : Nat → Nat} {t j : Nat} (h : dt_p ki t ≤ 4) : dt_pt ki sv (t + 1) j = if j = dt_hh ki t then sv t else dt_pt ki sv t j := if_pos h
theorem dt_pt_1 {ki : Nat → Int32} {sv : Nat → Nat} {t j : Nat} (h : dt_p ki t = 5) : dt_pt ki sv (t + 1) j = if j + 1 = dt_hh ki t then dt_tn (dt_pt ki sv t j) else dt_pt ki sv t j := by
  show (if dt_p ki t ≤ 4 then _ else _) = _
  rw [if_neg (by omega), if_pos h]
theorem dt_pt_2 {ki : Nat → Int32} {sv : Nat → Nat} {t j : Nat} (h : 5 < dt_p ki t) : dt_pt ki sv (t + 1) j = if j + 2 = dt_hh ki t then dt_jn (dt_p ki t == 7) (dt_pt ki sv t j) (dt_pt ki sv t (j + 1)) else dt_pt ki sv t j := by
  show (if dt_p ki t ≤ 4 then _ else _) = _
  rw [if_neg (by omega), if_neg (by omega)]
def rl_F (t : Nat) (hg : Int32) (ki ta ya sp : Nat → Int32) : Prop :=
  t ≤ 20 ∧ hg = nI (dt_hh ki t) ∧
  (∀ i, i < t → ki i = nI (dt_p ki i) ∧ dt_p ki i ≤ 7 ∧ dt_tk (dt_p ki i) ≤ dt_hh ki i ∧ (dt_p ki i ≤ 4 → ya i = ta i ∧ ta i = nI (dt_p ta i) ∧ dt_p ta i < 6)) ∧
  (∀ i, i ≤ t → dt_hh ki i ≤ 6) ∧
  (∀ i, i < t → ∃ s, sp i = nI s ∧ 0 < s ∧ s ≤ i + 1 ∧ dt_hh ki (i + 1) = dt_hh ki (i + 1 - s) + 1 ∧ ∀ u, i + 1 - s < u → u ≤ i + 1 → dt_hh ki (i + 1 - s) < dt_hh ki u)
section
variable {tk hg : Int32} {yt pa na cl al cn vs ki ya nu ps yo wa : Nat → Int32} {T : Nat → Bool}
theorem yd_turned {post : Int32 → Prop} {f : Nat} (hf : f ≤ 2) (hp : post (nI (dt_tn f))) : wpY_turned post (tk, hg, yt, pa, na, cl, al, cn, vs, ki, ya, nu, ps, yo, wa) (nI f) := by
  rcases (by omega : f = 0 ∨ f = 1 ∨ f = 2) with r | r | r
  · subst r
    exact br_f (by decide) hp
  · subst r
    exact br_f (by decide) hp
  · subst r
    exact br_t rfl hp
theorem yd_both {post : Int32 → Prop} {f g : Nat} (hf : f ≤ 2) (hg' : g ≤ 2) (hp : post (nI (dt_bo f g))) : wpY_both post (tk, hg, yt, pa, na, cl, al, cn, vs, ki, ya, nu, ps, yo, wa) (nI f) (nI g) := by
  rcases (by omega : f = 0 ∨ f = 1 ∨ f = 2) with r | r | r
  · subst r
    exact br_t rfl hp
  · subst r
    rcases (by omega : g = 0 ∨ g = 1 ∨ g = 2) with q | q | q
    · subst q
      exact br_f (by decide) (br_t rfl hp)
    · subst q
      exact br_f (by decide) (br_f (by decide) (br_t rfl (br_t rfl hp)))
    · subst q
      exact br_f (by decide) (br_f (by decide) (br_t rfl (br_f (by decide) hp)))
  · subst r
    rcases (by omega : g = 0 ∨ g = 1 ∨ g = 2) with q | q | q
    · subst q
      exact br_f (by decide) (br_t rfl hp)
    · subst q
      exact br_f (by decide) (br_f (by decide) (br_f (by decide) hp))
    · subst q
      exact br_f (by decide) (br_f (by decide) (br_f (by decide) hp))
theorem dt_m2 (h : Nat) : nI (h + 2) - 2 = nI h := by
  show nI (h + 2) - nI 2 = _
  rw [pk_sub (by omega)]
  rfl
theorem yd_join {post : Int32 → SY → Prop} {J : Int32 → Int32 → (Nat → Int32) → (Nat → Int32) → (Nat → Int32) → (Nat → Int32) → (Nat → Int32) → (Nat → Int32) → (Nat → Int32) → (Nat → Int32) → (Nat → Int32) → (Nat → Int32) → (Nat → Int32) → (Nat → Int32) → (Nat → Int32) → Prop} {x1 : Int32} {i h f g : Nat} (b : Bool) (hh : h + 2 ≤ 20) (hf : f ≤ 2) (hg' : g ≤ 2)
    (hp : J (nI (h + 1)) (nI (i + 1)) yt pa na cl al cn vs ki ya nu (upd ps h (nI (dt_jn b f g))) yo wa) : wY_truth_130 post J x1 (nI (h + 2)) (nI i) (nI f) (nI g) (dt_i b) tk hg yt pa na cl al cn vs ki ya nu ps yo wa := by
  have e2 := dt_m2 h
  have ch : (nI h).toNatClampNeg = h := nI_clamp (by omega)
  have vh : vp_in (nI h) 20 := vp_in_nI (by omega) (by decide)
  cases b
  · refine br_t rfl (br_t rfl (yd_both hf hg' (br_t rfl ?_)))
    rw [e2, ch]
    exact ⟨vh, nm_e (nm_r (pk_m1 (h + 1)) (nm_r (nI_1 i) hp))⟩
  · refine br_f (by decide) (yd_turned hf (br_f (by decide) (yd_turned hg' (yd_both (dt_tn_le _) (dt_tn_le _) (br_f (by decide) (yd_turned (dt_bo_le _ _) ?_))))))
    rw [e2, ch]
    exact ⟨vh, nm_e (nm_r (pk_m1 (h + 1)) (nm_r (nI_1 i) hp))⟩
theorem yd_truth_l (H : rl_T T pa na cl) (hI : rl_IY T cn vs) {ta sp : Nat → Int32} {t e : Nat} (F : rl_F t hg ki ta ya sp) (he : e < 24) (ht : T e = true) (h0 : 0 < dt_hh ki t) {post : Int32 → SY → Prop} (hp : ∀ ps : Nat → Int32, post (nI (dt_tt cl al cn vs ki ta nu t e)) (nI t, hg, yt, pa, na, cl, al, cn, vs, ki, ya, nu, ps, yo, wa)) :
    ∀ (d i : Nat) (ps : Nat → Int32), i + d = t → (∀ j, j < dt_hh ki i → ps j = nI (dt_pt ki (dt_se cl al cn vs ki ta nu e) i j)) → wY_truth_4 post (nI e) (nI t) hg (d + 1) (nI (dt_hh ki i)) (nI i) yt pa na cl al cn vs ki ya nu ps yo wa
  | 0, i, ps, hd, hs => by
    have t20 := F.1
    have z : i = t := by omega
    subst z
    have h6 := F.2.2.2.1 i (Nat.le_refl _)
    have hp' := hp ps
    unfold dt_tt at hp'
    obtain ⟨m, hm⟩ : ∃ m, dt_hh ki i = m + 1 := ⟨dt_hh ki i - 1, by omega⟩
    have e1 : nI (dt_hh ki i) - 1 = nI m := by rw [hm]; exact nI_pred m
    rw [show dt_hh ki i - 1 = m from by omega, ← hs m (by omega)] at hp'
    refine br_t (nI_le (Nat.le_refl _) (by omega)) ?_
    rw [e1, nI_clamp (by omega)]
    exact ⟨vp_in_nI (by omega) (by decide), hp'⟩
  | d + 1, i, ps, hd, hs => by
    have t20 := F.1
    obtain ⟨k1, k2, k3, k4⟩ := F.2.2.1 i (by omega)
    have h6 := F.2.2.2.1 i (by omega)
    have hs1 := dt_hh_s ki i
    have ci : (nI i).toNatClampNeg = i := nI_clamp (by omega)
    have vi : vp_in (nI i) 20 := vp_in_nI (by omega) (by decide)
    have pl : ∀ t j, dt_pt ki (dt_se cl al cn vs ki ta nu e) t j ≤ 2 := dt_pt_le fun i => dt_sv_le _ _ _ _ _ _ _ _
    have ih := fun ps => yd_truth_l H hI F he ht h0 hp d (i + 1) ps (by omega)
    refine br_f (nI_ge (by omega) (by omega)) ⟨vi, ?_⟩
    rw [ci]
    by_cases z : dt_p ki i ≤ 4
    · obtain ⟨a1, a2, a3⟩ := k4 z
      rw [dt_tk_0 z] at hs1
      have ch : (nI (dt_hh ki i)).toNatClampNeg = dt_hh ki i := nI_clamp (by omega)
      rw [hs1] at ih
      rw [k1, a1, a2]
      refine br_f (nI_ge (b := 5) (by omega) (by decide)) ⟨vi, vi, vi, yd_simple H hI he ht z a3 ⟨vp_in_nI (by omega) (by decide), nm_e (nm_r (nI_1 _) (nm_r (nI_1 i) ?_))⟩⟩
      rw [ch]
      refine ih _ fun j hj => ?_
      rw [dt_pt_0 z]
      by_cases y : j = dt_hh ki i
      · rw [if_pos y, y, pk_us]
        rfl
      · rw [if_neg y, pk_un y]
        exact hs j (by omega)
    · refine br_t (by rw [k1]; exact nI_le (a := 5) (by omega) (by omega)) ⟨vi, ?_⟩
      rw [k1]
      by_cases y : dt_p ki i = 5
      · rw [dt_tk_1 y] at hs1 k3
        obtain ⟨m, hm⟩ : ∃ m, dt_hh ki i = m + 1 := ⟨dt_hh ki i - 1, by omega⟩
        have e1 : nI (dt_hh ki i) - 1 = nI m := by rw [hm]; exact nI_pred m
        have cm : (nI m).toNatClampNeg = m := nI_clamp (by omega)
        refine br_t (by rw [y]; rfl) ?_
        rw [e1, cm, hs m (by omega)]
        refine ⟨vp_in_nI (by omega) (by decide), yd_turned (pl _ _) ⟨vp_in_nI (by omega) (by decide), nm_e (nm_r (nI_1 i) ?_)⟩⟩
        rw [show dt_hh ki (i + 1) = dt_hh ki i from by omega] at ih
        refine ih _ fun j hj => ?_
        rw [dt_pt_1 y]
        by_cases w : j = m
        · rw [if_pos (by omega), w, pk_us]
        · rw [if_neg (by omega), pk_un w]
          exact hs j hj
      · rw [dt_tk_2 (by omega)] at hs1 k3
        obtain ⟨m, hm⟩ : ∃ m, dt_hh ki i = m + 2 := ⟨dt_hh ki i - 2, by omega⟩
        have e1 : nI (dt_hh ki i) - 1 = nI (m + 1) := by rw [hm]; exact nI_pred (m + 1)
        have e2 : nI (dt_hh ki i) - 2 = nI m := by rw [hm]; exact dt_m2 m
        have cm : (nI m).toNatClampNeg = m := nI_clamp (by omega)
        have cm1 : (nI (m + 1)).toNatClampNeg = m + 1 := nI_clamp (by omega)
        refine br_f (fun w => y ((nI_eq (b := 5) (by omega) (by omega)).mp w)) ?_
        rw [e1, e2, cm, cm1, hs m (by omega), hs (m + 1) (by omega)]
        rw [show dt_hh ki (i + 1) = m + 1 from by omega] at ih
        have go : wY_truth_130 post (wY_truth_4 post (nI e) (nI t) hg (d + 1)) (nI e) (nI (dt_hh ki i)) (nI i) (nI (dt_pt ki (dt_se cl al cn vs ki ta nu e) i m)) (nI (dt_pt ki (dt_se cl al cn vs ki ta nu e) i (m + 1))) (dt_i (dt_p ki i == 7)) (nI t) hg yt pa na cl al cn vs ki ya nu ps yo wa := by
          rw [hm]
          refine yd_join _ (by omega) (pl _ _) (pl _ _) (ih _ fun j hj => ?_)
          rw [dt_pt_2 (by omega)]
          by_cases w : j = m
          · rw [if_pos (by omega), w, pk_us]
          · rw [if_neg (by omega), pk_un w]
            exact hs j (by omega)
        refine ⟨vp_in_nI (by omega) (by decide), nm_e ⟨vp_in_nI (by omega) (by decide), nm_e ⟨vi, br_c (fun w => ?_) (fun w => ?_)⟩⟩⟩
        · have w' := (nI_eq (b := 7) (by omega) (by omega)).mp w
          rw [w'] at go
          exact go
        · rw [beq_eq_false_iff_ne.mpr (show dt_p ki i ≠ 7 from fun x => w (by rw [x]; rfl))] at go
          exact go
theorem yd_truth (H : rl_T T pa na cl) (hI : rl_IY T cn vs) {ta sp : Nat → Int32} {t e : Nat} (F : rl_F t hg ki ta ya sp) (he : e < 24) (ht : T e = true) (h0 : 0 < dt_hh ki t) {post : Int32 → SY → Prop} (hp : ∀ ps : Nat → Int32, post (nI (dt_tt cl al cn vs ki ta nu t e)) (nI t, hg, yt, pa, na, cl, al, cn, vs, ki, ya, nu, ps, yo, wa)) : wpY_truth post (nI t, hg, yt, pa, na, cl, al, cn, vs, ki, ya, nu, ps, yo, wa) (nI e) :=
  ⟨t + 1, yd_truth_l H hI F he ht h0 hp t 0 ps (Nat.zero_add t) (fun j hj => absurd hj (Nat.not_lt_zero _))⟩
end
end
section
/-! X: the top filter for all entries at once -/
def dt_R3 (t u : Int32) (e a : Nat) : Prop := bt t e = decide (a = 1) ∧ bt u e = decide (a = 2)
theorem dt_R3_i {t u : Int32} {e a : Nat} (h1 : bt t e = true ↔ a = 1) (h2 : bt u e = true ↔ a = 2) : dt_R3 t u e a := by
  constructor
  · rw [Bool.eq_iff_iff, decide_eq_true_eq]
    exact h1
  · rw [Bool.eq_iff_iff, decide_eq_true_eq]
    exact h2
theorem dt_R3_n {th t u : Int32} {e a : Nat} (he : e < 24) (ht : bt th e = true) (ha : a ≤ 2) (h : dt_R3 t u e a) : dt_R3 ((th &&& (t ^^^ (-1))) &&& (u ^^^ (-1))) u e (dt_tn a) := by
  obtain ⟨h1, h2⟩ := h
  constructor
  · rw [b_and, b_and, dt_nt t (by omega), dt_nt u (by omega), ht, h1, h2]
    rcases (by omega : a = 0 ∨ a = 1 ∨ a = 2) with r | r | r <;> (subst r; rfl)
  · rw [h2]
    rcases (by omega : a = 0 ∨ a = 1 ∨ a = 2) with r | r | r <;> (subst r; rfl)
theorem dt_R3_f {th t u : Int32} {e a : Nat} (he : e < 24) (ht : bt th e = true) (ha : a ≤ 2) (h : dt_R3 t u e a) : bt ((th &&& (t ^^^ (-1))) &&& (u ^^^ (-1))) e = decide (a = 0) := by
  obtain ⟨h1, h2⟩ := h
  rw [b_and, b_and, dt_nt t (by omega), dt_nt u (by omega), ht, h1, h2]
  rcases (by omega : a = 0 ∨ a = 1 ∨ a = 2) with r | r | r <;> (subst r; rfl)
theorem dt_R3_a {th t u s w : Int32} {e a b : Nat} (he : e < 24) (ht : bt th e = true) (ha : a ≤ 2) (hb : b ≤ 2) (h : dt_R3 t u e a) (k : dt_R3 s w e b) : dt_R3 (t &&& s) ((th &&& ((t &&& s) ^^^ (-1))) &&& ((((th &&& (t ^^^ (-1))) &&& (u ^^^ (-1))) ||| ((th &&& (s ^^^ (-1))) &&& (w ^^^ (-1)))) ^^^ (-1))) e (dt_jn false a b) := by
  have h0 := dt_R3_f he ht ha h
  have k0 := dt_R3_f he ht hb k
  constructor
  · rw [b_and, h.1, k.1]
    rcases (by omega : a = 0 ∨ a = 1 ∨ a = 2) with r | r | r <;> rcases (by omega : b = 0 ∨ b = 1 ∨ b = 2) with q | q | q <;> (subst r; subst q; rfl)
  · rw [b_and, b_and, dt_nt _ (show e < 32 from by omega), dt_nt _ (show e < 32 from by omega), b_and, b_or, h0, k0, ht, h.1, k.1]
    rcases (by omega : a = 0 ∨ a = 1 ∨ a = 2) with r | r | r <;> rcases (by omega : b = 0 ∨ b = 1 ∨ b = 2) with q | q | q <;> (subst r; subst q; rfl)
theorem dt_R3_o {th t u s w : Int32} {e a b : Nat} (he : e < 24) (ht : bt th e = true) (ha : a ≤ 2) (hb : b ≤ 2) (h : dt_R3 t u e a) (k : dt_R3 s w e b) : dt_R3 (t ||| s) ((th &&& ((t ||| s) ^^^ (-1))) &&& ((((th &&& (t ^^^ (-1))) &&& (u ^^^ (-1))) &&& ((th &&& (s ^^^ (-1))) &&& (w ^^^ (-1)))) ^^^ (-1))) e (dt_jn true a b) := by
  have h0 := dt_R3_f he ht ha h
  have k0 := dt_R3_f he ht hb k
  constructor
  · rw [b_or, h.1, k.1]
    rcases (by omega : a = 0 ∨ a = 1 ∨ a = 2) with r | r | r <;> rcases (by omega : b = 0 ∨ b = 1 ∨ b = 2) with q | q | q <;> (subst r; subst q; rfl)
  · rw [b_and, b_and, dt_nt _ (show e < 32 from by omega), dt_nt _ (show e < 32 from by omega), b_or]
    rw [b_and ((th &&& (t ^^^ (-1))) &&& (u ^^^ (-1))), h0, k0, ht, h.1, k.1]
    rcases (by omega : a = 0 ∨ a = 1 ∨ a = 2) with r | r | r <;> rcases (by omega : b = 0 ∨ b = 1 ∨ b = 2) with q | q | q <;> (subst r; subst q; rfl)
section
variable {th od mn ix tk hg de : Int32} {pa na cl al so bl ia ik iv ho ki ta nu sp tr un : Nat → Int32}
theorem xd_taken {post : Int32 → Prop} {k : Nat} (hk : k ≤ 7) (hp : post (nI (dt_tk k))) : wpX_taken post (nI k) := by
  by_cases z : k ≤ 4
  · rw [dt_tk_0 z] at hp
    exact br_f (nI_nlt (a := 4) (b := k) z (by decide)) hp
  · refine br_t (nI_lt (a := 4) (by omega) (by omega)) ?_
    by_cases y : k = 5
    · rw [dt_tk_1 y] at hp
      subst y
      exact br_t rfl hp
    · rw [dt_tk_2 (by omega)] at hp
      exact br_f (fun w => y ((nI_eq (b := 5) (by omega) (by omega)).mp w)) hp
theorem xd_join {post : SX → Prop} (b : Bool) {m : Nat} (hm : m + 2 ≤ 20)
    (hp : ∀ f g : Int32, (∀ e x y, e < 24 → bt th e = true → x ≤ 2 → y ≤ 2 → dt_R3 (tr m) (un m) e x → dt_R3 (tr (m + 1)) (un (m + 1)) e y → dt_R3 f g e (dt_jn b x y)) → post (th, od, mn, ix, tk, hg, nI (m + 1), pa, na, cl, al, so, bl, ia, ik, iv, ho, ki, ta, nu, sp, upd tr m f, upd un m g)) : wpX_join post (th, od, mn, ix, tk, hg, nI (m + 2), pa, na, cl, al, so, bl, ia, ik, iv, ho, ki, ta, nu, sp, tr, un) (dt_i !b) := by
  have e1 : nI (m + 2) - 1 = nI (m + 1) := nI_pred (m + 1)
  have e2 : nI (m + 1) - 1 = nI m := nI_pred m
  have cm : (nI m).toNatClampNeg = m := nI_clamp (by omega)
  have cm1 : (nI (m + 1)).toNatClampNeg = m + 1 := nI_clamp (by omega)
  have v0 : vp_in (nI m) 20 := vp_in_nI (by omega) (by decide)
  have v1 : vp_in (nI (m + 1)) 20 := vp_in_nI (by omega) (by decide)
  refine nm_r e1 ?_
  rw [e2, cm, cm1]
  refine ⟨v0, nm_e ⟨v1, nm_e ⟨v0, nm_e ⟨v1, nm_e ?_⟩⟩⟩⟩
  have fin : ∀ f z : Int32, (∀ e x y, e < 24 → bt th e = true → x ≤ 2 → y ≤ 2 → dt_R3 (tr m) (un m) e x → dt_R3 (tr (m + 1)) (un (m + 1)) e y → dt_R3 f ((th &&& (f ^^^ (-1))) &&& (z ^^^ (-1))) e (dt_jn b x y)) → wX_join_110 post f z th od mn ix tk hg (nI (m + 1)) pa na cl al so bl ia ik iv ho ki ta nu sp tr un := fun f z w => by
    unfold wX_join_110
    rw [e2, cm]
    exact ⟨v0, nm_e ⟨v0, nm_e (hp _ _ w)⟩⟩
  cases b
  · exact br_f (by decide) (br_f (by decide) (fin _ _ fun e x y a1 a2 a3 a4 a5 a6 => dt_R3_a a1 a2 a3 a4 a5 a6))
  · exact br_t rfl (br_t rfl (fin _ _ fun e x y a1 a2 a3 a4 a5 a6 => dt_R3_o a1 a2 a3 a4 a5 a6))
theorem xd_workOut_l {cn vs ya : Nat → Int32} {n t b0 : Nat} (H : rl_T (bt th) pa na cl) (h : rl_IX (bt th) n ia ik iv ho) (hM : rl_IM (bt th) n ia iv ho cn vs) (F : rl_F t hg ki ta ya sp) {post : SX → Prop}
    (hp : ∀ (m : Nat) (tr un : Nat → Int32), dt_hh ki t = b0 + m → (∀ e, e < 24 → bt th e = true → ∀ j, j < m → dt_R3 (tr j) (un j) e (dt_pt ki (dt_se cl al cn vs ki ta nu e) t (b0 + j))) → post (th, od, mn, nI n, nI t, hg, nI m, pa, na, cl, al, so, bl, ia, ik, iv, ho, ki, ta, nu, sp, tr, un)) :
    ∀ (d i m : Nat) (tr un : Nat → Int32), i + d = t → (∀ u, i < u → u ≤ t → b0 < dt_hh ki u) → dt_hh ki i = b0 + m → (∀ e, e < 24 → bt th e = true → ∀ j, j < m → dt_R3 (tr j) (un j) e (dt_pt ki (dt_se cl al cn vs ki ta nu e) i (b0 + j))) → wX_workOut_22 post (d + 1) (nI i) th od mn (nI n) (nI t) hg (nI m) pa na cl al so bl ia ik iv ho ki ta nu sp tr un
  | 0, i, m, tr, un, hd, _, hm, hs => by
    have t20 := F.1
    have z : i = t := by omega
    subst z
    exact br_t (nI_le (Nat.le_refl _) (by omega)) (hp m tr un hm hs)
  | d + 1, i, m, tr, un, hd, hu, hm, hs => by
    have t20 := F.1
    obtain ⟨k1, k2, k3, k4⟩ := F.2.2.1 i (by omega)
    have h6 := F.2.2.2.1 i (by omega)
    have hs1 := dt_hh_s ki i
    have hu1 := hu (i + 1) (by omega) (by omega)
    have ci : (nI i).toNatClampNeg = i := nI_clamp (by omega)
    have vi : vp_in (nI i) 20 := vp_in_nI (by omega) (by decide)
    have pl : ∀ e t j, dt_pt ki (dt_se cl al cn vs ki ta nu e) t j ≤ 2 := fun e => dt_pt_le fun i => dt_sv_le _ _ _ _ _ _ _ _
    have ih := fun m tr un => xd_workOut_l H h hM F hp d (i + 1) m tr un (by omega) (fun u a b => hu u (by omega) b)
    refine br_f (nI_ge (by omega) (by omega)) ⟨vi, ?_⟩
    rw [ci, k1]
    refine xd_taken k2 ?_
    by_cases z : dt_p ki i ≤ 4
    · obtain ⟨_, a2, a3⟩ := k4 z
      rw [dt_tk_0 z] at hs1 ⊢
      refine br_t rfl (xd_pushPlain H h hM (by omega) z a3 (by omega) k1 a2 rfl fun f g hfg => nm_r (nI_1 i) (ih (m + 1) _ _ (by omega) fun e he ht j hj => ?_))
      rw [dt_pt_0 z]
      by_cases y : j = m
      · rw [if_pos (by omega), y, pk_us, pk_us]
        have w := hfg e he ht
        exact dt_R3_i w.1 w.2
      · rw [if_neg (by omega), pk_un y, pk_un y]
        exact hs e he ht j (by omega)
    · by_cases y : dt_p ki i = 5
      · rw [dt_tk_1 y] at hs1 k3 ⊢
        obtain ⟨q, rfl⟩ : ∃ q, m = q + 1 := ⟨m - 1, by omega⟩
        have e1 : nI (q + 1) - 1 = nI q := nI_pred q
        have cq : (nI q).toNatClampNeg = q := nI_clamp (by omega)
        have vq : vp_in (nI q) 20 := vp_in_nI (by omega) (by decide)
        refine br_f (by decide) (br_t rfl ?_)
        rw [e1, cq]
        refine ⟨vq, vq, vq, nm_e (nm_r (nI_1 i) (ih (q + 1) _ _ (by omega) fun e he ht j hj => ?_))⟩
        rw [dt_pt_1 y]
        by_cases w : j = q
        · rw [if_pos (by omega), w, pk_us]
          exact dt_R3_n he ht (pl _ _ _) (hs e he ht q (by omega))
        · rw [if_neg (by omega), pk_un w]
          exact hs e he ht j hj
      · rw [dt_tk_2 (by omega)] at hs1 k3 ⊢
        obtain ⟨q, rfl⟩ : ∃ q, m = q + 2 := ⟨m - 2, by omega⟩
        refine br_f (by decide) (br_f (by decide) ⟨vi, ?_⟩)
        have go : wX_workOut_120 post (wX_workOut_22 post (d + 1)) (nI i) (dt_i !(dt_p ki i == 7)) th od mn (nI n) (nI t) hg (nI (q + 2)) pa na cl al so bl ia ik iv ho ki ta nu sp tr un := by
          refine xd_join _ (by omega) fun f g hfg => nm_r (nI_1 i) (ih (q + 1) _ _ (by omega) fun e he ht j hj => ?_)
          rw [dt_pt_2 (by omega)]
          by_cases w : j = q
          · rw [if_pos (by omega), w, pk_us, pk_us]
            exact hfg e _ _ he ht (pl _ _ _) (pl _ _ _) (hs e he ht q (by omega)) (hs e he ht (q + 1) (by omega))
          · rw [if_neg (by omega), pk_un w, pk_un w]
            exact hs e he ht j (by omega)
        refine br_c (fun w => ?_) (fun w => ?_)
        · have w' := (nI_eq (b := 6) (by omega) (by omega)).mp w
          rw [w'] at go
          exact go
        · have w' : ¬ dt_p ki i = 6 := fun x => w (by rw [x]; rfl)
          rw [show dt_p ki i = 7 from by omega] at go
          exact go
theorem xd_workOut {cn vs ya : Nat → Int32} {n t : Nat} (H : rl_T (bt th) pa na cl) (h : rl_IX (bt th) n ia ik iv ho) (hM : rl_IM (bt th) n ia iv ho cn vs) (F : rl_F t hg ki ta ya sp) (h0 : 0 < dt_hh ki t) {post : SX → Prop}
    (hp : ∀ (de : Int32) (tr un : Nat → Int32), (∀ e, e < 24 → bt th e = true → dt_R3 (tr 0) (un 0) e (dt_tt cl al cn vs ki ta nu t e)) → post (th, od, mn, nI n, nI t, hg, de, pa, na, cl, al, so, bl, ia, ik, iv, ho, ki, ta, nu, sp, tr, un)) : wpX_workOut post (th, od, mn, nI n, nI t, hg, de, pa, na, cl, al, so, bl, ia, ik, iv, ho, ki, ta, nu, sp, tr, un) := by
  have t20 := F.1
  obtain ⟨q, rfl⟩ : ∃ q, t = q + 1 := by
    cases t with
    | zero => exact absurd h0 (Nat.lt_irrefl _)
    | succ q => exact ⟨q, rfl⟩
  obtain ⟨s, s1, s2, s3, s4, s5⟩ := F.2.2.2.2 q (by omega)
  have e1 : nI (q + 1) - 1 = nI q := nI_pred q
  have cq : (nI q).toNatClampNeg = q := nI_clamp (by omega)
  have es : nI (q + 1) - nI s = nI (q + 1 - s) := pk_sub s3
  refine ⟨by rw [e1]; exact vp_in_nI (by omega) (by decide), nm_r (e' := nI (q + 1 - s)) (by rw [e1, cq, s1]; exact es) ⟨s + 1, xd_workOut_l (b0 := dt_hh ki (q + 1 - s)) H h hM F ?_ s (q + 1 - s) 0 tr un (by omega) s5 rfl (fun e _ _ j hj => absurd hj (by omega))⟩⟩
  intro m tr un hm hs
  have m1 : m = 1 := by omega
  subst m1
  refine hp _ tr un fun e he ht => ?_
  have k := hs e he ht 0 (by omega)
  unfold dt_tt
  rw [show dt_hh ki (q + 1) - 1 = dt_hh ki (q + 1 - s) + 0 from by omega]
  exact k
end
end
section
/-! the relation -/
def rl_A (th od mn : Int32) (yt pa na cl so bl : Nat → Int32) : Prop :=
  dt_S th ∧ rl_T (bt th) pa na cl ∧ rl_Y (bt th) yt ∧ (od = 0 ∨ od = 1 ∧ rl_O (bt th) pa na mn so bl)
def rl_B (th : Int32) (n : Nat) (ia ik iv ho cn vs : Nat → Int32) : Prop :=
  rl_IX (bt th) n ia ik iv ho ∧ rl_IM (bt th) n ia iv ho cn vs ∧ rl_IY (bt th) cn vs
def i_Rel (_ : Nat) (u : SX) (v : SY) : Prop :=
  match u with
  | (th, od, mn, ix, tk, hg, de, pa, na, cl, al, so, bl, ia, ik, iv, ho, ki, ta, nu, sp, tr, un) => match v with
    | (yk, yh, yt, yp, yn, yc, yl, cn, vs, yi, ya, yu, ps, yo, wa) =>
      yk = tk ∧ yh = hg ∧ yp = pa ∧ yn = na ∧ yc = cl ∧ yl = al ∧ yi = ki ∧ yu = nu ∧
      rl_A th od mn yt pa na cl so bl ∧ (∃ n, ix = nI n ∧ rl_B th n ia ik iv ho cn vs) ∧ ∃ t, tk = nI t ∧ rl_F t hg ki ta ya sp
theorem i_up {k : Nat} {u : SX} {v : SY} (h : i_Rel k u v) : i_Rel (k + 4) u v := h
section
variable {th od mn ix tk hg de : Int32} {pa na cl al so bl ia ik iv ho ki ta nu sp tr un : Nat → Int32} {yt cn vs ya ps yo wa : Nat → Int32}
theorem rl_mk {k n t : Nat} (a : rl_A th od mn yt pa na cl so bl) (b : rl_B th n ia ik iv ho cn vs) (c : rl_F t hg ki ta ya sp) : i_Rel k (th, od, mn, nI n, nI t, hg, de, pa, na, cl, al, so, bl, ia, ik, iv, ho, ki, ta, nu, sp, tr, un) (nI t, hg, yt, pa, na, cl, al, cn, vs, ki, ya, nu, ps, yo, wa) :=
  ⟨rfl, rfl, rfl, rfl, rfl, rfl, rfl, rfl, a, ⟨n, rfl, b⟩, ⟨t, rfl, c⟩⟩
end
theorem rl_el {P : SX → SY → Prop} {k : Nat} {u : SX} {v : SY} (I : i_Rel k u v)
    (h : ∀ (th od mn : Int32) (n t : Nat) (hg de : Int32) (pa na cl al so bl ia ik iv ho ki ta nu sp tr un yt cn vs ya ps yo wa : Nat → Int32), rl_A th od mn yt pa na cl so bl → rl_B th n ia ik iv ho cn vs → rl_F t hg ki ta ya sp → P (th, od, mn, nI n, nI t, hg, de, pa, na, cl, al, so, bl, ia, ik, iv, ho, ki, ta, nu, sp, tr, un) (nI t, hg, yt, pa, na, cl, al, cn, vs, ki, ya, nu, ps, yo, wa)) : P u v := by
  obtain ⟨th, od, mn, ix, tk, hg, de, pa, na, cl, al, so, bl, ia, ik, iv, ho, ki, ta, nu, sp, tr, un⟩ := u
  obtain ⟨yk, yh, yt, yp, yn, yc, yl, cn, vs, yi, ya, yu, ps, yo, wa⟩ := v
  obtain ⟨rfl, rfl, rfl, rfl, rfl, rfl, rfl, rfl, a, ⟨n, rfl, b⟩, ⟨t, rfl, c⟩⟩ := I
  exact h _ _ _ _ _ _ _ _ _ _ _ _ _ _ _ _ _ _ _ _ _ _ _ _ _ _ _ _ _ _ a b c
end
section
/-! counts and lists: X's places of one entry and attribute, and Y's values, in one order -/
theorem dt_n_mono (q : Nat → Bool) {i : Nat} : ∀ d, dt_n q i ≤ dt_n q (i + d)
  | 0 => Nat.le_refl _
  | d + 1 => by
    have h := dt_n_mono q (i := i) d
    have k : dt_n q (i + d + 1) = dt_n q (i + d) + (if q (i + d) = true then 1 else 0) := rfl
    rw [← Nat.add_assoc, k]
    omega
theorem dt_n_lt {q : Nat → Bool} {i j : Nat} (h : i < j) (hq : q i = true) : dt_n q i < dt_n q j := by
  have k := dt_n_mono q (i := i + 1) (j - (i + 1))
  rw [show i + 1 + (j - (i + 1)) = j from by omega, dt_n_t hq] at k
  omega
theorem dt_n_inj {q : Nat → Bool} {i j : Nat} (hi : q i = true) (hj : q j = true) (h : dt_n q i = dt_n q j) : i = j := by
  rcases Nat.lt_trichotomy i j with z | z | z
  · have := dt_n_lt z hi
    omega
  · exact z
  · have := dt_n_lt z hj
    omega
theorem dt_n_ex {q : Nat → Bool} {k : Nat} : ∀ {n}, k < dt_n q n → ∃ j, j < n ∧ q j = true ∧ dt_n q j = k
  | 0, h => absurd h (Nat.not_lt_zero _)
  | n + 1, h => by
    cases e : q n
    · rw [dt_n_f e] at h
      obtain ⟨j, a, b⟩ := dt_n_ex h
      exact ⟨j, by omega, b⟩
    · rw [dt_n_t e] at h
      by_cases z : k = dt_n q n
      · exact ⟨n, by omega, e, z.symm⟩
      · obtain ⟨j, a, b⟩ := dt_n_ex (n := n) (show k < dt_n q n from by omega)
        exact ⟨j, by omega, b⟩
theorem dt_n_list (q : Nat → Bool) : ∀ l : List Nat, dt_n (fun p => q (l.getD p 0)) l.length = l.countP q
  | [] => rfl
  | x :: r => by
    rw [List.length_cons, dt_n_s, List.countP_cons]
    have k : dt_n (fun p => q ((x :: r).getD (p + 1) 0)) r.length = dt_n (fun p => q (r.getD p 0)) r.length := dt_n_cg fun i _ => rfl
    have k' := dt_n_list q r
    show (if q x = true then 1 else 0) + dt_n (fun p => q ((x :: r).getD (p + 1) 0)) r.length = _
    rw [k, k', Nat.add_comm]
theorem dt_fr_len (q : Nat → Bool) (n : Nat) : ((List.range n).filter q).length = dt_n q n := by
  rw [← List.countP_eq_length_filter, dt_rg]
theorem dt_fr (q : Nat → Bool) : ∀ n j, j < n → q j = true → ((List.range n).filter q)[dt_n q j]? = some j
  | 0, j, h, _ => absurd h (Nat.not_lt_zero _)
  | n + 1, j, h, hq => by
    rw [List.range_succ, List.filter_append]
    by_cases z : j = n
    · subst z
      rw [List.getElem?_append_right (by rw [dt_fr_len]; exact Nat.le_refl _), dt_fr_len, Nat.sub_self, List.filter_cons_of_pos hq]
      rfl
    · have l := dt_n_lt (j := n) (show j < n from by omega) hq
      rw [List.getElem?_append_left (by rw [dt_fr_len]; exact l)]
      exact dt_fr q n j (by omega) hq
theorem dt_h_i {ia ho : Nat → Int32} {a e j : Nat} : dt_h ia ho a e j = true ↔ ia j = nI a ∧ bt (ho j) e = true := by
  unfold dt_h
  rw [Bool.and_eq_true, beq_iff_eq]
theorem dt_lists {T : Nat → Bool} {n : Nat} {ia ik iv ho cn vs : Nat → Int32} (h : rl_IX T n ia ik iv ho) (hM : rl_IM T n ia iv ho cn vs) (hI : rl_IY T cn vs) {e a : Nat} (he : e < 24) (ht : T e = true) (ha : a < 6) :
    ((List.range n).filter (dt_h ia ho a e)).map iv = (List.range (dt_p cn (6 * e + a))).map (fun k => vs (4 * (6 * e + a) + k)) := by
  obtain ⟨_, _, i3, i4⟩ := hI e a he ht ha
  have px : (((List.range n).filter (dt_h ia ho a e)).map iv).Pairwise (fun x y => (dt_key a x).toInt < (dt_key a y).toInt) := by
    rw [List.pairwise_map]
    refine List.Pairwise.imp_of_mem ?_ (List.pairwise_lt_range.filter (dt_h ia ho a e))
    intro i j hi hj hij
    rw [List.mem_filter, List.mem_range, dt_h_i] at hi hj
    have s := h.2.2 i j hij hj.1
    obtain ⟨p1, p2, p3, _⟩ := rl_IX_p h hi.1
    obtain ⟨q1, q2, q3, _⟩ := rl_IX_p h hj.1
    have ei := (rl_IX_e h hi.1 ha).mp hi.2.1
    have ej := (rl_IX_e h hj.1 ha).mp hj.2.1
    have ki := (h.2.1 i hi.1).2.2.2.1
    have kj := (h.2.1 j hj.1).2.2.2.1
    rw [ei] at ki
    rw [ej] at kj
    rw [p3, q3, ei, ej, ki, kj] at s
    omega
  have py : ((List.range (dt_p cn (6 * e + a))).map (fun k => vs (4 * (6 * e + a) + k))).Pairwise (fun x y => (dt_key a x).toInt < (dt_key a y).toInt) := by
    rw [List.pairwise_map]
    refine List.Pairwise.imp_of_mem ?_ List.pairwise_lt_range
    intro i j hi hj hij
    rw [List.mem_range] at hi hj
    exact i4 i j hij hj
  refine List.Perm.eq_of_pairwise (fun x y _ _ u v => ?_) px py ((List.perm_ext_iff_of_nodup ?_ ?_).mpr fun x => ?_)
  · omega
  · exact px.imp (fun u v => by rw [v] at u; exact Int.lt_irrefl _ u)
  · exact py.imp (fun u v => by rw [v] at u; exact Int.lt_irrefl _ u)
  · have m := hM e a x he ht ha
    rw [List.mem_map, List.mem_map]
    constructor
    · rintro ⟨i, i1, i2⟩
      rw [List.mem_filter, List.mem_range, dt_h_i] at i1
      obtain ⟨k, k1, k2⟩ := m.mp ⟨i, i1.1, i1.2.1, i2, i1.2.2⟩
      exact ⟨k, List.mem_range.mpr k1, k2⟩
    · rintro ⟨k, k1, k2⟩
      obtain ⟨i, j1, j2, j3, j4⟩ := m.mpr ⟨k, List.mem_range.mp k1, k2⟩
      exact ⟨i, by rw [List.mem_filter, List.mem_range, dt_h_i]; exact ⟨j1, j2, j4⟩, j3⟩
theorem dt_cX {T : Nat → Bool} {n : Nat} {ia ik iv ho cn vs : Nat → Int32} (h : rl_IX T n ia ik iv ho) (hM : rl_IM T n ia iv ho cn vs) (hI : rl_IY T cn vs) {e a : Nat} (he : e < 24) (ht : T e = true) (ha : a < 6) : dt_n (dt_h ia ho a e) n = dt_p cn (6 * e + a) := by
  have l := congrArg List.length (dt_lists h hM hI he ht ha)
  rw [List.length_map, List.length_map, dt_fr_len, List.length_range] at l
  exact l
theorem dt_kX {T : Nat → Bool} {n : Nat} {ia ik iv ho cn vs : Nat → Int32} (h : rl_IX T n ia ik iv ho) (hM : rl_IM T n ia iv ho cn vs) (hI : rl_IY T cn vs) {e a : Nat} (he : e < 24) (ht : T e = true) (ha : a < 6) {j : Nat} (hj : j < n) (hq : dt_h ia ho a e j = true) : dt_n (dt_h ia ho a e) j < dt_p cn (6 * e + a) ∧ vs (4 * (6 * e + a) + dt_n (dt_h ia ho a e) j) = iv j := by
  have l := dt_n_lt hj hq
  rw [dt_cX h hM hI he ht ha] at l
  refine ⟨l, ?_⟩
  have g := congrArg (fun z : List Int32 => z[dt_n (dt_h ia ho a e) j]?) (dt_lists h hM hI he ht ha)
  rw [List.getElem?_map, dt_fr _ n j hj hq, List.getElem?_map, List.getElem?_range l] at g
  injection g with g
  exact g.symm
end
section
/-! the owed rows that only read: entries, child, clear, entryAt, valueAt -/
theorem dt_ent (th x : Int32) : (∃ e, e < 24 ∧ x = nI e ∧ bt th e = true) ∨ (∀ e, e < 24 → x = nI e → bt th e = false) := by
  by_cases h : ∃ e, e < 24 ∧ x = nI e ∧ bt th e = true
  · exact Or.inl h
  · right
    intro e he hx
    exact dt_bf fun z => h ⟨e, he, hx, z⟩
theorem dt_att (x : Int32) : (∃ a, a < 6 ∧ x = nI a) ∨ (∀ a, a < 6 → x ≠ nI a) := by
  by_cases h : ∃ a, a < 6 ∧ x = nI a
  · exact Or.inl h
  · right
    intro a ha hx
    exact h ⟨a, ha, hx⟩
theorem i_vc_entries {k : Nat} {u : SX} {v : SY} (I : i_Rel k u v) (hk : k + 4 ≤ 2048) : wpX_entries (fun r => wpY_entries (fun r' => r' = r ∧ i_Rel (k + 4) u v) v) u := by
  refine rl_el (P := fun u v => wpX_entries (fun r => wpY_entries (fun r' => r' = r ∧ i_Rel (k + 4) u v) v) u) I ?_
  intro th od mn n t hg de pa na cl al so bl ia ik iv ho ki ta nu sp tr un yt cn vs ya ps yo wa A B F
  exact xd_ones A.1 (yd_entries A.2.2.1 ⟨rfl, rl_mk A B F⟩)
theorem i_vc_child {k : Nat} {u : SX} {v : SY} (I : i_Rel k u v) (hk : k + 4 ≤ 2048) (v1 : Int32) (v2 : Int32) : wpX_child (fun r => wpY_child (fun r' => r' = r ∧ i_Rel (k + 4) u v) v v1 v2) u v1 v2 := by
  refine rl_el (P := fun u v => wpX_child (fun r => wpY_child (fun r' => r' = r ∧ i_Rel (k + 4) u v) v v1 v2) u v1 v2) I ?_
  intro th od mn n t hg de pa na cl al so bl ia ik iv ho ki ta nu sp tr un yt cn vs ya ps yo wa A B F
  have R : i_Rel (k + 4) (th, od, mn, nI n, nI t, hg, de, pa, na, cl, al, so, bl, ia, ik, iv, ho, ki, ta, nu, sp, tr, un) (nI t, hg, yt, pa, na, cl, al, cn, vs, ki, ya, nu, ps, yo, wa) := rl_mk A B F
  unfold wpX_child
  rcases dt_ent th v1 with ⟨e, he, rfl, ht⟩ | hn
  · refine xd_isEntry_t he ht (br_f (by decide) (xd_childOf (fun a => br_t (nI_pos' (by omega)) ?_) (fun a => br_f (by decide) ?_)))
    · exact yd_child_t A.2.2.1 he ht (fun _ => ⟨rfl, R⟩) (fun b => absurd b (by omega))
    · exact yd_child_t A.2.2.1 he ht (fun b => absurd b (by omega)) (fun _ => ⟨rfl, R⟩)
  · exact xd_isEntry_f hn (br_t rfl (yd_child_f A.2.2.1 hn ⟨rfl, R⟩))
theorem rl_F_0 (ki ta ya sp : Nat → Int32) : rl_F 0 0 ki ta ya sp :=
  ⟨by omega, rfl, fun i hi => absurd hi (by omega), fun i hi => by rw [Nat.le_zero.mp hi]; exact Nat.zero_le _, fun i hi => absurd hi (by omega)⟩
theorem i_vc_clear {k : Nat} {u : SX} {v : SY} (I : i_Rel k u v) (hk : k + 4 ≤ 2048) : wpX_clear (fun r u' => wpY_clear (fun r' v' => r' = r ∧ i_Rel (k + 4) u' v') v) u := by
  refine rl_el (P := fun u v => wpX_clear (fun r u' => wpY_clear (fun r' v' => r' = r ∧ i_Rel (k + 4) u' v') v) u) I ?_
  intro th od mn n t hg de pa na cl al so bl ia ik iv ho ki ta nu sp tr un yt cn vs ya ps yo wa A B F
  exact ⟨rfl, rl_mk (t := 0) A B (rl_F_0 ki ta ya sp)⟩
theorem i_vc_entryAt {k : Nat} {u : SX} {v : SY} (I : i_Rel k u v) (hk : k + 4 ≤ 2048) (v1 : Int32) : wpX_entryAt (fun r u' => wpY_entryAt (fun r' v' => r' = r ∧ i_Rel (k + 4) u' v') v v1) u v1 := by
  refine rl_el (P := fun u v => wpX_entryAt (fun r u' => wpY_entryAt (fun r' v' => r' = r ∧ i_Rel (k + 4) u' v') v v1) u v1) I ?_
  intro th od mn n t hg de pa na cl al so bl ia ik iv ho ki ta nu sp tr un yt cn vs ya ps yo wa A B F
  obtain ⟨dp, D⟩ := rl_T_dp A.2.1
  have l24 := dt_ol_le D
  have le := dt_ol_len D
  unfold wpX_entryAt
  refine xd_findOrder A.2.1 A.2.2.2 fun so bl O => ?_
  have A' : rl_A th 1 (nI (dt_ol (bt th) (dt_p pa) (dt_p na)).length) yt pa na cl so bl := ⟨A.1, A.2.1, A.2.2.1, Or.inr ⟨rfl, O⟩⟩
  by_cases z : v1 < 0
  · refine br_t z ?_
    unfold wpY_entryAt
    exact yd_findOrder A.2.1 A.2.2.1 fun yo wa _ => br_t z ⟨rfl, rl_mk A' B F⟩
  · obtain ⟨j, hj, rfl⟩ := nI_of z
    refine br_f z (pk_lt j (dt_ol (bt th) (dt_p pa) (dt_p na)).length (fun y => ⟨vp_in_nI (by omega) (by decide), ?_⟩) (fun y => ?_))
    · unfold wpY_entryAt
      refine yd_findOrder A.2.1 A.2.2.1 fun yo wa hyo => br_f z (yd_entries A.2.2.1 (br_f (nI_ge (by omega) (by omega)) ⟨vp_in_nI (by omega) (by decide), ?_, rl_mk A' B F⟩))
      rw [nI_clamp hj, hyo j y, O.2.1 j y]
    · unfold wpY_entryAt
      exact yd_findOrder A.2.1 A.2.2.1 fun yo wa hyo => br_f z (yd_entries A.2.2.1 (br_t (nI_le (by omega) hj) ⟨rfl, rl_mk A' B F⟩))
theorem i_vc_valueAt {k : Nat} {u : SX} {v : SY} (I : i_Rel k u v) (hk : k + 4 ≤ 2048) (v1 : Int32) (v2 : Int32) (v3 : Int32) : wpX_valueAt (fun r => wpY_valueAt (fun r' => r' = r ∧ i_Rel (k + 4) u v) v v1 v2 v3) u v1 v2 v3 := by
  refine rl_el (P := fun u v => wpX_valueAt (fun r => wpY_valueAt (fun r' => r' = r ∧ i_Rel (k + 4) u v) v v1 v2 v3) u v1 v2 v3) I ?_
  intro th od mn n t hg de pa na cl al so bl ia ik iv ho ki ta nu sp tr un yt cn vs ya ps yo wa A B F
  have R : i_Rel (k + 4) (th, od, mn, nI n, nI t, hg, de, pa, na, cl, al, so, bl, ia, ik, iv, ho, ki, ta, nu, sp, tr, un) (nI t, hg, yt, pa, na, cl, al, cn, vs, ki, ya, nu, ps, yo, wa) := rl_mk A B F
  obtain ⟨h, hM, hI⟩ := B
  unfold wpX_valueAt wpY_valueAt
  rcases dt_ent th v1 with ⟨e, he, rfl, ht⟩ | hn
  · refine xd_isEntry_t he ht (br_f (by decide) ?_)
    rcases dt_att v2 with ⟨a, ha, rfl⟩ | hna
    · obtain ⟨i1, i2, _⟩ := hI e a he ht ha
      have cX := dt_cX h hM hI he ht ha
      have cs : (nI (6 * e + a)).toNatClampNeg = 6 * e + a := nI_clamp (by omega)
      refine xd_isAttribute_t ha (br_f (by decide) (xd_placeOf h ha (by decide) fun r hr => ?_))
      have g : ∀ post : Int32 → Prop, (∀ j, j < n → dt_h ia ho a e j = true → v3 = nI (dt_n (dt_h ia ho a e) j) → post (iv j)) → ((∀ j, j < n → dt_h ia ho a e j = true → v3 ≠ nI (dt_n (dt_h ia ho a e) j)) → post (-1001)) → ∃ n36 : Nat, wX_valueAt_36 post (nI e) (nI a) v3 th od mn (nI n) (nI t) hg de pa na cl al so bl ia ik iv ho ki ta nu sp tr un n36 0 (nI r) := fun post h1 h2 => by
        have w : wX_valueAt_36 post (nI e) (nI a) v3 th od mn (nI n) (nI t) hg de pa na cl al so bl ia ik iv ho ki ta nu sp tr un (n - r + 1) (nI (dt_n (dt_h ia ho a e) r)) (nI r) := xd_valueAt_l h ha he hr h1 h2 (n - r) r (by have := hr.1; omega) (Nat.le_refl _) (fun i hi hq => absurd (dt_h_i.mp hq).1 (dt_ahead h ha hr hi))
        rw [dt_h0 h ha hr] at w
        exact ⟨_, w⟩
      refine g _ (fun j j1 j2 j3 => ?_) (fun no => ?_)
      · obtain ⟨k1, k2⟩ := dt_kX h hM hI he ht ha j1 j2
        refine yd_isEntry_t A.2.2.1 he ht (br_f (by decide) (yd_isAttribute_t ha (br_f (by decide) ?_)))
        generalize dt_n (dt_h ia ho a e) j = m at j3 k1 k2
        subst j3
        have e24 : (24 : Int32) * nI e + 4 * nI a + nI m = nI (4 * (6 * e + a) + m) := by
          show nI 24 * nI e + nI 4 * nI a + nI m = _
          rw [pk_mul, pk_mul, nI_add, nI_add]
          exact congrArg nI (by omega)
        refine br_f (nI_pos (by omega)) ?_
        rw [dt_sl1, cs, i1, e24, nI_clamp (by omega)]
        exact ⟨vp_in_nI (by omega) (by decide), br_t (nI_lt k1 (by omega)) ⟨vp_in_nI (by omega) (by decide), k2, R⟩⟩
      · refine yd_isEntry_t A.2.2.1 he ht (br_f (by decide) (yd_isAttribute_t ha (br_f (by decide) ?_)))
        by_cases z : v3 < 0
        · exact br_t z ⟨rfl, R⟩
        · refine br_f z ?_
          obtain ⟨m, hm, rfl⟩ := nI_of z
          rw [dt_sl1, cs, i1]
          refine ⟨vp_in_nI (by omega) (by decide), pk_lt m (dt_p cn (6 * e + a)) (fun y => ?_) (fun _ => ⟨rfl, R⟩)⟩
          rw [← cX] at y
          obtain ⟨j, j1, j2, j3⟩ := dt_n_ex y
          exact absurd (by rw [j3]) (no j j1 j2)
    · exact xd_isAttribute_f hna (br_t rfl (yd_isEntry_t A.2.2.1 he ht (br_f (by decide) (yd_isAttribute_f hna (br_t rfl ⟨rfl, R⟩)))))
  · exact xd_isEntry_f hn (br_t rfl (yd_isEntry_f A.2.2.1 hn (br_t rfl ⟨rfl, R⟩)))
end
section
/-! scopes, and what is counted and found in them -/
def dt_sc (p : Nat → Nat) (s e b : Nat) : Bool :=
  if s = 0 then b == e else if s = 1 then !(b == 0) && p b == e else if s = 2 then b == e || dt_bl p e b else dt_bl p e b
theorem dt_sc_0 {p : Nat → Nat} {e b : Nat} : dt_sc p 0 e b = (b == e) := rfl
theorem dt_sc_1 {p : Nat → Nat} {e b : Nat} : dt_sc p 1 e b = (!(b == 0) && p b == e) := rfl
theorem dt_sc_2 {p : Nat → Nat} {e b : Nat} : dt_sc p 2 e b = (b == e || dt_bl p e b) := rfl
theorem dt_sc_3 {p : Nat → Nat} {e b : Nat} : dt_sc p 3 e b = dt_bl p e b := rfl
/-- one entry counts: it is in the scope, and the filter is true for it -/
def dt_qq (pa cl al cn vs ki ta nu : Nat → Int32) (t s e b : Nat) : Bool := dt_sc (dt_p pa) s e b && (dt_tt cl al cn vs ki ta nu t b == 1)
section
variable {th od mn ix tk hg de : Int32} {pa na cl al so bl ia ik iv ho ki ta nu sp tr un : Nat → Int32}
theorem xd_scope47 (H : rl_T (bt th) pa na cl) {e : Nat} (he : e < 24) {post : Int32 → SX → Prop}
    (hp : ∀ s : Int32, (∀ b, bt s b = true ↔ 0 < b ∧ b < 24 ∧ bt th b = true ∧ pa b = nI e) → post s (th, od, mn, ix, tk, hg, de, pa, na, cl, al, so, bl, ia, ik, iv, ho, ki, ta, nu, sp, tr, un)) :
    ∀ (d j : Nat) (s : Int32), j + d = 24 → 0 < j → (∀ b, bt s b = true ↔ 0 < b ∧ b < j ∧ bt th b = true ∧ pa b = nI e) → wX_scopeOf_47 post (nI e) th od mn ix tk hg de pa na cl al so bl ia ik iv ho ki ta nu sp tr un (d + 1) s (nI j)
  | 0, j, s, hd, _, hs => by
    have z : j = 24 := by omega
    subst z
    exact br_t (nI_le (a := 24) (b := 24) (by omega) (by decide)) (hp s hs)
  | d + 1, j, s, hd, hj, hs => by
    have cj : (nI j).toNatClampNeg = j := nI_clamp (by omega)
    have keep : ¬ (bt th j = true ∧ pa j = nI e) → wX_scopeOf_47 post (nI e) th od mn ix tk hg de pa na cl al so bl ia ik iv ho ki ta nu sp tr un (d + 1) s (nI (j + 1)) := fun w =>
      xd_scope47 H he hp d (j + 1) s (by omega) (by omega) fun b => by
        rw [hs b]
        constructor
        · rintro ⟨x, y, z⟩
          exact ⟨x, by omega, z⟩
        · rintro ⟨x, y, z⟩
          refine ⟨x, ?_, z⟩
          rcases Nat.lt_or_ge b j with q | q
          · exact q
          · have e : b = j := by omega
            rw [e] at z
            exact (w z).elim
    refine br_f (nI_ge (b := 24) (by omega) (by decide)) (br_c (fun q => ⟨vp_in_nI (by omega) (by decide), br_c (fun q2 => nm_e (nm_r (nI_1 j) ?_)) (fun q2 => nm_r (nI_1 j) (keep fun w => q2 ?_))⟩) (fun q => nm_r (nI_1 j) (keep fun w => q ((dt_t th (by omega)).mpr w.1))))
    · rw [cj] at q2
      have q' := (dt_t th (show j < 32 from by omega)).mp q
      refine xd_scope47 H he hp d (j + 1) _ (by omega) (by omega) fun b => ?_
      rw [b_or, Bool.or_eq_true, hs b]
      rcases Nat.lt_or_ge b 32 with z | z
      · rw [dt_sh (by omega) z, decide_eq_true_eq]
        constructor
        · rintro (⟨x, y, w⟩ | rfl)
          · exact ⟨x, by omega, w⟩
          · exact ⟨hj, by omega, q', q2⟩
        · rintro ⟨x, y, w⟩
          by_cases e : b = j
          · exact Or.inr e
          · exact Or.inl ⟨x, by omega, w⟩
      · rw [b_big (x := (1 : Int32) <<< (nI j &&& 31)) z]
        constructor
        · rintro (⟨x, y, w⟩ | x)
          · exact ⟨x, by omega, w⟩
          · exact absurd x (by decide)
        · rintro ⟨x, y, w⟩
          omega
    · rw [cj]
      exact w.2
theorem xd_scopeOf (H : rl_T (bt th) pa na cl) (hO : od = 0 ∨ od = 1 ∧ rl_O (bt th) pa na mn so bl) {s e : Nat} (he : e < 24) (ht : bt th e = true) (hs : s ≤ 3) {post : Int32 → SX → Prop}
    (hp : ∀ (so bl : Nat → Int32) (m : Int32), rl_O (bt th) pa na (nI (dt_ol (bt th) (dt_p pa) (dt_p na)).length) so bl → dt_S m → (∀ b, b < 24 → bt m b = (bt th b && dt_sc (dt_p pa) s e b)) → post m (th, 1, nI (dt_ol (bt th) (dt_p pa) (dt_p na)).length, ix, tk, hg, de, pa, na, cl, al, so, bl, ia, ik, iv, ho, ki, ta, nu, sp, tr, un)) : wpX_scopeOf post (th, od, mn, ix, tk, hg, de, pa, na, cl, al, so, bl, ia, ik, iv, ho, ki, ta, nu, sp, tr, un) (nI e) (nI s) := by
  unfold wpX_scopeOf
  refine xd_findOrder H hO fun so bl O => ?_
  have ce : (nI e).toNatClampNeg = e := nI_clamp (by omega)
  have ve : vp_in (nI e) 24 := vp_in_nI he (by decide)
  have Sb : dt_S (bl e) := fun i hi => by
    rcases Nat.lt_or_ge i 32 with z | z
    · exact dt_bf fun y => by have := ((O.2.2 e i he ht z).mp y).1; omega
    · exact b_big z
  have Eb : ∀ b, b < 24 → bt (bl e) b = (bt th b && dt_bl (dt_p pa) e b) := fun b hb => by
    rw [Bool.eq_iff_iff, O.2.2 e b he ht (by omega), Bool.and_eq_true]
    exact ⟨fun x => x.2, fun x => ⟨hb, x⟩⟩
  have Es : ∀ b, b < 24 → bt ((1 : Int32) <<< (nI e &&& 31)) b = (bt th b && (b == e)) := fun b hb => by
    rw [dt_sh (by omega) (by omega)]
    by_cases z : b = e
    · rw [z, ht, beq_self_eq_true, decide_eq_true rfl]; rfl
    · rw [decide_eq_false z, beq_eq_false_iff_ne.mpr z, Bool.and_false]
  rcases (by omega : s = 0 ∨ s = 1 ∨ s = 2 ∨ s = 3) with r | r | r | r
  · subst r
    exact br_t rfl (hp so bl _ O (dt_S_sh he) Es)
  · subst r
    refine br_f (by decide) (br_t (by decide) ⟨24, xd_scope47 H he (fun m hm => ?_) 23 1 0 rfl (by omega) fun b => ?_⟩)
    · refine hp so bl m O (fun i hi => dt_bf fun y => by have := ((hm i).mp y).2.1; omega) fun b hb => ?_
      rw [dt_sc_1, Bool.eq_iff_iff, hm b, Bool.and_eq_true, Bool.and_eq_true, Bool.not_eq_true', beq_eq_false_iff_ne, beq_iff_eq]
      constructor
      · rintro ⟨x, y, z, w⟩
        obtain ⟨t1, t2, _⟩ := H.2.2.1 b x y z
        rw [t1] at w
        exact ⟨z, by omega, (nI_eq (by omega) (by omega)).mp w⟩
      · rintro ⟨z, x, w⟩
        obtain ⟨t1, t2, _⟩ := H.2.2.1 b (by omega) hb z
        exact ⟨by omega, hb, z, by rw [t1, w]⟩
    · rw [b_0]
      exact ⟨fun z => absurd z (by decide), fun z => absurd z.2.1 (by have := z.1; omega)⟩
  · subst r
    refine br_f (by decide) (br_f (by decide) (br_t rfl ⟨ve, ?_⟩))
    rw [ce]
    refine hp so bl _ O (dt_S_or Sb (dt_S_sh he)) fun b hb => ?_
    rw [b_or, Eb b hb, Es b hb, dt_sc_2]
    cases bt th b <;> cases (b == e) <;> cases dt_bl (dt_p pa) e b <;> rfl
  · subst r
    refine br_f (by decide) (br_f (by decide) (br_f (by decide) ⟨ve, ?_⟩))
    rw [ce]
    exact hp so bl _ O Sb Eb
theorem xd_count_1 {post : Int32 → SX → Prop} {v1 v2 : Int32} (hn : ∀ e, e < 24 → v1 = nI e → bt th e = false) (hp : post (-1) (th, od, mn, ix, tk, hg, de, pa, na, cl, al, so, bl, ia, ik, iv, ho, ki, ta, nu, sp, tr, un)) : wpX_count post (th, od, mn, ix, tk, hg, de, pa, na, cl, al, so, bl, ia, ik, iv, ho, ki, ta, nu, sp, tr, un) v1 v2 := by
  unfold wpX_count
  exact xd_isEntry_f hn (br_t rfl hp)
theorem xd_count_2 {post : Int32 → SX → Prop} {e : Nat} {v2 : Int32} (he : e < 24) (ht : bt th e = true) (hs : v2 < 0 ∨ ¬ v2 ≤ 3) (hp : post (-2) (th, od, mn, ix, tk, hg, de, pa, na, cl, al, so, bl, ia, ik, iv, ho, ki, ta, nu, sp, tr, un)) : wpX_count post (th, od, mn, ix, tk, hg, de, pa, na, cl, al, so, bl, ia, ik, iv, ho, ki, ta, nu, sp, tr, un) (nI e) v2 := by
  unfold wpX_count
  refine xd_isEntry_t he ht (br_f (by decide) ?_)
  by_cases z : v2 < 0
  · exact br_t z hp
  · exact br_f z (br_f (hs.resolve_left z) hp)
theorem xd_count_3 {post : Int32 → SX → Prop} {e s : Nat} (he : e < 24) (ht : bt th e = true) (hs : s ≤ 3) (hh : hg = 0) (hp : post (-3) (th, od, mn, ix, tk, hg, de, pa, na, cl, al, so, bl, ia, ik, iv, ho, ki, ta, nu, sp, tr, un)) : wpX_count post (th, od, mn, ix, tk, hg, de, pa, na, cl, al, so, bl, ia, ik, iv, ho, ki, ta, nu, sp, tr, un) (nI e) (nI s) := by
  unfold wpX_count
  exact xd_isEntry_t he ht (br_f (by decide) (br_f (nI_pos (by omega)) (br_t (nI_le (b := 3) hs (by decide)) (br_t hh hp))))
theorem xd_count_4 {yt cn vs ya : Nat → Int32} {n t e s : Nat} (A : rl_A th od mn yt pa na cl so bl) (B : rl_B th n ia ik iv ho cn vs) (F : rl_F t hg ki ta ya sp) (h0 : 0 < dt_hh ki t) (he : e < 24) (ht : bt th e = true) (hs : s ≤ 3) {post : Int32 → SX → Prop}
    (hp : ∀ (de : Int32) (tr un so bl : Nat → Int32), rl_O (bt th) pa na (nI (dt_ol (bt th) (dt_p pa) (dt_p na)).length) so bl → (∀ e, e < 24 → bt th e = true → dt_R3 (tr 0) (un 0) e (dt_tt cl al cn vs ki ta nu t e)) → post (nI (dt_n (fun b => dt_qq pa cl al cn vs ki ta nu t s e b && bt th b) 24)) (th, 1, nI (dt_ol (bt th) (dt_p pa) (dt_p na)).length, nI n, nI t, hg, de, pa, na, cl, al, so, bl, ia, ik, iv, ho, ki, ta, nu, sp, tr, un)) : wpX_count post (th, od, mn, nI n, nI t, hg, de, pa, na, cl, al, so, bl, ia, ik, iv, ho, ki, ta, nu, sp, tr, un) (nI e) (nI s) := by
  have h6 := F.2.2.2.1 t (Nat.le_refl _)
  unfold wpX_count
  refine xd_isEntry_t he ht (br_f (by decide) (br_f (nI_pos (by omega)) (br_t (nI_le (b := 3) hs (by decide)) (br_f (by rw [F.2.1]; exact nI_ne0 h0 (by omega)) ?_))))
  refine xd_workOut A.2.1 B.1 B.2.1 F h0 fun de tr un hR => ?_
  refine xd_scopeOf A.2.1 A.2.2.2 he ht hs fun so bl m O Sm hm => ?_
  refine xd_ones (dt_S_andr Sm) ?_
  rw [show dt_n (bt (tr 0 &&& m)) 24 = dt_n (fun b => dt_qq pa cl al cn vs ki ta nu t s e b && bt th b) 24 from dt_n_cg fun b hb => by
    rw [b_and, hm b hb]
    unfold dt_qq
    cases z : bt th b
    · rw [Bool.false_and, Bool.and_false, Bool.and_false]
    · rw [(hR b hb z).1, Bool.true_and, Bool.and_true, Bool.and_comm]
      rfl]
  exact hp de tr un so bl O hR
theorem xd_found_l {L : List Nat} {k m : Int32} {q : Nat → Bool} (l24 : L.length ≤ 24) (hso : ∀ j, j < L.length → so j = nI (L.getD j 0)) (hL : ∀ x, x ∈ L → x < 24 ∧ bt m x = q x) {post : Int32 → SX → Prop}
    (h1 : ∀ p, p < L.length → q (L.getD p 0) = true → k = nI (dt_n (fun p => q (L.getD p 0)) p) → post (nI (L.getD p 0)) (th, od, nI L.length, ix, tk, hg, de, pa, na, cl, al, so, bl, ia, ik, iv, ho, ki, ta, nu, sp, tr, un)) (h2 : (∀ p, p < L.length → q (L.getD p 0) = true → k ≠ nI (dt_n (fun p => q (L.getD p 0)) p)) → post (-4) (th, od, nI L.length, ix, tk, hg, de, pa, na, cl, al, so, bl, ia, ik, iv, ho, ki, ta, nu, sp, tr, un)) :
    ∀ d p, p + d = L.length → (∀ i, i < p → q (L.getD i 0) = true → k ≠ nI (dt_n (fun p => q (L.getD p 0)) i)) → wX_found_50 post k m th od (nI L.length) ix tk hg de pa na cl al so bl ia ik iv ho ki ta nu sp tr un (d + 1) (nI (dt_n (fun p => q (L.getD p 0)) p)) (nI p)
  | 0, p, hd, hs => by
    have z : p = L.length := by omega
    subst z
    exact br_t (nI_le (Nat.le_refl _) (by omega)) (h2 hs)
  | d + 1, p, hd, hs => by
    have cp : (nI p).toNatClampNeg = p := nI_clamp (by omega)
    have vp : vp_in (nI p) 24 := vp_in_nI (by omega) (by decide)
    obtain ⟨x24, xq⟩ := hL _ (dt_gm (show p < L.length from by omega))
    refine br_f (nI_ge (by omega) (by omega)) ⟨vp, ?_⟩
    rw [cp, hso p (by omega)]
    refine br_c (fun c => br_c (fun c2 => ⟨vp, ?_⟩) (fun c2 => ?_)) (fun c => ?_)
    · have c' := (dt_t m (show L.getD p 0 < 32 from by omega)).mp c
      rw [xq] at c'
      exact h1 p (by omega) c' c2.symm
    · have c' := (dt_t m (show L.getD p 0 < 32 from by omega)).mp c
      rw [xq] at c'
      have g := xd_found_l l24 hso hL h1 h2 d (p + 1) (by omega) (fun i hi hq => by
        by_cases z : i = p
        · rw [z]
          exact fun y => c2 y.symm
        · exact hs i (by omega) hq)
      rw [dt_n_t (q := fun p => q (L.getD p 0)) c'] at g
      exact nm_r (nI_1 _) (nm_r (nI_1 p) g)
    · have c' : q (L.getD p 0) = false := by
        rw [← xq]
        exact dt_bf fun y => c ((dt_t m (show L.getD p 0 < 32 from by omega)).mpr y)
      have g := xd_found_l l24 hso hL h1 h2 d (p + 1) (by omega) (fun i hi hq => by
        by_cases z : i = p
        · rw [z, c'] at hq
          exact absurd hq (by decide)
        · exact hs i (by omega) hq)
      rw [dt_n_f (q := fun p => q (L.getD p 0)) c'] at g
      exact nm_r (nI_1 p) g
end
section
variable {tk hg : Int32} {yt pa na cl al cn vs ki ya nu ps yo wa : Nat → Int32} {T : Nat → Bool}
theorem yd_inScope (H : rl_T T pa na cl) {s e b : Nat} (he : e < 24) (hb : b < 24) (ht : T b = true) (hs : s ≤ 3) {post : Int32 → Prop} (hp : post (dt_i (dt_sc (dt_p pa) s e b))) : wpY_inScope post (tk, hg, yt, pa, na, cl, al, cn, vs, ki, ya, nu, ps, yo, wa) (nI b) (nI e) (nI s) := by
  have eqv : nI b = nI e ↔ b = e := nI_eq (by omega) (by omega)
  have bel : post (dt_i (dt_bl (dt_p pa) e b)) → wY_inScope_46 post (nI b) (nI e) tk hg yt pa na cl al cn vs ki ya nu ps yo wa := fun w => by
    unfold wY_inScope_46
    refine yd_isBelow H hb ht he ?_
    cases z : dt_bl (dt_p pa) e b
    · rw [z] at w
      exact br_t rfl w
    · rw [z] at w
      exact br_f (by decide) w
  rcases (by omega : s = 0 ∨ s = 1 ∨ s = 2 ∨ s = 3) with r | r | r | r
  · subst r
    rw [dt_sc_0] at hp
    refine br_t rfl (br_c (fun z => ?_) (fun z => ?_))
    · rw [eqv.mp z, beq_self_eq_true] at hp
      exact hp
    · rw [beq_eq_false_iff_ne.mpr fun y => z (eqv.mpr y)] at hp
      exact hp
  · subst r
    rw [dt_sc_1] at hp
    refine br_f (by decide) (br_t rfl ⟨vp_in_nI hb (by decide), ?_⟩)
    rw [nI_clamp (by omega)]
    rcases Nat.eq_zero_or_pos b with z | z
    · subst z
      rw [H.2.1]
      refine br_f (fun y => ?_) hp
      have h1 := congrArg Int32.toInt y
      rw [nI_toInt (by omega), show (-1 : Int32).toInt = -1 from by decide] at h1
      omega
    · obtain ⟨t1, t2, _⟩ := H.2.2.1 b z hb ht
      rw [beq_eq_false_iff_ne.mpr (show b ≠ 0 from by omega), Bool.not_false, Bool.true_and] at hp
      rw [t1]
      refine br_c (fun y => ?_) (fun y => ?_)
      · rw [(nI_eq (by omega) (by omega)).mp y, beq_self_eq_true] at hp
        exact hp
      · rw [beq_eq_false_iff_ne.mpr fun w => y (by rw [w])] at hp
        exact hp
  · subst r
    rw [dt_sc_2] at hp
    refine br_f (by decide) (br_f (by decide) (br_t rfl (br_c (fun z => ?_) (fun z => bel ?_))))
    · rw [eqv.mp z, beq_self_eq_true, Bool.true_or] at hp
      exact hp
    · rw [beq_eq_false_iff_ne.mpr fun y => z (eqv.mpr y), Bool.false_or] at hp
      exact hp
  · subst r
    rw [dt_sc_3] at hp
    exact br_f (by decide) (br_f (by decide) (br_f (by decide) (bel hp)))
theorem yd_look_1 (hY : rl_Y T yt) {post : Int32 → Prop} {v1 v2 : Int32} (hn : ∀ e, e < 24 → v1 = nI e → T e = false) (hp : post (-1)) : wpY_look post (tk, hg, yt, pa, na, cl, al, cn, vs, ki, ya, nu, ps, yo, wa) v1 v2 := by
  unfold wpY_look
  exact yd_isEntry_f hY hn (br_t rfl hp)
theorem yd_look_2 (hY : rl_Y T yt) {post : Int32 → Prop} {e : Nat} {v2 : Int32} (he : e < 24) (ht : T e = true) (hs : v2 < 0 ∨ ¬ v2 ≤ 3) (hp : post (-2)) : wpY_look post (tk, hg, yt, pa, na, cl, al, cn, vs, ki, ya, nu, ps, yo, wa) (nI e) v2 := by
  unfold wpY_look
  refine yd_isEntry_t hY he ht (br_f (by decide) ?_)
  by_cases z : v2 < 0
  · exact br_t z hp
  · exact br_f z (br_f (hs.resolve_left z) hp)
theorem yd_look_3 (hY : rl_Y T yt) {post : Int32 → Prop} {e s : Nat} (he : e < 24) (ht : T e = true) (hs : s ≤ 3) (hh : hg = 0) (hp : post (-3)) : wpY_look post (tk, hg, yt, pa, na, cl, al, cn, vs, ki, ya, nu, ps, yo, wa) (nI e) (nI s) := by
  unfold wpY_look
  exact yd_isEntry_t hY he ht (br_f (by decide) (br_f (nI_pos (by omega)) (br_t (nI_le (b := 3) hs (by decide)) (br_t hh hp))))
theorem yd_look_4 (hY : rl_Y T yt) {post : Int32 → Prop} {e s : Nat} (he : e < 24) (ht : T e = true) (hs : s ≤ 3) (hh : ¬ hg = 0) (hp : post 0) : wpY_look post (tk, hg, yt, pa, na, cl, al, cn, vs, ki, ya, nu, ps, yo, wa) (nI e) (nI s) := by
  unfold wpY_look
  exact yd_isEntry_t hY he ht (br_f (by decide) (br_f (nI_pos (by omega)) (br_t (nI_le (b := 3) hs (by decide)) (br_f hh hp))))
theorem yd_count_l (H : rl_T T pa na cl) (hY : rl_Y T yt) (hI : rl_IY T cn vs) {ta sp : Nat → Int32} {t e s : Nat} (F : rl_F t hg ki ta ya sp) (h0 : 0 < dt_hh ki t) (he : e < 24) (hs : s ≤ 3) {post : Int32 → SY → Prop}
    (hp : ∀ ps : Nat → Int32, post (nI (dt_n (fun b => dt_qq pa cl al cn vs ki ta nu t s e b && T b) 24)) (nI t, hg, yt, pa, na, cl, al, cn, vs, ki, ya, nu, ps, yo, wa)) :
    ∀ (d j : Nat) (ps : Nat → Int32), j + d = 24 → wY_count_19 post (nI e) (nI s) (d + 1) (nI (dt_n (fun b => dt_qq pa cl al cn vs ki ta nu t s e b && T b) j)) (nI j) (nI t) hg yt pa na cl al cn vs ki ya nu ps yo wa
  | 0, j, ps, hd => by
    have z : j = 24 := by omega
    subst z
    exact br_t (nI_le (a := 24) (b := 24) (by omega) (by decide)) (hp ps)
  | d + 1, j, ps, hd => by
    have ih := fun ps => yd_count_l H hY hI F h0 he hs hp d (j + 1) ps (by omega)
    have tl : dt_tt cl al cn vs ki ta nu t j ≤ 2 := dt_pt_le (fun i => dt_sv_le _ _ _ _ _ _ _ _) _ _
    have no : (dt_qq pa cl al cn vs ki ta nu t s e j && T j) = false → ∀ ps : Nat → Int32, wY_count_19 post (nI e) (nI s) (d + 1) (nI (dt_n (fun b => dt_qq pa cl al cn vs ki ta nu t s e b && T b) j)) (nI (j + 1)) (nI t) hg yt pa na cl al cn vs ki ya nu ps yo wa := fun w ps => by
      have g := ih ps
      rw [dt_n_f (q := fun b => dt_qq pa cl al cn vs ki ta nu t s e b && T b) w] at g
      exact g
    refine br_f (nI_ge (b := 24) (by omega) (by decide)) ⟨vp_in_nI (by omega) (by decide), ?_⟩
    cases ht : T j
    · refine br_t (rl_Y0 hY (by omega) ht) (nm_r (nI_1 j) (no ?_ ps))
      rw [ht, Bool.and_false]
    · refine br_f (rl_Y1 hY (by omega) ht) (yd_inScope H he (by omega) ht hs ?_)
      cases q : dt_sc (dt_p pa) s e j
      · refine br_t rfl (nm_r (nI_1 j) (no ?_ ps))
        unfold dt_qq
        rw [q, Bool.false_and, Bool.false_and]
      · refine br_f (by decide) (yd_truth H hI F (by omega) ht h0 fun ps' => pk_eq (dt_tt cl al cn vs ki ta nu t j) 1 (fun y => ?_) (fun y => ?_))
        · have g := ih ps'
          rw [dt_n_t (q := fun b => dt_qq pa cl al cn vs ki ta nu t s e b && T b) (by unfold dt_qq; rw [q, y, ht]; rfl)] at g
          exact nm_r (nI_1 _) (nm_r (nI_1 j) g)
        · refine nm_r (nI_1 j) (no ?_ ps')
          unfold dt_qq
          rw [beq_eq_false_iff_ne.mpr y, Bool.and_false, Bool.false_and]
theorem dt_dec (k : Int32) (c : Nat) : k - nI c + (-1) = k - nI (c + 1) := by
  rw [← nI_1]
  grind
theorem yd_found_l (H : rl_T T pa na cl) (hI : rl_IY T cn vs) {ta sp : Nat → Int32} {t e s : Nat} (F : rl_F t hg ki ta ya sp) (h0 : 0 < dt_hh ki t) (he : e < 24) (hs : s ≤ 3) {L : List Nat} {k : Int32} (l24 : L.length ≤ 24) (hyo : ∀ j, j < L.length → yo j = nI (L.getD j 0)) (hL : ∀ x, x ∈ L → x < 24 ∧ T x = true) {post : Int32 → SY → Prop}
    (h1 : ∀ (p : Nat) (ps : Nat → Int32), p < L.length → dt_qq pa cl al cn vs ki ta nu t s e (L.getD p 0) = true → k = nI (dt_n (fun p => dt_qq pa cl al cn vs ki ta nu t s e (L.getD p 0)) p) → post (nI (L.getD p 0)) (nI t, hg, yt, pa, na, cl, al, cn, vs, ki, ya, nu, ps, yo, wa)) (h2 : ∀ ps : Nat → Int32, (∀ p, p < L.length → dt_qq pa cl al cn vs ki ta nu t s e (L.getD p 0) = true → k ≠ nI (dt_n (fun p => dt_qq pa cl al cn vs ki ta nu t s e (L.getD p 0)) p)) → post (-4) (nI t, hg, yt, pa, na, cl, al, cn, vs, ki, ya, nu, ps, yo, wa)) :
    ∀ (d p : Nat) (ps : Nat → Int32), p + d = L.length → (∀ i, i < p → dt_qq pa cl al cn vs ki ta nu t s e (L.getD i 0) = true → k ≠ nI (dt_n (fun p => dt_qq pa cl al cn vs ki ta nu t s e (L.getD p 0)) i)) → wY_found_32 post (nI e) (nI s) (nI L.length) (d + 1) (k - nI (dt_n (fun p => dt_qq pa cl al cn vs ki ta nu t s e (L.getD p 0)) p)) (nI p) (nI t) hg yt pa na cl al cn vs ki ya nu ps yo wa
  | 0, p, ps, hd, hn => by
    have z : p = L.length := by omega
    subst z
    exact br_t (nI_le (Nat.le_refl _) (by omega)) (h2 ps hn)
  | d + 1, p, ps, hd, hn => by
    have cp : (nI p).toNatClampNeg = p := nI_clamp (by omega)
    obtain ⟨x24, xt⟩ := hL _ (dt_gm (show p < L.length from by omega))
    have ih := fun ps => yd_found_l H hI F h0 he hs l24 hyo hL h1 h2 d (p + 1) ps (by omega)
    have tl : dt_tt cl al cn vs ki ta nu t (L.getD p 0) ≤ 2 := dt_pt_le (fun i => dt_sv_le _ _ _ _ _ _ _ _) _ _
    have no : dt_qq pa cl al cn vs ki ta nu t s e (L.getD p 0) = false → ∀ ps : Nat → Int32, wY_found_32 post (nI e) (nI s) (nI L.length) (d + 1) (k - nI (dt_n (fun p => dt_qq pa cl al cn vs ki ta nu t s e (L.getD p 0)) p)) (nI (p + 1)) (nI t) hg yt pa na cl al cn vs ki ya nu ps yo wa := fun w ps => by
      have g := ih ps (fun i hi hq => by
        by_cases z : i = p
        · rw [z, w] at hq
          exact absurd hq (by decide)
        · exact hn i (by omega) hq)
      rw [dt_n_f (q := fun p => dt_qq pa cl al cn vs ki ta nu t s e (L.getD p 0)) w] at g
      exact g
    refine br_f (nI_ge (by omega) (by omega)) ⟨vp_in_nI (by omega) (by decide), nm_r (e' := nI (L.getD p 0)) (by rw [cp]; exact hyo p (by omega)) (yd_inScope H he x24 xt hs ?_)⟩
    cases q : dt_sc (dt_p pa) s e (L.getD p 0)
    · refine br_t rfl (nm_r (nI_1 p) (no ?_ ps))
      unfold dt_qq
      rw [q, Bool.false_and]
    · refine br_f (by decide) (yd_truth H hI F x24 xt h0 fun ps' => pk_eq (dt_tt cl al cn vs ki ta nu t (L.getD p 0)) 1 (fun y => br_c (fun c => ?_) (fun c => ?_)) (fun y => ?_))
      · refine h1 p ps' (by omega) (by unfold dt_qq; rw [q, y]; rfl) ?_
        generalize dt_n (fun p => dt_qq pa cl al cn vs ki ta nu t s e (L.getD p 0)) p = w at c
        grind
      · have yq : dt_qq pa cl al cn vs ki ta nu t s e (L.getD p 0) = true := by unfold dt_qq; rw [q, y]; rfl
        have g := ih ps' (fun i hi hq => by
          by_cases z : i = p
          · rw [z]
            intro w
            apply c
            rw [w]
            grind
          · exact hn i (by omega) hq)
        rw [dt_n_t (q := fun p => dt_qq pa cl al cn vs ki ta nu t s e (L.getD p 0)) yq] at g
        exact nm_r (dt_dec _ _) (nm_r (nI_1 p) g)
      · refine nm_r (nI_1 p) (no ?_ ps')
        unfold dt_qq
        rw [beq_eq_false_iff_ne.mpr y, Bool.and_false]
end
end
section
/-! the owed rows test, count, found -/
section
variable {tk hg : Int32} {yt pa na cl al cn vs ki ya nu ps yo wa : Nat → Int32} {T : Nat → Bool}
theorem yd_count_4 (H : rl_T T pa na cl) (hY : rl_Y T yt) (hI : rl_IY T cn vs) {ta sp : Nat → Int32} {t e s : Nat} (F : rl_F t hg ki ta ya sp) (h0 : 0 < dt_hh ki t) (he : e < 24) (ht : T e = true) (hs : s ≤ 3) {post : Int32 → SY → Prop}
    (hp : ∀ ps : Nat → Int32, post (nI (dt_n (fun b => dt_qq pa cl al cn vs ki ta nu t s e b && T b) 24)) (nI t, hg, yt, pa, na, cl, al, cn, vs, ki, ya, nu, ps, yo, wa)) : wpY_count post (nI t, hg, yt, pa, na, cl, al, cn, vs, ki, ya, nu, ps, yo, wa) (nI e) (nI s) := by
  have h6 := F.2.2.2.1 t (Nat.le_refl _)
  unfold wpY_count
  exact yd_look_4 hY he ht hs (by rw [F.2.1]; exact nI_ne0 h0 (by omega)) (br_t (by decide) ⟨25, yd_count_l H hY hI F h0 he hs hp 24 0 ps rfl⟩)
theorem yd_found_4 (H : rl_T T pa na cl) (hY : rl_Y T yt) (hI : rl_IY T cn vs) {ta sp : Nat → Int32} {t e s : Nat} (F : rl_F t hg ki ta ya sp) (h0 : 0 < dt_hh ki t) (he : e < 24) (ht : T e = true) (hs : s ≤ 3) {k : Int32} {post : Int32 → SY → Prop}
    (h1 : ∀ (p : Nat) (ps yo wa : Nat → Int32), p < (dt_ol T (dt_p pa) (dt_p na)).length → dt_qq pa cl al cn vs ki ta nu t s e ((dt_ol T (dt_p pa) (dt_p na)).getD p 0) = true → k = nI (dt_n (fun p => dt_qq pa cl al cn vs ki ta nu t s e ((dt_ol T (dt_p pa) (dt_p na)).getD p 0)) p) → post (nI ((dt_ol T (dt_p pa) (dt_p na)).getD p 0)) (nI t, hg, yt, pa, na, cl, al, cn, vs, ki, ya, nu, ps, yo, wa))
    (h2 : ∀ ps yo wa : Nat → Int32, (∀ p, p < (dt_ol T (dt_p pa) (dt_p na)).length → dt_qq pa cl al cn vs ki ta nu t s e ((dt_ol T (dt_p pa) (dt_p na)).getD p 0) = true → k ≠ nI (dt_n (fun p => dt_qq pa cl al cn vs ki ta nu t s e ((dt_ol T (dt_p pa) (dt_p na)).getD p 0)) p)) → post (-4) (nI t, hg, yt, pa, na, cl, al, cn, vs, ki, ya, nu, ps, yo, wa)) : wpY_found post (nI t, hg, yt, pa, na, cl, al, cn, vs, ki, ya, nu, ps, yo, wa) (nI e) (nI s) k := by
  have h6 := F.2.2.2.1 t (Nat.le_refl _)
  obtain ⟨dp, D⟩ := rl_T_dp H
  have ln := dt_ol_len D
  unfold wpY_found
  refine yd_look_4 hY he ht hs (by rw [F.2.1]; exact nI_ne0 h0 (by omega)) (br_t (by decide) (yd_findOrder H hY fun yo wa hyo => yd_entries hY ?_))
  rw [← ln]
  have g := yd_found_l H hI F h0 he hs (L := dt_ol T (dt_p pa) (dt_p na)) (k := k) (dt_ol_le D) hyo (fun x hx => (dt_ol_mem D).mp hx) (post := post) (wa := wa) (yt := yt) (fun p ps => h1 p ps yo wa) (fun ps => h2 ps yo wa) (dt_ol T (dt_p pa) (dt_p na)).length 0 ps (Nat.zero_add _) (fun i hi => absurd hi (by omega))
  have e0 : k - nI (dt_n (fun p => dt_qq pa cl al cn vs ki ta nu t s e ((dt_ol T (dt_p pa) (dt_p na)).getD p 0)) 0) = k := by
    show k - 0 = k
    grind
  rw [e0] at g
  exact ⟨_, g⟩
end
theorem dt_scp (x : Int32) : (∃ s, s ≤ 3 ∧ x = nI s) ∨ (x < 0 ∨ ¬ x ≤ 3) := by
  by_cases z : x < 0
  · exact Or.inr (Or.inl z)
  · by_cases y : x ≤ 3
    · left
      obtain ⟨j, hj, e⟩ := nI_of2 (n := 3) (by decide) z y
      exact ⟨j, hj, e⟩
    · exact Or.inr (Or.inr y)
theorem i_vc_test {k : Nat} {u : SX} {v : SY} (I : i_Rel k u v) (hk : k + 4 ≤ 2048) (v1 : Int32) : wpX_test (fun r u' => wpY_test (fun r' v' => r' = r ∧ i_Rel (k + 4) u' v') v v1) u v1 := by
  refine rl_el (P := fun u v => wpX_test (fun r u' => wpY_test (fun r' v' => r' = r ∧ i_Rel (k + 4) u' v') v v1) u v1) I ?_
  intro th od mn n t hg de pa na cl al so bl ia ik iv ho ki ta nu sp tr un yt cn vs ya ps yo wa A B F
  have h6 := F.2.2.2.1 t (Nat.le_refl _)
  unfold wpX_test
  rcases dt_ent th v1 with ⟨e, he, rfl, ht⟩ | hn
  · refine xd_isEntry_t he ht (br_f (by decide) ?_)
    by_cases h0 : dt_hh ki t = 0
    · have hz : hg = 0 := by rw [F.2.1, h0]; rfl
      refine br_t hz ?_
      unfold wpY_test
      exact yd_isEntry_t A.2.2.1 he ht (br_f (by decide) (br_t hz ⟨rfl, rl_mk A B F⟩))
    · have h0' : 0 < dt_hh ki t := by omega
      have hz : ¬ hg = 0 := by rw [F.2.1]; exact nI_ne0 h0' (by omega)
      refine br_f hz (xd_workOut A.2.1 B.1 B.2.1 F h0' fun de tr un hR => ?_)
      have Y : ∀ r : Int32, nI (dt_tt cl al cn vs ki ta nu t e) = r → wpY_test (fun r' v' => r' = r ∧ i_Rel (k + 4) (th, od, mn, nI n, nI t, hg, de, pa, na, cl, al, so, bl, ia, ik, iv, ho, ki, ta, nu, sp, tr, un) v') (nI t, hg, yt, pa, na, cl, al, cn, vs, ki, ya, nu, ps, yo, wa) (nI e) := fun r hr => by
        unfold wpY_test
        exact yd_isEntry_t A.2.2.1 he ht (br_f (by decide) (br_f hz (yd_truth A.2.1 B.2.2 F he ht h0' fun ps => ⟨hr, rl_mk A B F⟩)))
      have tl : dt_tt cl al cn vs ki ta nu t e ≤ 2 := dt_pt_le (fun i => dt_sv_le _ _ _ _ _ _ _ _) _ _
      obtain ⟨r1, r2⟩ := hR e he ht
      rcases (by omega : dt_tt cl al cn vs ki ta nu t e = 0 ∨ dt_tt cl al cn vs ki ta nu t e = 1 ∨ dt_tt cl al cn vs ki ta nu t e = 2) with r | r | r
      · rw [r] at r1 r2 Y
        exact br_f (fun z => by have := (dt_t (tr 0) (show e < 32 from by omega)).mp z; rw [r1] at this; exact absurd this (by decide)) (br_f (fun z => by have := (dt_t (un 0) (show e < 32 from by omega)).mp z; rw [r2] at this; exact absurd this (by decide)) (Y 0 rfl))
      · rw [r] at r1 r2 Y
        exact br_t ((dt_t (tr 0) (show e < 32 from by omega)).mpr r1) (Y 1 rfl)
      · rw [r] at r1 r2 Y
        exact br_f (fun z => by have := (dt_t (tr 0) (show e < 32 from by omega)).mp z; rw [r1] at this; exact absurd this (by decide)) (br_t ((dt_t (un 0) (show e < 32 from by omega)).mpr r2) (Y 2 rfl))
  · refine xd_isEntry_f hn (br_t rfl ?_)
    unfold wpY_test
    exact yd_isEntry_f A.2.2.1 hn (br_t rfl ⟨rfl, rl_mk A B F⟩)
theorem i_vc_count {k : Nat} {u : SX} {v : SY} (I : i_Rel k u v) (hk : k + 4 ≤ 2048) (v1 : Int32) (v2 : Int32) : wpX_count (fun r u' => wpY_count (fun r' v' => r' = r ∧ i_Rel (k + 4) u' v') v v1 v2) u v1 v2 := by
  refine rl_el (P := fun u v => wpX_count (fun r u' => wpY_count (fun r' v' => r' = r ∧ i_Rel (k + 4) u' v') v v1 v2) u v1 v2) I ?_
  intro th od mn n t hg de pa na cl al so bl ia ik iv ho ki ta nu sp tr un yt cn vs ya ps yo wa A B F
  have h6 := F.2.2.2.1 t (Nat.le_refl _)
  rcases dt_ent th v1 with ⟨e, he, rfl, ht⟩ | hn
  · rcases dt_scp v2 with ⟨s, hs, rfl⟩ | hs
    · by_cases h0 : dt_hh ki t = 0
      · have hz : hg = 0 := by rw [F.2.1, h0]; rfl
        refine xd_count_3 he ht hs hz ?_
        unfold wpY_count
        exact yd_look_3 A.2.2.1 he ht hs hz (br_f (by decide) ⟨rfl, rl_mk A B F⟩)
      · refine xd_count_4 A B F (by omega) he ht hs fun de tr un so bl O hR => ?_
        exact yd_count_4 A.2.1 A.2.2.1 B.2.2 F (by omega) he ht hs fun ps => ⟨rfl, rl_mk ⟨A.1, A.2.1, A.2.2.1, Or.inr ⟨rfl, O⟩⟩ B F⟩
    · refine xd_count_2 he ht hs ?_
      unfold wpY_count
      exact yd_look_2 A.2.2.1 he ht hs (br_f (by decide) ⟨rfl, rl_mk A B F⟩)
  · refine xd_count_1 hn ?_
    unfold wpY_count
    exact yd_look_1 A.2.2.1 hn (br_f (by decide) ⟨rfl, rl_mk A B F⟩)
theorem i_vc_found {k : Nat} {u : SX} {v : SY} (I : i_Rel k u v) (hk : k + 4 ≤ 2048) (v1 : Int32) (v2 : Int32) (v3 : Int32) : wpX_found (fun r u' => wpY_found (fun r' v' => r' = r ∧ i_Rel (k + 4) u' v') v v1 v2 v3) u v1 v2 v3 := by
  refine rl_el (P := fun u v => wpX_found (fun r u' => wpY_found (fun r' v' => r' = r ∧ i_Rel (k + 4) u' v') v v1 v2 v3) u v1 v2 v3) I ?_
  intro th od mn n t hg de pa na cl al so bl ia ik iv ho ki ta nu sp tr un yt cn vs ya ps yo wa A B F
  have h6 := F.2.2.2.1 t (Nat.le_refl _)
  unfold wpX_found
  rcases dt_ent th v1 with ⟨e, he, rfl, ht⟩ | hn
  · rcases dt_scp v2 with ⟨s, hs, rfl⟩ | hs
    · by_cases h0 : dt_hh ki t = 0
      · have hz : hg = 0 := by rw [F.2.1, h0]; rfl
        refine xd_count_3 he ht hs hz (br_f (by decide) ?_)
        unfold wpY_found
        exact yd_look_3 A.2.2.1 he ht hs hz (br_f (by decide) ⟨rfl, rl_mk A B F⟩)
      · have h0' : 0 < dt_hh ki t := by omega
        obtain ⟨dp, D⟩ := rl_T_dp A.2.1
        have l24 := dt_ol_le D
        have N1 := dt_ol_ct D (dt_qq pa cl al cn vs ki ta nu t s e)
        rw [← dt_n_list] at N1
        have N2 := dt_n_le (fun p => dt_qq pa cl al cn vs ki ta nu t s e ((dt_ol (bt th) (dt_p pa) (dt_p na)).getD p 0)) (dt_ol (bt th) (dt_p pa) (dt_p na)).length
        refine xd_count_4 A B F h0' he ht hs fun de tr un so bl O hR => ?_
        have A' : rl_A th 1 (nI (dt_ol (bt th) (dt_p pa) (dt_p na)).length) yt pa na cl so bl := ⟨A.1, A.2.1, A.2.2.1, Or.inr ⟨rfl, O⟩⟩
        rw [← N1]
        refine br_t (nI_pos' (by omega)) ?_
        by_cases z : v3 < 0
        · refine br_t z (yd_found_4 A.2.1 A.2.2.1 B.2.2 F h0' he ht hs (fun p ps yo wa p1 p2 p3 => ?_) (fun ps yo wa _ => ⟨rfl, rl_mk A' B F⟩))
          rw [p3] at z
          have := dt_n_lt (q := fun p => dt_qq pa cl al cn vs ki ta nu t s e ((dt_ol (bt th) (dt_p pa) (dt_p na)).getD p 0)) p1 p2
          exact absurd z (nI_pos (by omega))
        · obtain ⟨m, hm, rfl⟩ := nI_of z
          refine br_f z (pk_lt m (dt_n (fun p => dt_qq pa cl al cn vs ki ta nu t s e ((dt_ol (bt th) (dt_p pa) (dt_p na)).getD p 0)) (dt_ol (bt th) (dt_p pa) (dt_p na)).length) (fun y => ?_) (fun y => ?_))
          · refine xd_scopeOf A.2.1 A'.2.2.2 he ht hs fun so bl w O' Sw hw => nm_e ?_
            have A2 : rl_A th 1 (nI (dt_ol (bt th) (dt_p pa) (dt_p na)).length) yt pa na cl so bl := ⟨A.1, A.2.1, A.2.2.1, Or.inr ⟨rfl, O'⟩⟩
            refine ⟨_, xd_found_l (L := dt_ol (bt th) (dt_p pa) (dt_p na)) (q := dt_qq pa cl al cn vs ki ta nu t s e) l24 O'.2.1 (fun x hx => ?_) (fun p p1 p2 p3 => ?_) (fun no => ?_) _ 0 (Nat.zero_add _) (fun i hi => absurd hi (by omega))⟩
            · obtain ⟨x1, x2⟩ := (dt_ol_mem D).mp hx
              refine ⟨x1, ?_⟩
              rw [b_and, hw x x1, (hR x x1 x2).1, x2, Bool.true_and, Bool.and_comm]
              rfl
            · have q1 := dt_n_lt (q := fun p => dt_qq pa cl al cn vs ki ta nu t s e ((dt_ol (bt th) (dt_p pa) (dt_p na)).getD p 0)) p1 p2
              refine yd_found_4 A.2.1 A.2.2.1 B.2.2 F h0' he ht hs (fun p' ps yo wa r1 r2 r3 => ⟨?_, rl_mk A2 B F⟩) (fun ps yo wa no => absurd p3 (no p p1 p2))
              have q2 := dt_n_lt (q := fun p => dt_qq pa cl al cn vs ki ta nu t s e ((dt_ol (bt th) (dt_p pa) (dt_p na)).getD p 0)) r1 r2
              rw [p3] at r3
              have r4 := (nI_eq (by omega) (by omega)).mp r3
              rw [dt_n_inj (q := fun p => dt_qq pa cl al cn vs ki ta nu t s e ((dt_ol (bt th) (dt_p pa) (dt_p na)).getD p 0)) p2 r2 r4]
            · exact yd_found_4 A.2.1 A.2.2.1 B.2.2 F h0' he ht hs (fun p' ps yo wa r1 r2 r3 => absurd r3 (no p' r1 r2)) (fun ps yo wa _ => ⟨rfl, rl_mk A2 B F⟩)
          · refine yd_found_4 A.2.1 A.2.2.1 B.2.2 F h0' he ht hs (fun p ps yo wa p1 p2 p3 => ?_) (fun ps yo wa _ => ⟨rfl, rl_mk A' B F⟩)
            have q1 := dt_n_lt (q := fun p => dt_qq pa cl al cn vs ki ta nu t s e ((dt_ol (bt th) (dt_p pa) (dt_p na)).getD p 0)) p1 p2
            have q2 := (nI_eq hm (by omega)).mp p3
            omega
    · refine xd_count_2 he ht hs (br_f (by decide) ?_)
      unfold wpY_found
      exact yd_look_2 A.2.2.1 he ht hs (br_f (by decide) ⟨rfl, rl_mk A B F⟩)
  · refine xd_count_1 hn (br_f (by decide) ?_)
    unfold wpY_found
    exact yd_look_1 A.2.2.1 hn (br_f (by decide) ⟨rfl, rl_mk A B F⟩)
end
section
/-! the owed rows allow and token -/
theorem i_vc_allow {k : Nat} {u : SX} {v : SY} (I : i_Rel k u v) (hk : k + 4 ≤ 2048) (v1 : Int32) (v2 : Int32) : wpX_allow (fun r u' => wpY_allow (fun r' v' => r' = r ∧ i_Rel (k + 4) u' v') v v1 v2) u v1 v2 := by
  refine rl_el (P := fun u v => wpX_allow (fun r u' => wpY_allow (fun r' v' => r' = r ∧ i_Rel (k + 4) u' v') v v1 v2) u v1 v2) I ?_
  intro th od mn n t hg de pa na cl al so bl ia ik iv ho ki ta nu sp tr un yt cn vs ya ps yo wa A B F
  have R : i_Rel (k + 4) (th, od, mn, nI n, nI t, hg, de, pa, na, cl, al, so, bl, ia, ik, iv, ho, ki, ta, nu, sp, tr, un) (nI t, hg, yt, pa, na, cl, al, cn, vs, ki, ya, nu, ps, yo, wa) := rl_mk A B F
  by_cases a1 : v1 < 0
  · exact br_t a1 (br_t a1 ⟨rfl, R⟩)
  by_cases a2 : 3 < v1
  · exact br_f a1 (br_t a2 (br_f a1 (br_t a2 ⟨rfl, R⟩)))
  by_cases a3 : v2 < 0
  · exact br_f a1 (br_f a2 (br_t a3 (br_f a1 (br_f a2 (br_t a3 ⟨rfl, R⟩)))))
  by_cases a4 : v2 ≤ 63
  · obtain ⟨c, hc, rfl⟩ := nI_of2 (n := 3) (by decide) a1 (Int32.not_lt.mp a2)
    have hc4 : c < 4 := by omega
    refine br_f a1 (br_f a2 (br_f a3 (br_t a4 (xd_membersOf A.2.1 fun m hm => ⟨n + 1, xd_allow_l B.1 hc4 (fun i i1 i2 i3 => ?_) (fun ok => ?_) n 0 (Nat.zero_add n) (fun i hi => absurd hi (by omega))⟩))))
    · refine br_f a1 (br_f a2 (br_f a3 (br_t a4 ⟨145, yd_allow_l A.2.1 A.2.2.1 B.2.2 hc4 (fun s _ _ => ⟨rfl, R⟩) (fun no => ?_) 144 0 rfl (fun s hs => absurd hs (by omega))⟩)))
      exfalso
      have Sm : dt_S m := fun i hi => dt_bf fun y => by have := ((hm i).mp y).1; omega
      obtain ⟨b, hb, hb2⟩ := dt_S_ne (dt_S_andr (x := ho i) Sm) i2
      rw [b_and, Bool.and_eq_true] at hb2
      obtain ⟨_, m2, m3⟩ := (hm b).mp hb2.2
      have k4 := (A.2.1.2.2.2.1 b hb m2).2
      rw [dt_sh (by omega) (by omega), decide_eq_true_eq] at m3
      obtain ⟨p1, p2, _⟩ := rl_IX_p B.1 i1
      obtain ⟨q, q1, q2⟩ := (B.2.1 b (dt_p ia i) (iv i) hb m2 p2).mp ⟨i, i1, p1, rfl, hb2.1⟩
      refine no (6 * b + dt_p ia i) (by omega) ⟨?_, ?_, ?_, ?_⟩
      · rw [show (6 * b + dt_p ia i) / 6 = b from by omega]; exact m2
      · rw [show (6 * b + dt_p ia i) / 6 = b from by omega]; exact m3
      · omega
      · rw [show (6 * b + dt_p ia i) % 6 = dt_p ia i from by omega]; exact i3
    · refine br_f a1 (br_f a2 (br_f a3 (br_t a4 ⟨145, yd_allow_l A.2.1 A.2.2.1 B.2.2 hc4 (fun s hs ag => ?_) (fun no => ⟨rfl, rl_mk A B F⟩) 144 0 rfl (fun s hs => absurd hs (by omega))⟩)))
      exfalso
      obtain ⟨g1, g2, g3, g4⟩ := ag
      have es : 6 * (s / 6) + s % 6 = s := by omega
      have m := B.2.1 (s / 6) (s % 6) (vs (4 * s + 0)) (by omega) g1 (by omega)
      rw [es] at m
      obtain ⟨i, j1, j2, _, j4⟩ := m.mpr ⟨0, g3, rfl⟩
      have j5 := ok i j1 (dt_ne0 (i := s / 6) (by
        rw [b_and, j4, (hm (s / 6)).mpr ⟨by omega, g1, by rw [g2, dt_sh (by omega) (by omega)]; exact decide_eq_true rfl⟩]
        rfl))
      rw [(rl_IX_e B.1 j1 (by omega)).mp j2, g4] at j5
      exact absurd j5 (by decide)
  · exact br_f a1 (br_f a2 (br_f a3 (br_f a4 (br_f a1 (br_f a2 (br_f a3 (br_f a4 ⟨rfl, R⟩)))))))
theorem dt_hh_cg {ki kj : Nat → Int32} : ∀ {i : Nat}, (∀ j, j < i → ki j = kj j) → dt_hh ki i = dt_hh kj i
  | 0, _ => rfl
  | i + 1, h => by
    rw [dt_hh_s, dt_hh_s, dt_hh_cg (i := i) fun j hj => h j (by omega)]
    unfold dt_p
    rw [h i (by omega)]
theorem dt_p_us {f : Nat → Int32} {e p : Nat} (hp : p < 2 ^ 31) : dt_p (upd f e (nI p)) e = p := by
  unfold dt_p
  rw [pk_us, nI_clamp hp]
theorem dt_p_un {f : Nat → Int32} {e x : Nat} {v : Int32} (h : x ≠ e) : dt_p (upd f e v) x = dt_p f x := by
  unfold dt_p
  rw [pk_un h]
/-- a span that fits a new token of q parts -/
def dt_spn (ki : Nat → Int32) (t q s : Nat) : Prop := 0 < s ∧ s ≤ t + 1 ∧ dt_hh ki t = dt_hh ki (t + 1 - s) + q ∧ ∀ u, t + 1 - s < u → u ≤ t → dt_hh ki (t + 1 - s) < dt_hh ki u
theorem rl_F_new {t q s : Nat} {hg z y : Int32} {ki ta ya sp : Nat → Int32} (F : rl_F t hg ki ta ya sp) (ht : t < 20) (hq : q ≤ 7) (h1 : dt_tk q ≤ dt_hh ki t) (h2 : dt_tk q = 0 → dt_hh ki t < 6) (h3 : q ≤ 4 → y = z ∧ ∃ a, a < 6 ∧ z = nI a) (hs : dt_spn ki t (dt_tk q) s) :
    rl_F (t + 1) (nI (dt_hh ki t + 1 - dt_tk q)) (upd ki t (nI q)) (upd ta t z) (upd ya t y) (upd sp t (nI s)) := by
  have e0 : ∀ i, i ≤ t → dt_hh (upd ki t (nI q)) i = dt_hh ki i := fun i hi => dt_hh_cg fun j hj => pk_un (by omega)
  have e1 : dt_hh (upd ki t (nI q)) (t + 1) = dt_hh ki t + 1 - dt_tk q := by
    rw [dt_hh_s, e0 t (Nat.le_refl _), dt_p_us (by omega)]
  have t6 := F.2.2.2.1 t (Nat.le_refl _)
  have tk2 : dt_tk q ≤ 2 := by
    unfold dt_tk
    repeat' split
    all_goals omega
  refine ⟨by omega, by rw [e1], fun i hi => ?_, fun i hi => ?_, fun i hi => ?_⟩
  · by_cases x : i = t
    · subst x
      rw [dt_p_us (by omega), e0 i (Nat.le_refl _), pk_us, pk_us, pk_us]
      refine ⟨rfl, hq, h1, fun w => ?_⟩
      obtain ⟨w1, a, w2, w3⟩ := h3 w
      rw [w3, dt_p_us (by omega)]
      exact ⟨by rw [w1, w3], rfl, w2⟩
    · have k := F.2.2.1 i (by omega)
      rw [dt_p_un x, e0 i (by omega), pk_un x, pk_un x, pk_un x, dt_p_un x]
      exact k
  · by_cases x : i = t + 1
    · rw [x, e1]
      by_cases w : dt_tk q = 0
      · have := h2 w
        omega
      · omega
    · rw [e0 i (by omega)]
      exact F.2.2.2.1 i (by omega)
  · by_cases x : i = t
    · subst x
      obtain ⟨s1, s2, s3, s4⟩ := hs
      refine ⟨s, pk_us, s1, s2, ?_, fun w w1 w2 => ?_⟩
      · rw [e1, e0 _ (by omega)]
        omega
      · rw [e0 _ (by omega)]
        by_cases y : w = i + 1
        · rw [y, e1]
          omega
        · rw [e0 w (by omega)]
          exact s4 w w1 (by omega)
    · obtain ⟨s, s0, s1, s2, s3, s4⟩ := F.2.2.2.2 i (by omega)
      refine ⟨s, by rw [pk_un x]; exact s0, s1, s2, ?_, fun w w1 w2 => ?_⟩
      · rw [e0 _ (by omega), e0 _ (by omega)]
        exact s3
      · rw [e0 _ (by omega), e0 _ (by omega)]
        exact s4 w w1 w2
section
variable {th od mn ix tk hg de : Int32} {pa na cl al so bl ia ik iv ho ki ta nu sp tr un : Nat → Int32}
theorem xd_token124 {ya : Nat → Int32} {t q : Nat} (F : rl_F t hg ki ta ya sp) {kj tb nv : Nat → Int32} (ht : t < 20) (hq : q ≤ 2) (h1 : q ≤ dt_hh ki t) {post : Int32 → SX → Prop}
    (hp : ∀ s, dt_spn ki t q s → post (nI (dt_hh ki t + 1 - q)) (th, od, mn, ix, nI (t + 1), nI (dt_hh ki t + 1 - q), de, pa, na, cl, al, so, bl, ia, ik, iv, ho, kj, tb, nv, upd sp t (nI s), tr, un)) : ∃ m : Nat, wX_token_124 post (nI q) th od mn ix (nI t) hg de pa na cl al so bl ia ik iv ho kj tb nv sp tr un m 1 (nI t - 1) 0 := by
  have t6 := F.2.2.2.1 t (Nat.le_refl _)
  have ct : (nI t).toNatClampNeg = t := nI_clamp (by omega)
  have vt : vp_in (nI t) 20 := vp_in_nI ht (by decide)
  have fin : ∀ (s m j : Nat) (x : Int32), q ≤ j → j ≤ 2 → dt_spn ki t q s → wX_token_124 post (nI q) th od mn ix (nI t) hg de pa na cl al so bl ia ik iv ho kj tb nv sp tr un (m + 1) (nI s) x (nI j) := fun s m j x hj hj2 hs =>
    br_t (nI_le hj (by omega)) ⟨vt, nm_r (e' := upd sp t (nI s)) (by rw [ct]) (nm_r (nI_1 t) (nm_r (e' := nI (dt_hh ki t + 1 - q)) (by
      rw [F.2.1]
      rcases (by omega : q = 0 ∨ q = 1 ∨ q = 2) with r | r | r
      · subst r
        exact nI_1 _
      · subst r
        show nI (dt_hh ki t) + 0 = _
        rw [Int32.add_zero]
        rfl
      · subst r
        obtain ⟨m, hm⟩ : ∃ m, dt_hh ki t = m + 1 := ⟨dt_hh ki t - 1, by omega⟩
        rw [hm]
        exact pk_m1 m) (hp s hs)))⟩
  rcases (by omega : q = 0 ∨ 0 < q) with r | r
  · subst r
    refine ⟨1, fin 1 0 0 _ (by omega) (by omega) ⟨by omega, by omega, rfl, fun u a b => ?_⟩⟩
    omega
  · obtain ⟨t1, rfl⟩ : ∃ t1, t = t1 + 1 := by
      cases t with
      | zero => exact absurd h1 (by show ¬ q ≤ 0; omega)
      | succ m => exact ⟨m, rfl⟩
    obtain ⟨s1, a0, a1, a2, a3, a4⟩ := F.2.2.2.2 t1 (by omega)
    have c1 : (nI t1).toNatClampNeg = t1 := nI_clamp (by omega)
    have v1 : vp_in (nI t1) 20 := vp_in_nI (by omega) (by decide)
    rw [nI_pred t1]
    rcases (by omega : q = 1 ∨ q = 2) with r | r
    · subst r
      refine ⟨2, br_f (by decide) ⟨v1, nm_r (e' := nI (1 + s1)) (by rw [c1, a0]; exact nI_add 1 s1) ⟨v1, nm_e (nm_r (nI_1 0) (fin (1 + s1) 0 1 _ (by omega) (by omega) ?_))⟩⟩⟩
      refine ⟨by omega, by omega, ?_, fun u b1 b2 => ?_⟩
      · rw [show t1 + 1 + 1 - (1 + s1) = t1 + 1 - s1 from by omega]
        exact a3
      · rw [show t1 + 1 + 1 - (1 + s1) = t1 + 1 - s1 from by omega] at b1 ⊢
        exact a4 u b1 b2
    · subst r
      have z : s1 ≤ t1 := by
        rcases Nat.lt_or_ge t1 s1 with y | y
        · rw [show t1 + 1 - s1 = 0 from by omega] at a3
          have : dt_hh ki 0 = 0 := rfl
          omega
        · exact y
      obtain ⟨s2, b0, b1, b2, b3, b4⟩ := F.2.2.2.2 (t1 - s1) (by omega)
      have c2 : (nI (t1 - s1)).toNatClampNeg = t1 - s1 := nI_clamp (by omega)
      have v2 : vp_in (nI (t1 - s1)) 20 := vp_in_nI (by omega) (by decide)
      refine ⟨3, br_f (by decide) ⟨v1, nm_r (e' := nI (1 + s1)) (by rw [c1, a0]; exact nI_add 1 s1) ⟨v1, nm_r (e' := nI (t1 - s1)) (by rw [c1, a0]; exact pk_sub z) (nm_r (nI_1 0) (br_f (by decide) ⟨v2, nm_r (e' := nI (1 + s1 + s2)) (by rw [c2, b0]; exact nI_add _ _) ⟨v2, nm_e (nm_r (nI_1 1) (fin (1 + s1 + s2) 0 2 _ (by omega) (by omega) ?_))⟩⟩))⟩⟩⟩
      have e1 : t1 - s1 + 1 = t1 + 1 - s1 := by omega
      have e2 : t1 + 1 + 1 - (1 + s1 + s2) = t1 - s1 + 1 - s2 := by omega
      rw [e1] at b3 b4
      refine ⟨by omega, by omega, ?_, fun u d1 d2 => ?_⟩
      · rw [e2, e1, a3, b3]
      · rw [e2, e1] at d1 ⊢
        rcases Nat.lt_or_ge (t1 + 1 - s1) u with w | w
        · have := a4 u w d2
          omega
        · exact b4 u d1 w
end
theorem i_vc_token {k : Nat} {u : SX} {v : SY} (I : i_Rel k u v) (hk : k + 4 ≤ 2048) (v1 : Int32) (v2 : Int32) (v3 : Int32) : wpX_token (fun r u' => wpY_token (fun r' v' => r' = r ∧ i_Rel (k + 4) u' v') v v1 v2 v3) u v1 v2 v3 := by
  refine rl_el (P := fun u v => wpX_token (fun r u' => wpY_token (fun r' v' => r' = r ∧ i_Rel (k + 4) u' v') v v1 v2 v3) u v1 v2 v3) I ?_
  intro th od mn n t hg de pa na cl al so bl ia ik iv ho ki ta nu sp tr un yt cn vs ya ps yo wa A B F
  have R : i_Rel (k + 4) (th, od, mn, nI n, nI t, hg, de, pa, na, cl, al, so, bl, ia, ik, iv, ho, ki, ta, nu, sp, tr, un) (nI t, hg, yt, pa, na, cl, al, cn, vs, ki, ya, nu, ps, yo, wa) := rl_mk A B F
  have t20 := F.1
  have t6 := F.2.2.2.1 t (Nat.le_refl _)
  have hF := F.2.1
  by_cases a1 : v1 < 0
  · exact br_t a1 (br_t a1 ⟨rfl, R⟩)
  by_cases a2 : 7 < v1
  · exact br_f a1 (br_t a2 (br_f a1 (br_t a2 ⟨rfl, R⟩)))
  obtain ⟨q, hq, rfl⟩ := nI_of2 (n := 7) (by decide) a1 (Int32.not_lt.mp a2)
  have ct : (nI t).toNatClampNeg = t := nI_clamp (by omega)
  have main : (q ≤ 4 → ∃ a, a < 6 ∧ v2 = nI a) → (∀ post : Int32 → SY → Prop, wY_token_25 post (nI q) v2 v3 (nI t) hg yt pa na cl al cn vs ki ya nu ps yo wa → wpY_token post (nI t, hg, yt, pa, na, cl, al, cn, vs, ki, ya, nu, ps, yo, wa) (nI q) v2 v3) → wX_token_24 (fun r u' => wpY_token (fun r' v' => r' = r ∧ i_Rel (k + 4) u' v') (nI t, hg, yt, pa, na, cl, al, cn, vs, ki, ya, nu, ps, yo, wa) (nI q) v2 v3) (nI q) v2 v3 th od mn (nI n) (nI t) hg de pa na cl al so bl ia ik iv ho ki ta nu sp tr un := fun ok yy => by
    have ytk : ∀ {post : Int32 → SY → Prop}, ¬ t = 20 → wY_token_56 post (nI q) v2 v3 (nI (dt_tk q)) (nI t) hg yt pa na cl al cn vs ki ya nu ps yo wa → wpY_token post (nI t, hg, yt, pa, na, cl, al, cn, vs, ki, ya, nu, ps, yo, wa) (nI q) v2 v3 := fun {post} w g => by
      refine yy post (br_f (fun z => w ((nI_eq (b := 20) (by omega) (by omega)).mp z)) ?_)
      by_cases q4 : q ≤ 4
      · rw [dt_tk_0 q4] at g
        exact br_f (nI_ge (b := 5) (by omega) (by decide)) g
      · refine br_t (nI_le (a := 5) (by omega) (by omega)) ?_
        by_cases q5 : q = 5
        · rw [dt_tk_1 q5] at g
          exact br_t (by rw [q5]; rfl) g
        · rw [dt_tk_2 (by omega)] at g
          exact br_f (fun z => q5 ((nI_eq (b := 5) (by omega) (by omega)).mp z)) g
    have tk2 : dt_tk q ≤ 2 := by
      unfold dt_tk
      repeat' split
      all_goals omega
    by_cases b1 : t < 20
    · refine br_t (nI_lt (b := 20) b1 (by decide)) (xd_taken hq ?_)
      have t71 : dt_tk q ≤ dt_hh ki t → (dt_tk q = 0 → dt_hh ki t < 6) → wX_token_71 (fun r u' => wpY_token (fun r' v' => r' = r ∧ i_Rel (k + 4) u' v') (nI t, hg, yt, pa, na, cl, al, cn, vs, ki, ya, nu, ps, yo, wa) (nI q) v2 v3) (nI q) v2 v3 (nI (dt_tk q)) th od mn (nI n) (nI t) hg de pa na cl al so bl ia ik iv ho ki ta nu sp tr un := fun w1 w2 => by
        have vt : vp_in (nI t) 20 := vp_in_nI b1 (by decide)
        have fin : ∀ z : Int32, (q ≤ 4 → z = v2) → wX_token_99 (fun r u' => wpY_token (fun r' v' => r' = r ∧ i_Rel (k + 4) u' v') (nI t, hg, yt, pa, na, cl, al, cn, vs, ki, ya, nu, ps, yo, wa) (nI q) v2 v3) v3 (nI (dt_tk q)) z (nI t) th od mn (nI n) (nI t) hg de pa na cl al so bl ia ik iv ho (upd ki t (nI q)) ta nu sp tr un := fun z hz => by
          refine ⟨vt, nm_r (e' := upd ta t z) (by rw [ct]) ⟨vt, nm_r (e' := upd nu t v3) (by rw [ct]) (nm_e ?_)⟩⟩
          refine xd_token124 F b1 tk2 w1 fun s hs => ytk (by omega) ?_
          have F' := rl_F_new (z := z) (y := v2) F b1 hq w1 w2 (fun x => ⟨(hz x).symm, by rw [hz x]; exact ok x⟩) hs
          have fin2 : ∀ {post : Int32 → SY → Prop}, post (nI (dt_hh ki t + 1 - dt_tk q)) (nI (t + 1), nI (dt_hh ki t + 1 - dt_tk q), yt, pa, na, cl, al, cn, vs, upd ki t (nI q), upd ya t v2, upd nu t v3, ps, yo, wa) → wY_token_87 post (nI q) v2 v3 (nI (dt_tk q)) (nI t) hg yt pa na cl al cn vs ki ya nu ps yo wa := fun {post} g => by
            refine ⟨vt, nm_r (e' := upd ki t (nI q)) (by rw [ct]) ⟨vt, nm_r (e' := upd ya t v2) (by rw [ct]) ⟨vt, nm_r (e' := upd nu t v3) (by rw [ct]) (nm_r (nI_1 t) (nm_r (e' := nI (dt_hh ki t + 1 - dt_tk q)) ?_ g))⟩⟩⟩
            rw [hF, pk_sub w1, nI_1]
            exact congrArg nI (by omega)
          rw [hF]
          refine br_t (nI_le w1 (by omega)) ?_
          rcases Nat.eq_zero_or_pos (dt_tk q) with y | y
          · have w3 := w2 y
            refine br_t (by rw [y]; rfl) (br_f (fun x => absurd ((nI_eq (b := 6) (by omega) (by omega)).mp x) (by omega)) ?_)
            rw [← hF]
            exact fin2 ⟨rfl, rl_mk A B F'⟩
          · refine br_f (nI_ne0 y (by omega)) ?_
            rw [← hF]
            exact fin2 ⟨rfl, rl_mk A B F'⟩
        refine ⟨vt, nm_r (e' := upd ki t (nI q)) (by rw [ct]) ?_⟩
        by_cases q4 : q ≤ 4
        · exact br_f (nI_nlt (a := 4) (b := q) q4 (by decide)) (fin v2 fun _ => rfl)
        · exact br_t (nI_lt (a := 4) (by omega) (by omega)) (fin 0 fun x => absurd x q4)
      by_cases w1 : dt_tk q ≤ dt_hh ki t
      · refine br_t (by rw [hF]; exact nI_le w1 (by omega)) ?_
        rcases Nat.eq_zero_or_pos (dt_tk q) with y | y
        · refine br_t (by rw [y]; rfl) ?_
          by_cases w2 : dt_hh ki t < 6
          · exact br_t (by rw [hF]; exact nI_lt (b := 6) w2 (by decide)) (t71 w1 fun _ => w2)
          · refine br_f (by rw [hF]; exact nI_nlt (b := 6) (by omega) (by omega)) (ytk (by omega) (br_t (by rw [hF]; exact nI_le w1 (by omega)) (br_t (by rw [y]; rfl) (br_t ?_ ⟨rfl, R⟩))))
            rw [hF, show dt_hh ki t = 6 from by omega]
            rfl
        · exact br_f (nI_ne0 y (by omega)) (t71 w1 fun x => by omega)
      · have w2 : ¬ nI (dt_tk q) ≤ hg := by rw [hF]; exact nI_ge (by omega) (by omega)
        exact br_f w2 (ytk (by omega) (br_f w2 ⟨rfl, R⟩))
    · have e20 : t = 20 := by omega
      subst e20
      exact br_f (by decide) (yy _ (br_t rfl ⟨rfl, R⟩))
  by_cases q4 : q ≤ 4
  · have x1 : ¬ (4 : Int32) < nI q := nI_nlt (a := 4) (b := q) q4 (by decide)
    have x2 : ¬ (5 : Int32) ≤ nI q := nI_ge (b := 5) (by omega) (by decide)
    refine br_f a1 (br_f a2 (br_f x1 ?_))
    rcases dt_att v2 with ⟨a, ha, rfl⟩ | hna
    · exact xd_isAttribute_t ha (br_f (by decide) (main (fun _ => ⟨a, ha, rfl⟩) fun post g => br_f a1 (br_f a2 (br_f x2 (yd_isAttribute_t ha (br_f (by decide) g))))))
    · exact xd_isAttribute_f hna (br_t rfl (br_f a1 (br_f a2 (br_f x2 (yd_isAttribute_f hna (br_t rfl ⟨rfl, R⟩))))))
  · exact br_f a1 (br_f a2 (br_t (nI_lt (a := 4) (by omega) (by omega)) (main (fun x => absurd x q4) fun post g => br_f a1 (br_f a2 (br_t (nI_le (a := 5) (by omega) (by omega)) g)))))
end
section
/-! the owed rows make and move -/
def dt_zc (e k : Nat) (cn : Nat → Int32) (j : Nat) : Int32 := if 6 * e ≤ j ∧ j < 6 * e + k then 0 else cn j
theorem dt_zc_s (e k : Nat) (cn : Nat → Int32) : upd (dt_zc e k cn) (6 * e + k) 0 = dt_zc e (k + 1) cn := by
  funext j
  by_cases b : j = 6 * e + k
  · rw [b, pk_us]
    unfold dt_zc
    rw [if_pos (by omega)]
  · rw [pk_un b]
    unfold dt_zc
    by_cases a : 6 * e ≤ j ∧ j < 6 * e + k
    · rw [if_pos a, if_pos (by omega)]
    · rw [if_neg a, if_neg (by omega)]
theorem dt_zc_0 (e : Nat) (cn : Nat → Int32) : dt_zc e 0 cn = cn := by
  funext j
  unfold dt_zc
  rw [if_neg (by omega)]
theorem dt_zc_i {e a : Nat} {cn : Nat → Int32} (ha : a < 6) : dt_zc e 6 cn (6 * e + a) = 0 := if_pos (by omega)
theorem dt_zc_o {e x a : Nat} {cn : Nat → Int32} (ha : a < 6) (hx : x ≠ e) : dt_zc e 6 cn (6 * x + a) = cn (6 * x + a) := if_neg (by omega)
theorem dt_c_no {T : Nat → Bool} {pa na : Nat → Int32} {x y : Int32} (h : dt_c T pa na x y = 24) {f : Nat} (h0 : 0 < f) (hf : f < 24) (ht : T f = true) (e1 : pa f = x) (e2 : na f = y) : False := by
  have k := (dt_f_sp (dt_q T pa na x y) 23 1).2.2.2 f h0 (by rw [show dt_f (dt_q T pa na x y) 23 1 = 24 from h]; exact hf)
  rw [dt_q_i.mpr ⟨ht, e1, e2⟩] at k
  exact absurd k (by decide)
theorem dt_c_is {T : Nat → Bool} {pa na : Nat → Int32} {x y : Int32} (h : dt_c T pa na x y < 24) : 0 < dt_c T pa na x y ∧ T (dt_c T pa na x y) = true ∧ pa (dt_c T pa na x y) = x ∧ na (dt_c T pa na x y) = y := by
  have s := dt_f_sp (dt_q T pa na x y) 23 1
  have k := dt_q_i.mp (s.2.2.1 h)
  exact ⟨s.1, k⟩
theorem rl_make_T {T S : Nat → Bool} {pa na cl : Nat → Int32} {e p m c : Nat} (H : rl_T T pa na cl) (hS : ∀ b, b < 24 → S b = (T b || decide (b = e))) (e0 : 0 < e) (e24 : e < 24) (hte : T e = false) (p24 : p < 24) (hp : T p = true) (m9 : m ≤ 9) (c4 : c < 4) (tw : dt_c T pa na (nI p) (nI m) = 24) :
    rl_T S (upd pa e (nI p)) (upd na e (nI m)) (upd cl e (nI c)) := by
  obtain ⟨h0, h1, h2, h3, h4, rk, h5⟩ := H
  have ST : ∀ b, b < 24 → T b = true → S b = true := fun b hb w => by rw [hS b hb, w, Bool.true_or]
  have TS : ∀ b, b < 24 → b ≠ e → S b = true → T b = true := fun b hb w y => by
    rw [hS b hb, decide_eq_false w, Bool.or_false] at y
    exact y
  have ne : ∀ b, T b = true → b ≠ e := fun b w y => by
    rw [y, hte] at w
    exact absurd w (by decide)
  refine ⟨ST 0 (by omega) h0, by rw [pk_un (by omega)]; exact h1, fun x x0 x24 xs => ?_, fun x x24 xs => ?_, fun x f x0 x24 xs f0 f24 fs q1 q2 => ?_, dt_ex rk e (rk p + 1), fun x x0 x24 xs => ?_⟩
  · by_cases z : x = e
    · subst z
      rw [dt_p_us (by omega), dt_p_us (by omega), pk_us, pk_us]
      exact ⟨rfl, p24, ST p p24 hp, rfl, m9⟩
    · obtain ⟨k1, k2, k3, k4, k5⟩ := h2 x x0 x24 (TS x x24 z xs)
      rw [dt_p_un z, dt_p_un z, pk_un z, pk_un z]
      exact ⟨k1, k2, ST _ k2 k3, k4, k5⟩
  · by_cases z : x = e
    · subst z
      rw [dt_p_us (by omega), pk_us]
      exact ⟨rfl, c4⟩
    · rw [dt_p_un z, pk_un z]
      exact h3 x x24 (TS x x24 z xs)
  · by_cases z : x = e
    · by_cases y : f = e
      · rw [z, y]
      · rw [z, pk_us, pk_un y] at q1
        rw [z, pk_us, pk_un y] at q2
        exact (dt_c_no tw f0 f24 (TS f f24 y fs) q1.symm q2.symm).elim
    · by_cases y : f = e
      · rw [y, pk_us, pk_un z] at q1
        rw [y, pk_us, pk_un z] at q2
        exact (dt_c_no tw x0 x24 (TS x x24 z xs) q1 q2).elim
      · rw [pk_un z, pk_un y] at q1
        rw [pk_un z, pk_un y] at q2
        exact h4 x f x0 x24 (TS x x24 z xs) f0 f24 (TS f f24 y fs) q1 q2
  · by_cases z : x = e
    · subst z
      rw [dt_p_us (by omega), dt_ex_n rk x _ (ne p hp), dt_ex_s]
      omega
    · have xt := TS x x24 z xs
      rw [dt_p_un z, dt_ex_n rk e _ (ne _ (h2 x x0 x24 xt).2.2.1), dt_ex_n rk e _ z]
      exact h5 x x0 x24 xt
theorem rl_make {th od mn : Int32} {yt pa na cl so bl ia ik iv ho cn vs : Nat → Int32} {n e p m c : Nat} (A : rl_A th od mn yt pa na cl so bl) (B : rl_B th n ia ik iv ho cn vs) (e0 : 0 < e) (e24 : e < 24) (hte : bt th e = false) (p24 : p < 24) (hp : bt th p = true) (m9 : m ≤ 9) (c4 : c < 4) (tw : dt_c (bt th) pa na (nI p) (nI m) = 24) :
    rl_A (th ||| ((1 : Int32) <<< (nI e &&& 31))) 0 mn (upd yt e 1) (upd pa e (nI p)) (upd na e (nI m)) (upd cl e (nI c)) so bl ∧ rl_B (th ||| ((1 : Int32) <<< (nI e &&& 31))) n ia ik iv ho (dt_zc e 6 cn) vs := by
  have hS : ∀ b, b < 24 → bt (th ||| ((1 : Int32) <<< (nI e &&& 31))) b = (bt th b || decide (b = e)) := fun b hb => by
    rw [b_or, dt_sh (by omega) (by omega)]
  have ST : ∀ b, b < 24 → bt th b = true → bt (th ||| ((1 : Int32) <<< (nI e &&& 31))) b = true := fun b hb w => by rw [hS b hb, w, Bool.true_or]
  have TS : ∀ b, b < 24 → b ≠ e → bt (th ||| ((1 : Int32) <<< (nI e &&& 31))) b = true → bt th b = true := fun b hb w y => by
    rw [hS b hb, decide_eq_false w, Bool.or_false] at y
    exact y
  refine ⟨⟨dt_S_or A.1 (dt_S_sh e24), rl_make_T A.2.1 hS e0 e24 hte p24 hp m9 c4 tw, fun b hb => ?_, Or.inl rfl⟩, ⟨B.1.1, fun i hi => ?_, B.1.2.2⟩, fun x a v x24 xs ha => ?_, fun x a x24 xs ha => ?_⟩
  · rw [hS b hb]
    by_cases z : b = e
    · rw [z, pk_us, decide_eq_true rfl, Bool.or_true, if_pos rfl]
    · rw [pk_un z, decide_eq_false z, Bool.or_false]
      exact A.2.2.1 b hb
  · obtain ⟨k1, k2, k3, k4, k5, k6⟩ := B.1.2.1 i hi
    exact ⟨k1, k2, k3, k4, k5, fun b hb => ⟨(k6 b hb).1, ST b (k6 b hb).1 (k6 b hb).2⟩⟩
  · by_cases z : x = e
    · subst z
      unfold dt_p
      rw [dt_zc_i ha]
      constructor
      · rintro ⟨i, i1, i2, i3, i4⟩
        have := ((B.1.2.1 i i1).2.2.2.2.2 x i4).2
        rw [hte] at this
        exact absurd this (by decide)
      · rintro ⟨q, q1, _⟩
        exact absurd (show q < 0 from q1) (Nat.not_lt_zero _)
    · unfold dt_p
      rw [dt_zc_o ha z]
      exact B.2.1 x a v x24 (TS x x24 z xs) ha
  · by_cases z : x = e
    · subst z
      have e1 : dt_p (dt_zc x 6 cn) (6 * x + a) = 0 := by
        unfold dt_p
        rw [dt_zc_i ha]
        decide
      rw [dt_zc_i ha, e1]
      exact ⟨rfl, by omega, fun q hq => absurd hq (by omega), fun q l _ hl => absurd hl (by omega)⟩
    · have e1 : dt_p (dt_zc e 6 cn) (6 * x + a) = dt_p cn (6 * x + a) := by
        unfold dt_p
        rw [dt_zc_o ha z]
      rw [dt_zc_o ha z, e1]
      exact B.2.2 x a x24 (TS x x24 z xs) ha
section
variable {th od mn ix tk hg de : Int32} {pa na cl al so bl ia ik iv ho ki ta nu sp tr un : Nat → Int32}
theorem xd_make_l {post : Int32 → SX → Prop} {x1 x2 x3 : Int32} : ∀ d i, i + d = 24 → wX_make_80 post x1 x2 x3 (nI (dt_f (fun e => !bt th e) d i)) th od mn ix tk hg de pa na cl al so bl ia ik iv ho ki ta nu sp tr un → wX_make_54 post x1 x2 x3 th od mn ix tk hg de pa na cl al so bl ia ik iv ho ki ta nu sp tr un (d + 1) (nI i)
  | 0, i, h, hp => by
    have e : i = 24 := by omega
    subst e
    exact br_t (nI_le (a := 24) (b := 24) (by omega) (by decide)) hp
  | d + 1, i, h, hp => by
    refine br_f (nI_ge (b := 24) (by omega) (by decide)) (br_c (fun z => ?_) (fun z => ?_))
    · have z' := (dt_t th (show i < 32 from by omega)).mp z
      rw [dt_f_n (show (!bt th i) = false from by rw [z']; rfl)] at hp
      exact nm_r (nI_1 i) (xd_make_l d (i + 1) (by omega) hp)
    · have z' : bt th i = false := dt_bf fun y => z ((dt_t th (show i < 32 from by omega)).mpr y)
      rw [dt_f_p (show (!bt th i) = true from by rw [z']; rfl)] at hp
      exact hp
end
section
variable {tk hg : Int32} {yt pa na cl al cn vs ki ya nu ps yo wa : Nat → Int32}
theorem yd_make_l {post : Int32 → SY → Prop} {e : Nat} (he : e < 24) (hp : post (nI e) (tk, hg, yt, pa, na, cl, al, dt_zc e 6 cn, vs, ki, ya, nu, ps, yo, wa)) : ∀ d j, j + d = 6 → wY_make_96 post (nI e) tk hg (d + 1) (nI j) yt pa na cl al (dt_zc e j cn) vs ki ya nu ps yo wa
  | 0, j, h => by
    have z : j = 6 := by omega
    subst z
    exact br_t (nI_le (a := 6) (b := 6) (by omega) (by decide)) hp
  | d + 1, j, h => by
    refine br_f (nI_ge (b := 6) (by omega) (by decide)) ?_
    rw [dt_sl1, nI_clamp (by omega), dt_zc_s]
    exact ⟨vp_in_nI (by omega) (by decide), nm_e (nm_r (nI_1 j) (yd_make_l he hp d (j + 1) (by omega)))⟩
end
theorem dt_nb1 : vp_nar .boolean 1 = 1 := by decide
theorem dt_nb0 : vp_nar .boolean 0 = 0 := by decide
theorem i_vc_make {k : Nat} {u : SX} {v : SY} (I : i_Rel k u v) (hk : k + 4 ≤ 2048) (v1 : Int32) (v2 : Int32) (v3 : Int32) : wpX_make (fun r u' => wpY_make (fun r' v' => r' = r ∧ i_Rel (k + 4) u' v') v v1 v2 v3) u v1 v2 v3 := by
  refine rl_el (P := fun u v => wpX_make (fun r u' => wpY_make (fun r' v' => r' = r ∧ i_Rel (k + 4) u' v') v v1 v2 v3) u v1 v2 v3) I ?_
  intro th od mn n t hg de pa na cl al so bl ia ik iv ho ki ta nu sp tr un yt cn vs ya ps yo wa A B F
  have R : i_Rel (k + 4) (th, od, mn, nI n, nI t, hg, de, pa, na, cl, al, so, bl, ia, ik, iv, ho, ki, ta, nu, sp, tr, un) (nI t, hg, yt, pa, na, cl, al, cn, vs, ki, ya, nu, ps, yo, wa) := rl_mk A B F
  unfold wpX_make
  rcases dt_ent th v1 with ⟨p, hp, rfl, ht⟩ | hn
  · refine xd_isEntry_t hp ht (br_f (by decide) ?_)
    by_cases a1 : v2 < 0
    · refine br_t a1 ?_
      unfold wpY_make
      exact yd_isEntry_t A.2.2.1 hp ht (br_f (by decide) (br_t a1 ⟨rfl, R⟩))
    refine br_f a1 ?_
    by_cases a2 : v2 ≤ 9
    · obtain ⟨m, hm, rfl⟩ := nI_of2 (n := 9) (by decide) a1 a2
      refine br_t a2 (xd_childOf (fun tw => br_f (nI_pos (by omega)) ?_) (fun tw => br_t dt_m1' ?_))
      · unfold wpY_make
        exact yd_isEntry_t A.2.2.1 hp ht (br_f (by decide) (br_f a1 (br_t a2 (yd_child_t A.2.2.1 hp ht (fun _ => br_f (nI_pos (by omega)) ⟨rfl, R⟩) (fun b => absurd b (by omega))))))
      · by_cases a3 : v3 < 0
        · refine br_t a3 ?_
          unfold wpY_make
          exact yd_isEntry_t A.2.2.1 hp ht (br_f (by decide) (br_f a1 (br_t a2 (yd_child_t A.2.2.1 hp ht (fun b => absurd b (by omega)) (fun _ => br_t (by decide) (br_t a3 ⟨rfl, R⟩))))))
        refine br_f a3 ?_
        by_cases a4 : v3 ≤ 3
        · obtain ⟨c, hc, rfl⟩ := nI_of2 (n := 3) (by decide) a3 a4
          have fe : dt_f (fun e => !bt th e) 24 0 = dt_f (fun e => !bt th e) 23 1 := dt_f_n (show (!bt th 0) = false from by rw [A.2.1.1]; rfl)
          obtain ⟨s1, s2, s3, _⟩ := dt_f_sp (fun e => !bt th e) 23 1
          refine br_t a4 ⟨24, xd_make_l 23 1 rfl ?_⟩
          by_cases z : dt_f (fun e => !bt th e) 23 1 = 24
          · rw [z]
            refine br_t rfl ?_
            unfold wpY_make
            exact yd_isEntry_t A.2.2.1 hp ht (br_f (by decide) (br_f a1 (br_t a2 (yd_child_t A.2.2.1 hp ht (fun b => absurd b (by omega)) (fun _ => br_t (by decide) (br_f a3 (br_t a4 (yd_firstFree A.2.2.1 (fun w => absurd w (by omega)) (fun _ => br_f (by decide) ⟨rfl, R⟩)))))))))
          · have e24 : dt_f (fun e => !bt th e) 23 1 < 24 := by omega
            have et := s3 e24
            rw [← fe] at z e24 et s1 ⊢
            generalize hge : dt_f (fun e => !bt th e) 24 0 = e at z e24 et s1
            have te : bt th e = false := by
              cases y : bt th e
              · rfl
              · rw [y] at et
                exact absurd et (by decide)
            have ce : (nI e).toNatClampNeg = e := nI_clamp (by omega)
            have ve : vp_in (nI e) 24 := vp_in_nI e24 (by decide)
            obtain ⟨A', B'⟩ := rl_make A B s1 e24 te hp ht hm (show c < 4 by omega) tw
            refine br_f (fun y => z ((nI_eq (b := 24) (by omega) (by omega)).mp y)) (nm_e ⟨ve, nm_r (e' := upd pa e (nI p)) (by rw [ce]) ⟨ve, nm_r (e' := upd na e (nI m)) (by rw [ce]) ⟨ve, nm_r (e' := upd cl e (nI c)) (by rw [ce]) ?_⟩⟩⟩)
            unfold wpY_make
            refine yd_isEntry_t A.2.2.1 hp ht (br_f (by decide) (br_f a1 (br_t a2 (yd_child_t A.2.2.1 hp ht (fun b => absurd b (by omega)) (fun _ => br_t (by decide) (br_f a3 (br_t a4 (yd_firstFree A.2.2.1 (fun w => ?_) (fun w => absurd w (by omega))))))))))
            rw [hge]
            refine br_t (nI_pos' (by omega)) ⟨ve, nm_r (e' := upd yt e 1) (by rw [ce, dt_nb1]) ⟨ve, nm_r (e' := upd pa e (nI p)) (by rw [ce]) ⟨ve, nm_r (e' := upd na e (nI m)) (by rw [ce]) ⟨ve, nm_r (e' := upd cl e (nI c)) (by rw [ce]) ⟨7, ?_⟩⟩⟩⟩⟩
            have g := @yd_make_l (nI t) hg (upd yt e 1) (upd pa e (nI p)) (upd na e (nI m)) (upd cl e (nI c)) al cn vs ki ya nu ps yo wa (fun r' v' => r' = nI e ∧ i_Rel (k + 4) (th ||| ((1 : Int32) <<< (nI e &&& 31)), 0, mn, nI n, nI t, hg, de, upd pa e (nI p), upd na e (nI m), upd cl e (nI c), al, so, bl, ia, ik, iv, ho, ki, ta, nu, sp, tr, un) v') e e24 ⟨rfl, rl_mk A' B' F⟩ 6 0 rfl
            rw [dt_zc_0] at g
            exact g
        · refine br_f a4 ?_
          unfold wpY_make
          exact yd_isEntry_t A.2.2.1 hp ht (br_f (by decide) (br_f a1 (br_t a2 (yd_child_t A.2.2.1 hp ht (fun b => absurd b (by omega)) (fun _ => br_t (by decide) (br_f a3 (br_f a4 ⟨rfl, R⟩)))))))
    · refine br_f a2 ?_
      unfold wpY_make
      exact yd_isEntry_t A.2.2.1 hp ht (br_f (by decide) (br_f a1 (br_f a2 ⟨rfl, R⟩)))
  · refine xd_isEntry_f hn (br_t rfl ?_)
    unfold wpY_make
    exact yd_isEntry_f A.2.2.1 hn (br_t rfl ⟨rfl, R⟩)
end
section
/-! the owed rows move and remove -/
theorem rl_move_T {T : Nat → Bool} {pa na cl : Nat → Int32} {e p m : Nat} (H : rl_T T pa na cl) (e0 : 0 < e) (e24 : e < 24) (te : T e = true) (p24 : p < 24) (tp : T p = true) (hin : dt_in (dt_p pa) e p = false) (m9 : m ≤ 9) (tw : ∀ f, 0 < f → f < 24 → T f = true → pa f = nI p → na f = nI m → f = e) :
    rl_T T (upd pa e (nI p)) (upd na e (nI m)) cl := by
  obtain ⟨dp, D⟩ := rl_T_dp H
  obtain ⟨h0, h1, h2, h3, h4, rk, h5⟩ := H
  refine ⟨h0, by rw [pk_un (by omega)]; exact h1, fun x x0 x24 xs => ?_, h3, fun x f x0 x24 xs f0 f24 fs q1 q2 => ?_, fun x => rk x + (if dt_in (dt_p pa) e x = true then rk p + 1 else 0), fun x x0 x24 xs => ?_⟩
  · by_cases z : x = e
    · subst z
      rw [dt_p_us (by omega), dt_p_us (by omega), pk_us, pk_us]
      exact ⟨rfl, p24, tp, rfl, m9⟩
    · rw [dt_p_un z, dt_p_un z, pk_un z, pk_un z]
      exact h2 x x0 x24 xs
  · by_cases z : x = e
    · by_cases y : f = e
      · rw [z, y]
      · rw [z, pk_us, pk_un y] at q1
        rw [z, pk_us, pk_un y] at q2
        exact absurd (tw f f0 f24 fs q1.symm q2.symm) y
    · by_cases y : f = e
      · rw [y, pk_us, pk_un z] at q1
        rw [y, pk_us, pk_un z] at q2
        exact absurd (tw x x0 x24 xs q1 q2) z
      · rw [pk_un z, pk_un y] at q1
        rw [pk_un z, pk_un y] at q2
        exact h4 x f x0 x24 xs f0 f24 fs q1 q2
  · show rk (dt_p (upd pa e (nI p)) x) + (if dt_in (dt_p pa) e (dt_p (upd pa e (nI p)) x) = true then rk p + 1 else 0) < rk x + (if dt_in (dt_p pa) e x = true then rk p + 1 else 0)
    by_cases z : x = e
    · subst z
      rw [dt_p_us (by omega), hin, dt_in_r, if_neg (by decide), if_pos rfl]
      omega
    · have k := h5 x x0 x24 xs
      rw [dt_p_un z, dt_in_s D e x0 x24 xs, beq_eq_false_iff_ne.mpr z, Bool.false_or]
      omega
theorem i_vc_move {k : Nat} {u : SX} {v : SY} (I : i_Rel k u v) (hk : k + 4 ≤ 2048) (v1 : Int32) (v2 : Int32) (v3 : Int32) : wpX_move (fun r u' => wpY_move (fun r' v' => r' = r ∧ i_Rel (k + 4) u' v') v v1 v2 v3) u v1 v2 v3 := by
  refine rl_el (P := fun u v => wpX_move (fun r u' => wpY_move (fun r' v' => r' = r ∧ i_Rel (k + 4) u' v') v v1 v2 v3) u v1 v2 v3) I ?_
  intro th od mn n t hg de pa na cl al so bl ia ik iv ho ki ta nu sp tr un yt cn vs ya ps yo wa A B F
  have R : i_Rel (k + 4) (th, od, mn, nI n, nI t, hg, de, pa, na, cl, al, so, bl, ia, ik, iv, ho, ki, ta, nu, sp, tr, un) (nI t, hg, yt, pa, na, cl, al, cn, vs, ki, ya, nu, ps, yo, wa) := rl_mk A B F
  unfold wpX_move
  rcases dt_ent th v1 with ⟨e, he, rfl, ht⟩ | hn
  · refine xd_isEntry_t he ht (br_f (by decide) ?_)
    rcases dt_ent th v2 with ⟨p, hp, rfl, tp⟩ | hn
    · refine xd_isEntry_t hp tp (br_f (by decide) (xd_findOrder A.2.1 A.2.2.2 fun so bl O => ?_))
      have A' : rl_A th 1 (nI (dt_ol (bt th) (dt_p pa) (dt_p na)).length) yt pa na cl so bl := ⟨A.1, A.2.1, A.2.2.1, Or.inr ⟨rfl, O⟩⟩
      have R' : i_Rel (k + 4) (th, 1, nI (dt_ol (bt th) (dt_p pa) (dt_p na)).length, nI n, nI t, hg, de, pa, na, cl, al, so, bl, ia, ik, iv, ho, ki, ta, nu, sp, tr, un) (nI t, hg, yt, pa, na, cl, al, cn, vs, ki, ya, nu, ps, yo, wa) := rl_mk A' B F
      by_cases z : e = 0
      · subst z
        refine br_t rfl ?_
        unfold wpY_move
        exact yd_isEntry_t A.2.2.1 he ht (br_f (by decide) (yd_isEntry_t A.2.2.1 hp tp (br_f (by decide) (br_t rfl ⟨rfl, R'⟩))))
      have z1 : ¬ nI e = 0 := nI_ne0 (by omega) (by omega)
      refine br_f z1 ?_
      by_cases y : p = e
      · refine br_t (by rw [y]) ?_
        unfold wpY_move
        exact yd_isEntry_t A.2.2.1 he ht (br_f (by decide) (yd_isEntry_t A.2.2.1 hp tp (br_f (by decide) (br_f z1 (br_t (by rw [y]) ⟨rfl, R'⟩)))))
      have y1 : ¬ nI p = nI e := fun w => y ((nI_eq (by omega) (by omega)).mp w)
      refine br_f y1 ⟨vp_in_nI he (by decide), ?_⟩
      rw [nI_clamp (by omega)]
      have Ob := O.2.2 e p he ht (by omega)
      cases b : dt_bl (dt_p pa) e p
      · have b1 : ¬ (bl e >>> (nI p &&& 31)) &&& 1 = 1 := fun w => by
          have := (Ob.mp ((dt_t (bl e) (show p < 32 from by omega)).mp w)).2.2
          rw [b] at this
          exact absurd this (by decide)
        refine br_f b1 ?_
        by_cases a1 : v3 < 0
        · refine br_t a1 ?_
          unfold wpY_move
          refine yd_isEntry_t A.2.2.1 he ht (br_f (by decide) (yd_isEntry_t A.2.2.1 hp tp (br_f (by decide) (br_f z1 (br_f y1 (yd_isBelow A.2.1 hp tp he ?_))))))
          rw [b]
          exact br_t rfl (br_t a1 ⟨rfl, R'⟩)
        refine br_f a1 ?_
        by_cases a2 : v3 ≤ 9
        · obtain ⟨m, hm, rfl⟩ := nI_of2 (n := 9) (by decide) a1 a2
          have ce : (nI e).toNatClampNeg = e := nI_clamp (by omega)
          have ve : vp_in (nI e) 24 := vp_in_nI he (by decide)
          obtain ⟨dp, D⟩ := rl_T_dp A.2.1
          have hin : dt_in (dt_p pa) e p = false := by
            rw [dt_in_bl D e hp tp, b, beq_eq_false_iff_ne.mpr y]
            rfl
          have good : (dt_c (bt th) pa na (nI p) (nI m) = 24 ∨ dt_c (bt th) pa na (nI p) (nI m) = e) → i_Rel (k + 4) (th, 0, nI (dt_ol (bt th) (dt_p pa) (dt_p na)).length, nI n, nI t, hg, de, upd pa e (nI p), upd na e (nI m), cl, al, so, bl, ia, ik, iv, ho, ki, ta, nu, sp, tr, un) (nI t, hg, yt, upd pa e (nI p), upd na e (nI m), cl, al, cn, vs, ki, ya, nu, ps, yo, wa) := fun w => by
            refine rl_mk ⟨A.1, rl_move_T A.2.1 (by omega) he ht hp tp hin hm (fun f f0 f24 fs q1 q2 => ?_), A.2.2.1, Or.inl rfl⟩ B F
            rcases w with w | w
            · exact (dt_c_no w f0 f24 fs q1 q2).elim
            · obtain ⟨c1, c2, c3, c4⟩ := dt_c_is (T := bt th) (pa := pa) (na := na) (x := nI p) (y := nI m) (by omega)
              rw [w] at c2 c3 c4
              exact A.2.1.2.2.2.2.1 f e f0 f24 fs (by omega) he c2 (q1.trans c3.symm) (q2.trans c4.symm)
          have Y : ∀ post : Int32 → SY → Prop, (dt_c (bt th) pa na (nI p) (nI m) < 24 → ((nI (dt_c (bt th) pa na (nI p) (nI m)) < 0 → wY_move_74 post (nI e) (nI p) (nI m) (nI t) hg yt pa na cl al cn vs ki ya nu ps yo wa) ∧ (¬ nI (dt_c (bt th) pa na (nI p) (nI m)) < 0 → ((nI (dt_c (bt th) pa na (nI p) (nI m)) = nI e → wY_move_74 post (nI e) (nI p) (nI m) (nI t) hg yt pa na cl al cn vs ki ya nu ps yo wa) ∧ (¬ nI (dt_c (bt th) pa na (nI p) (nI m)) = nI e → post (-4) (nI t, hg, yt, pa, na, cl, al, cn, vs, ki, ya, nu, ps, yo, wa)))))) → (dt_c (bt th) pa na (nI p) (nI m) = 24 → wY_move_74 post (nI e) (nI p) (nI m) (nI t) hg yt pa na cl al cn vs ki ya nu ps yo wa) → wpY_move post (nI t, hg, yt, pa, na, cl, al, cn, vs, ki, ya, nu, ps, yo, wa) (nI e) (nI p) (nI m) := fun post g1 g2 => by
            unfold wpY_move
            refine yd_isEntry_t A.2.2.1 he ht (br_f (by decide) (yd_isEntry_t A.2.2.1 hp tp (br_f (by decide) (br_f z1 (br_f y1 (yd_isBelow A.2.1 hp tp he ?_))))))
            rw [b]
            exact br_t rfl (br_f a1 (br_t a2 (yd_child_t A.2.2.1 hp tp (fun w => g1 w) (fun w => br_t (by decide) (g2 w)))))
          have fin : ∀ post : Int32 → SY → Prop, post 1 (nI t, hg, yt, upd pa e (nI p), upd na e (nI m), cl, al, cn, vs, ki, ya, nu, ps, yo, wa) → wY_move_74 post (nI e) (nI p) (nI m) (nI t) hg yt pa na cl al cn vs ki ya nu ps yo wa := fun post g =>
            ⟨ve, nm_r (e' := upd pa e (nI p)) (by rw [ce]) ⟨ve, nm_r (e' := upd na e (nI m)) (by rw [ce]) g⟩⟩
          refine br_t a2 (xd_childOf (fun tw => br_f (nI_pos (by omega)) (br_c (fun w => ?_) (fun w => ?_))) (fun tw => br_t dt_m1' ?_))
          · have w' := (nI_eq (by omega) (by omega)).mp w
            refine ⟨ve, nm_r (e' := upd pa e (nI p)) (by rw [ce]) ⟨ve, nm_r (e' := upd na e (nI m)) (by rw [ce]) ?_⟩⟩
            exact Y _ (fun _ => br_f (nI_pos (by omega)) (br_t w (fin _ ⟨rfl, good (Or.inr w')⟩))) (fun c => absurd c (by omega))
          · exact Y _ (fun _ => br_f (nI_pos (by omega)) (br_f w ⟨rfl, R'⟩)) (fun c => absurd c (by omega))
          · refine ⟨ve, nm_r (e' := upd pa e (nI p)) (by rw [ce]) ⟨ve, nm_r (e' := upd na e (nI m)) (by rw [ce]) ?_⟩⟩
            exact Y _ (fun c => absurd c (by omega)) (fun _ => fin _ ⟨rfl, good (Or.inl tw)⟩)
        · refine br_f a2 ?_
          unfold wpY_move
          refine yd_isEntry_t A.2.2.1 he ht (br_f (by decide) (yd_isEntry_t A.2.2.1 hp tp (br_f (by decide) (br_f z1 (br_f y1 (yd_isBelow A.2.1 hp tp he ?_))))))
          rw [b]
          exact br_t rfl (br_f a1 (br_f a2 ⟨rfl, R'⟩))
      · refine br_t ((dt_t (bl e) (show p < 32 from by omega)).mpr (Ob.mpr ⟨hp, tp, b⟩)) ?_
        unfold wpY_move
        refine yd_isEntry_t A.2.2.1 he ht (br_f (by decide) (yd_isEntry_t A.2.2.1 hp tp (br_f (by decide) (br_f z1 (br_f y1 (yd_isBelow A.2.1 hp tp he ?_))))))
        rw [b]
        exact br_f (by decide) ⟨rfl, R'⟩
    · refine xd_isEntry_f hn (br_t rfl ?_)
      unfold wpY_move
      exact yd_isEntry_t A.2.2.1 he ht (br_f (by decide) (yd_isEntry_f A.2.2.1 hn (br_t rfl ⟨rfl, R⟩)))
  · refine xd_isEntry_f hn (br_t rfl ?_)
    unfold wpY_move
    exact yd_isEntry_f A.2.2.1 hn (br_t rfl ⟨rfl, R⟩)
/-- what a sweep leaves -/
theorem rl_sweep {T : Nat → Bool} {n k : Nat} {g : Nat → Nat} {ia ik iv ho ja jk jv jo : Nat → Int32} (n576 : n ≤ 576)
    (hp : ∀ i, i < n → ia i = nI (dt_p ia i) ∧ dt_p ia i < 6 ∧ dt_ok (dt_p ia i) (iv i) = true ∧ ik i = dt_key (dt_p ia i) (iv i) ∧ ∀ b, bt (ho i) b = true → b < 24 ∧ T b = true)
    (hs : ∀ i j, i < j → j < n → dt_cd ia ik i < dt_cd ia ik j) (S : dt_SW ho k n g) (G : dt_G g k ia ik iv ho ja jk jv jo) :
    rl_IX T k ja jk jv jo ∧ ∀ e a v, (∃ j, j < k ∧ ja j = nI a ∧ jv j = v ∧ bt (jo j) e = true) ↔ ∃ i, i < n ∧ ia i = nI a ∧ iv i = v ∧ bt (ho i) e = true := by
  obtain ⟨s1, s2, s3, s4⟩ := S
  refine ⟨⟨by omega, fun j hj => ?_, fun i j hij hj => ?_⟩, fun e a v => ?_⟩
  · obtain ⟨g1, g2, g3, g4⟩ := G j hj
    obtain ⟨p1, p2, p3, p4, p5⟩ := hp (g j) (s2 j hj).1
    have e1 : dt_p ja j = dt_p ia (g j) := by unfold dt_p; rw [g1]
    rw [e1, g1, g2, g3, g4]
    exact ⟨p1, p2, p3, p4, (s2 j hj).2, p5⟩
  · have k1 := hs (g i) (g j) (s3 i j hij hj) (s2 j hj).1
    obtain ⟨g1, g2, _⟩ := G j hj
    obtain ⟨f1, f2, _⟩ := G i (by omega)
    unfold dt_cd at k1 ⊢
    rw [g1, g2, f1, f2]
    exact k1
  · constructor
    · rintro ⟨j, j1, j2, j3, j4⟩
      obtain ⟨g1, g2, g3, g4⟩ := G j j1
      rw [g1] at j2
      rw [g3] at j3
      rw [g4] at j4
      exact ⟨g j, (s2 j j1).1, j2, j3, j4⟩
    · rintro ⟨i, i1, i2, i3, i4⟩
      obtain ⟨j, j1, rfl⟩ := s4 i i1 (dt_ne0 i4)
      obtain ⟨g1, g2, g3, g4⟩ := G j j1
      exact ⟨j, j1, by rw [g1]; exact i2, by rw [g3]; exact i3, by rw [g4]; exact i4⟩
def dt_mk (g : Int32) (k : Nat) (ho : Nat → Int32) (j : Nat) : Int32 := if j < k then ho j &&& g else ho j
theorem dt_mk_0 (g : Int32) (ho : Nat → Int32) : dt_mk g 0 ho = ho := by
  funext j
  unfold dt_mk
  rw [if_neg (by omega)]
theorem dt_mk_s (g : Int32) (k : Nat) (ho : Nat → Int32) : upd (dt_mk g k ho) k (dt_mk g k ho k &&& g) = dt_mk g (k + 1) ho := by
  funext j
  by_cases b : j = k
  · rw [b, pk_us]
    unfold dt_mk
    rw [if_neg (by omega), if_pos (by omega)]
  · rw [pk_un b]
    unfold dt_mk
    by_cases a : j < k
    · rw [if_pos a, if_pos (by omega)]
    · rw [if_neg a, if_neg (by omega)]
section
variable {th od mn ix tk hg de : Int32} {pa na cl al so bl ia ik iv ho ki ta nu sp tr un : Nat → Int32}
theorem xd_remove_l {n : Nat} (n576 : n ≤ 576) {m : Int32} {post : Int32 → SX → Prop} {jo : Nat → Int32}
    (hp : ∀ (k : Nat) (g : Nat → Nat) (ja jk jv ho : Nat → Int32), dt_SW (dt_mk (m ^^^ (-1)) n jo) k n g → dt_G g k ia ik iv (dt_mk (m ^^^ (-1)) n jo) ja jk jv ho → wpX_ones (fun r => post r (th, 0, mn, nI k, tk, hg, de, pa, na, cl, al, so, bl, ja, jk, jv, ho, ki, ta, nu, sp, tr, un)) m) :
    ∀ d i, i + d = n → wX_remove_46 post m th od mn (nI n) tk hg de (d + 1) (nI i) pa na cl al so bl ia ik iv (dt_mk (m ^^^ (-1)) i jo) ki ta nu sp tr un
  | 0, i, hd => by
    have z : i = n := by omega
    subst z
    exact br_t (nI_le (Nat.le_refl _) (by omega)) (xd_sweep n576 fun k g ja jk jv ho hs hg => hp k g ja jk jv ho hs hg)
  | d + 1, i, hd => by
    have ci : (nI i).toNatClampNeg = i := nI_clamp (by omega)
    have vi : vp_in (nI i) 576 := vp_in_nI (by omega) (by decide)
    refine br_f (nI_ge (by omega) (by omega)) ⟨vi, vi, nm_r (e' := dt_mk (m ^^^ (-1)) (i + 1) jo) ?_ (nm_r (nI_1 i) (xd_remove_l n576 hp d (i + 1) (by omega)))⟩
    rw [ci, dt_mk_s]
end
def dt_rt (g : Int32) (k : Nat) (yt : Nat → Int32) (j : Nat) : Int32 := if j < k ∧ bt g j = true then 0 else yt j
theorem dt_rt_0 (g : Int32) (yt : Nat → Int32) : dt_rt g 0 yt = yt := by
  funext j
  unfold dt_rt
  rw [if_neg (by omega)]
theorem dt_rt_t {g : Int32} {k : Nat} (h : bt g k = true) (yt : Nat → Int32) : upd (dt_rt g k yt) k 0 = dt_rt g (k + 1) yt := by
  funext j
  by_cases b : j = k
  · rw [b, pk_us]
    unfold dt_rt
    rw [if_pos ⟨by omega, h⟩]
  · rw [pk_un b]
    unfold dt_rt
    by_cases a : j < k ∧ bt g j = true
    · rw [if_pos a, if_pos ⟨by omega, a.2⟩]
    · rw [if_neg a, if_neg fun w => a ⟨by omega, w.2⟩]
theorem dt_rt_f {g : Int32} {k : Nat} (h : bt g k = false) (yt : Nat → Int32) : dt_rt g k yt = dt_rt g (k + 1) yt := by
  funext j
  unfold dt_rt
  by_cases b : j = k
  · rw [b, h, if_neg (by intro w; exact absurd w.2 (by decide)), if_neg (by intro w; exact absurd w.2 (by decide))]
  · by_cases a : j < k ∧ bt g j = true
    · rw [if_pos a, if_pos ⟨by omega, a.2⟩]
    · rw [if_neg a, if_neg fun w => a ⟨by omega, w.2⟩]
section
variable {tk hg : Int32} {yt pa na cl al cn vs ki ya nu ps yo wa : Nat → Int32} {T : Nat → Bool}
theorem yd_rem68 {g : Int32} {post : Int32 → SY → Prop} (hp : post (nI (dt_n (bt g) 24)) (tk, hg, dt_rt g 24 yt, pa, na, cl, al, cn, vs, ki, ya, nu, ps, yo, wa)) : ∀ d j, j + d = 24 → wY_remove_68 post g tk hg (d + 1) (nI (dt_n (bt g) j)) (nI j) (dt_rt g j yt) pa na cl al cn vs ki ya nu ps yo wa
  | 0, j, hd => by
    have z : j = 24 := by omega
    subst z
    exact br_t (nI_le (a := 24) (b := 24) (by omega) (by decide)) hp
  | d + 1, j, hd => by
    have cj : (nI j).toNatClampNeg = j := nI_clamp (by omega)
    have ih := yd_rem68 hp d (j + 1) (by omega)
    refine br_f (nI_ge (b := 24) (by omega) (by decide)) (br_c (fun q => ?_) (fun q => ?_))
    · have q' := (dt_t g (show j < 32 from by omega)).mp q
      rw [dt_n_t q'] at ih
      refine ⟨vp_in_nI (by omega) (by decide), nm_r (e' := dt_rt g (j + 1) yt) ?_ (nm_r (nI_1 _) (nm_r (nI_1 j) ih))⟩
      rw [cj, dt_nb0, dt_rt_t q']
    · have q' : bt g j = false := dt_bf fun y => q ((dt_t g (show j < 32 from by omega)).mpr y)
      rw [dt_n_f q', ← dt_rt_f q'] at ih
      exact nm_r (nI_1 j) ih
theorem yd_rem23 (H : rl_T T pa na cl) (hY : rl_Y T yt) {e : Nat} (he : e < 24) {post : Int32 → SY → Prop}
    (hp : ∀ g : Int32, (∀ b, bt g b = true ↔ b = e ∨ (b < 24 ∧ T b = true ∧ dt_bl (dt_p pa) e b = true)) → post (nI (dt_n (bt g) 24)) (tk, hg, dt_rt g 24 yt, pa, na, cl, al, cn, vs, ki, ya, nu, ps, yo, wa)) :
    ∀ (d j : Nat) (g : Int32), j + d = 24 → (∀ b, bt g b = true ↔ b = e ∨ (b < j ∧ T b = true ∧ dt_bl (dt_p pa) e b = true)) → wY_remove_23 post (nI e) tk hg yt pa na cl al cn vs ki ya nu ps yo wa (d + 1) g (nI j)
  | 0, j, g, hd, hs => by
    have z : j = 24 := by omega
    subst z
    have w := yd_rem68 (hp g hs) 24 0 rfl
    rw [dt_rt_0] at w
    exact br_t (nI_le (a := 24) (b := 24) (by omega) (by decide)) ⟨25, w⟩
  | d + 1, j, g, hd, hs => by
    have keep : ¬ (T j = true ∧ dt_bl (dt_p pa) e j = true) → wY_remove_23 post (nI e) tk hg yt pa na cl al cn vs ki ya nu ps yo wa (d + 1) g (nI (j + 1)) := fun w =>
      yd_rem23 H hY he hp d (j + 1) g (by omega) fun b => by
        rw [hs b]
        constructor
        · rintro (x | ⟨x, y⟩)
          · exact Or.inl x
          · exact Or.inr ⟨by omega, y⟩
        · rintro (x | ⟨x, y⟩)
          · exact Or.inl x
          · rcases Nat.lt_or_ge b j with q | q
            · exact Or.inr ⟨q, y⟩
            · have z : b = j := by omega
              rw [z] at y
              exact (w y).elim
    refine br_f (nI_ge (b := 24) (by omega) (by decide)) ⟨vp_in_nI (by omega) (by decide), ?_⟩
    by_cases ht : T j = true
    · refine br_f (rl_Y1 hY (by omega) ht) (yd_isBelow H (by omega) ht he ?_)
      cases q : dt_bl (dt_p pa) e j
      · refine br_t rfl (nm_r (nI_1 j) (keep fun w => ?_))
        rw [q] at w
        exact absurd w.2 (by decide)
      · refine br_f (by decide) (nm_e (nm_r (nI_1 j) ?_))
        refine yd_rem23 H hY he hp d (j + 1) _ (by omega) fun b => ?_
        rw [b_or, Bool.or_eq_true, hs b]
        rcases Nat.lt_or_ge b 32 with z | z
        · rw [dt_sh (by omega) z, decide_eq_true_eq]
          constructor
          · rintro ((x | ⟨x, y⟩) | rfl)
            · exact Or.inl x
            · exact Or.inr ⟨by omega, y⟩
            · exact Or.inr ⟨by omega, ht, q⟩
          · rintro (x | ⟨x, y⟩)
            · exact Or.inl (Or.inl x)
            · by_cases w : b = j
              · exact Or.inr w
              · exact Or.inl (Or.inr ⟨by omega, y⟩)
        · rw [b_big (x := (1 : Int32) <<< (nI j &&& 31)) z]
          constructor
          · rintro ((x | ⟨x, y⟩) | x)
            · exact Or.inl x
            · exact Or.inr ⟨by omega, y⟩
            · exact absurd x (by decide)
          · rintro (x | ⟨x, y⟩)
            · exact Or.inl (Or.inl x)
            · omega
    · exact br_t (rl_Y0 hY (by omega) (dt_bf ht)) (nm_r (nI_1 j) (keep fun w => ht w.1))
end
end
section
/-! the owed row remove -/
theorem rl_rem_T {T S : Nat → Bool} {pa na cl : Nat → Int32} {e : Nat} (H : rl_T T pa na cl) (hS : ∀ b, b < 24 → S b = (T b && !dt_in (dt_p pa) e b)) (e0 : 0 < e) : rl_T S pa na cl := by
  obtain ⟨dp, D⟩ := rl_T_dp H
  obtain ⟨h0, h1, h2, h3, h4, rk, h5⟩ := H
  have ST : ∀ b, b < 24 → S b = true → T b = true ∧ dt_in (dt_p pa) e b = false := fun b hb w => by
    rw [hS b hb, Bool.and_eq_true, Bool.not_eq_true'] at w
    exact w
  refine ⟨?_, h1, fun x x0 x24 xs => ?_, fun x x24 xs => h3 x x24 (ST x x24 xs).1, fun x f x0 x24 xs f0 f24 fs => h4 x f x0 x24 (ST x x24 xs).1 f0 f24 (ST f f24 fs).1, rk, fun x x0 x24 xs => h5 x x0 x24 (ST x x24 xs).1⟩
  · rw [hS 0 (by omega), h0, dt_in_0 D, beq_eq_false_iff_ne.mpr (by omega)]
    rfl
  · obtain ⟨t1, t2⟩ := ST x x24 xs
    obtain ⟨k1, k2, k3, k4, k5⟩ := h2 x x0 x24 t1
    refine ⟨k1, k2, ?_, k4, k5⟩
    rw [dt_in_s D e x0 x24 t1, Bool.or_eq_false_iff] at t2
    rw [hS _ k2, k3, t2.2]
    rfl
theorem i_vc_remove {k : Nat} {u : SX} {v : SY} (I : i_Rel k u v) (hk : k + 4 ≤ 2048) (v1 : Int32) : wpX_remove (fun r u' => wpY_remove (fun r' v' => r' = r ∧ i_Rel (k + 4) u' v') v v1) u v1 := by
  refine rl_el (P := fun u v => wpX_remove (fun r u' => wpY_remove (fun r' v' => r' = r ∧ i_Rel (k + 4) u' v') v v1) u v1) I ?_
  intro th od mn n t hg de pa na cl al so bl ia ik iv ho ki ta nu sp tr un yt cn vs ya ps yo wa A B F
  have R : i_Rel (k + 4) (th, od, mn, nI n, nI t, hg, de, pa, na, cl, al, so, bl, ia, ik, iv, ho, ki, ta, nu, sp, tr, un) (nI t, hg, yt, pa, na, cl, al, cn, vs, ki, ya, nu, ps, yo, wa) := rl_mk A B F
  unfold wpX_remove
  rcases dt_ent th v1 with ⟨e, he, rfl, ht⟩ | hn
  · refine xd_isEntry_t he ht (br_f (by decide) ?_)
    by_cases z : e = 0
    · subst z
      refine br_t rfl ?_
      unfold wpY_remove
      exact yd_isEntry_t A.2.2.1 he ht (br_f (by decide) (br_t rfl ⟨rfl, R⟩))
    have z1 : ¬ nI e = 0 := nI_ne0 (by omega) (by omega)
    refine br_f z1 (xd_findOrder A.2.1 A.2.2.2 fun so bl O => ⟨vp_in_nI he (by decide), ?_⟩)
    rw [nI_clamp (by omega)]
    obtain ⟨dp, D⟩ := rl_T_dp A.2.1
    refine nm_e (nm_e ?_)
    have hg1 : ∀ b, bt (bl e ||| ((1 : Int32) <<< (nI e &&& 31))) b = true ↔ b = e ∨ (b < 24 ∧ bt th b = true ∧ dt_bl (dt_p pa) e b = true) := fun b => by
      rw [b_or, Bool.or_eq_true]
      rcases Nat.lt_or_ge b 32 with y | y
      · rw [dt_sh (by omega) y, decide_eq_true_eq, O.2.2 e b he ht y]
        exact ⟨fun w => w.elim Or.inr Or.inl, fun w => w.elim Or.inr Or.inl⟩
      · rw [b_big y, b_big y]
        refine ⟨fun w => absurd w (by decide), fun w => ?_⟩
        rcases w with w | w
        · omega
        · omega
    generalize bl e ||| ((1 : Int32) <<< (nI e &&& 31)) = gone at hg1
    have Sg : dt_S gone := fun i hi => dt_bf fun y => by
      rcases (hg1 i).mp y with w | w
      · omega
      · omega
    have gi : ∀ b, b < 24 → bt th b = true → bt gone b = dt_in (dt_p pa) e b := fun b hb tb => by
      rw [Bool.eq_iff_iff, hg1 b, dt_in_bl D e hb tb, Bool.or_eq_true, beq_iff_eq]
      exact ⟨fun w => w.elim Or.inl (fun y => Or.inr y.2.2), fun w => w.elim Or.inl (fun y => Or.inr ⟨hb, tb, y⟩)⟩
    have hS : ∀ b, b < 24 → bt (th &&& (gone ^^^ (-1))) b = (bt th b && !dt_in (dt_p pa) e b) := fun b hb => by
      rw [b_and, dt_nt gone (by omega)]
      cases y : bt th b
      · rfl
      · rw [gi b hb y]
    have ST : ∀ b, b < 24 → bt (th &&& (gone ^^^ (-1))) b = true → bt th b = true ∧ bt gone b = false := fun b hb w => by
      rw [b_and, dt_nt gone (by omega), Bool.and_eq_true, Bool.not_eq_true'] at w
      exact w
    have A2 : rl_A (th &&& (gone ^^^ (-1))) 0 (nI (dt_ol (bt th) (dt_p pa) (dt_p na)).length) (dt_rt gone 24 yt) pa na cl so bl := by
      refine ⟨dt_S_andl A.1, rl_rem_T A.2.1 hS (by omega), fun b hb => ?_, Or.inl rfl⟩
      unfold dt_rt
      rw [b_and, dt_nt gone (by omega)]
      cases y : bt gone b
      · rw [if_neg (by intro w; exact absurd w.2 (by decide)), Bool.not_false, Bool.and_true]
        exact A.2.2.1 b hb
      · rw [if_pos ⟨hb, rfl⟩, Bool.not_true, Bool.and_false, if_neg (by decide)]
    have g0 : ∃ n46 : Nat, wX_remove_46 (fun r u' => wpY_remove (fun r' v' => r' = r ∧ i_Rel (k + 4) u' v') (nI t, hg, yt, pa, na, cl, al, cn, vs, ki, ya, nu, ps, yo, wa) (nI e)) gone (th &&& (gone ^^^ (-1))) 1 (nI (dt_ol (bt th) (dt_p pa) (dt_p na)).length) (nI n) (nI t) hg de n46 (nI 0) pa na cl al so bl ia ik iv (dt_mk (gone ^^^ (-1)) 0 ho) ki ta nu sp tr un := by
      refine ⟨n + 1, xd_remove_l B.1.1 (fun q g ja jk jv jo hs hG => xd_ones Sg ?_) n 0 (Nat.zero_add n)⟩
      obtain ⟨X1, X2⟩ := rl_sweep (T := bt (th &&& (gone ^^^ (-1)))) (ik := ik) B.1.1 (fun i hi => by
        obtain ⟨k1, k2, k3, k4, k5, k6⟩ := B.1.2.1 i hi
        refine ⟨k1, k2, k3, k4, fun b hb => ?_⟩
        unfold dt_mk at hb
        rw [if_pos hi, b_and, Bool.and_eq_true] at hb
        have k7 := k6 b hb.1
        refine ⟨k7.1, ?_⟩
        rw [b_and, k7.2, hb.2]
        rfl) B.1.2.2 hs hG
      have B2 : rl_B (th &&& (gone ^^^ (-1))) q ja jk jv jo cn vs := by
        refine ⟨X1, fun x a w hx hxs ha => ?_, fun x a hx hxs ha => B.2.2 x a hx (ST x hx hxs).1 ha⟩
        rw [X2 x a w, ← B.2.1 x a w hx (ST x hx hxs).1 ha]
        have hm : ∀ i, i < n → (bt (dt_mk (gone ^^^ (-1)) n ho i) x = true ↔ bt (ho i) x = true) := fun i hi => by
          unfold dt_mk
          rw [if_pos hi, b_and, dt_nt gone (by omega), (ST x hx hxs).2, Bool.not_false, Bool.and_true]
        constructor
        · rintro ⟨i, i1, i2, i3, i4⟩
          exact ⟨i, i1, i2, i3, (hm i i1).mp i4⟩
        · rintro ⟨i, i1, i2, i3, i4⟩
          exact ⟨i, i1, i2, i3, (hm i i1).mpr i4⟩
      unfold wpY_remove
      refine yd_isEntry_t A.2.2.1 he ht (br_f (by decide) (br_f z1 (nm_e ⟨25, yd_rem23 A.2.1 A.2.2.1 he (fun g hg2 => ?_) 24 0 _ rfl fun b => ?_⟩)))
      · have eg : g = gone := b_ext fun i _ => by rw [Bool.eq_iff_iff, hg2 i, hg1 i]
        rw [eg]
        exact ⟨rfl, rl_mk A2 B2 F⟩
      · rcases Nat.lt_or_ge b 32 with y | y
        · rw [dt_sh (by omega) y, decide_eq_true_eq]
          exact ⟨Or.inl, fun w => w.elim id (fun x => absurd x.1 (by omega))⟩
        · rw [b_big y]
          refine ⟨fun w => absurd w (by decide), fun w => ?_⟩
          rcases w with w | w
          · omega
          · omega
    rw [dt_mk_0] at g0
    exact g0
  · refine xd_isEntry_f hn (br_t rfl ?_)
    unfold wpY_remove
    exact yd_isEntry_f A.2.2.1 hn (br_t rfl ⟨rfl, R⟩)
end
section
/-! double counting; the owed row different -/
def dt_sm (f : Nat → Nat) : Nat → Nat
  | 0 => 0
  | k + 1 => dt_sm f k + f k
theorem dt_sm_cg {f g : Nat → Nat} : ∀ {k : Nat}, (∀ i, i < k → f i = g i) → dt_sm f k = dt_sm g k
  | 0, _ => rfl
  | k + 1, h => by
    show dt_sm f k + f k = dt_sm g k + g k
    rw [dt_sm_cg (k := k) fun i hi => h i (by omega), h k (by omega)]
theorem dt_sm_0 : ∀ k, dt_sm (fun _ => 0) k = 0
  | 0 => rfl
  | k + 1 => dt_sm_0 k
theorem dt_sm_add (f g : Nat → Nat) : ∀ k, dt_sm (fun i => f i + g i) k = dt_sm f k + dt_sm g k
  | 0 => rfl
  | k + 1 => by
    show dt_sm (fun i => f i + g i) k + (f k + g k) = dt_sm f k + f k + (dt_sm g k + g k)
    rw [dt_sm_add f g k]
    omega
theorem dt_sm_n (q : Nat → Bool) : ∀ k, dt_sm (fun i => if q i = true then 1 else 0) k = dt_n q k
  | 0 => rfl
  | k + 1 => by
    show dt_sm (fun i => if q i = true then 1 else 0) k + _ = dt_n q k + _
    rw [dt_sm_n q k]
theorem dt_dc (q : Nat → Nat → Bool) (n : Nat) : ∀ m, dt_sm (fun s => dt_n (q s) n) m = dt_sm (fun i => dt_n (fun s => q s i) m) n
  | 0 => (dt_sm_0 n).symm
  | m + 1 => by
    show dt_sm (fun s => dt_n (q s) n) m + dt_n (q m) n = _
    rw [dt_dc q n m, ← dt_sm_n (q m) n, ← dt_sm_add]
    rfl
theorem dt_sm_le {f g : Nat → Nat} : ∀ {k : Nat}, (∀ i, i < k → f i ≤ g i) → dt_sm f k ≤ dt_sm g k
  | 0, _ => Nat.le_refl _
  | k + 1, h => by
    have a := dt_sm_le (k := k) fun i hi => h i (by omega)
    have b := h k (by omega)
    show dt_sm f k + f k ≤ dt_sm g k + g k
    omega
theorem dt_sm_1 : ∀ k, dt_sm (fun _ => 1) k = k
  | 0 => rfl
  | k + 1 => by
    show dt_sm (fun _ => 1) k + 1 = k + 1
    rw [dt_sm_1 k]
theorem dt_sm_4 {f : Nat → Nat} {s : Nat} : ∀ {m : Nat}, (∀ i, i < m → f i ≤ 4) → (s < m → f s ≤ 3 → dt_sm f m + 1 ≤ 4 * m) ∧ dt_sm f m ≤ 4 * m
  | 0, _ => ⟨fun h => absurd h (by omega), Nat.le_refl _⟩
  | m + 1, h => by
    obtain ⟨a, b⟩ := dt_sm_4 (s := s) (m := m) fun i hi => h i (by omega)
    have c := h m (by omega)
    show (s < m + 1 → f s ≤ 3 → dt_sm f m + f m + 1 ≤ 4 * (m + 1)) ∧ dt_sm f m + f m ≤ 4 * (m + 1)
    refine ⟨fun h1 h2 => ?_, by omega⟩
    by_cases z : s = m
    · rw [← z] at c ⊢
      rw [← z] at b
      omega
    · have := a (by omega) h2
      omega
theorem dt_n_4 (q : Nat → Bool) : ∀ e, dt_n q (4 * e) = dt_sm (fun x => dt_n (fun j => q (4 * x + j)) 4) e
  | 0 => rfl
  | e + 1 => by
    have w : dt_n q (4 * (e + 1)) = dt_n q (4 * e) + (if q (4 * e + 0) = true then 1 else 0) + (if q (4 * e + 1) = true then 1 else 0) + (if q (4 * e + 2) = true then 1 else 0) + (if q (4 * e + 3) = true then 1 else 0) := rfl
    rw [w, dt_n_4 q e]
    show _ = dt_sm (fun x => dt_n (fun j => q (4 * x + j)) 4) e + (0 + (if q (4 * e + 0) = true then 1 else 0) + (if q (4 * e + 1) = true then 1 else 0) + (if q (4 * e + 2) = true then 1 else 0) + (if q (4 * e + 3) = true then 1 else 0))
    omega
/-- room for a new place -/
theorem dt_room {T : Nat → Bool} {n : Nat} {ia ik iv ho cn vs : Nat → Int32} (h : rl_IX T n ia ik iv ho) (hM : rl_IM T n ia iv ho cn vs) (hI : rl_IY T cn vs) {e a : Nat} (he : e < 24) (ht : T e = true) (ha : a < 6) (c3 : dt_p cn (6 * e + a) ≤ 3) : n < 576 := by
  have d := dt_dc (fun s i => dt_h ia ho (s % 6) (s / 6) i) n 144
  have l : dt_sm (fun _ => 1) n ≤ dt_sm (fun i => dt_n (fun s => dt_h ia ho (s % 6) (s / 6) i) 144) n := dt_sm_le fun i hi => by
    obtain ⟨k1, k2, _, _, k5, k6⟩ := h.2.1 i hi
    have S : dt_S (ho i) := fun b hb => dt_bf fun y => by have := (k6 b y).1; omega
    obtain ⟨b, b1, b2⟩ := dt_S_ne S k5
    have := dt_n_pos (q := fun s => dt_h ia ho (s % 6) (s / 6) i) (k := 144) (i := 6 * b + dt_p ia i) (by omega) (by
      show dt_h ia ho ((6 * b + dt_p ia i) % 6) ((6 * b + dt_p ia i) / 6) i = true
      rw [show (6 * b + dt_p ia i) % 6 = dt_p ia i from by omega, show (6 * b + dt_p ia i) / 6 = b from by omega]
      exact dt_h_i.mpr ⟨k1, b2⟩)
    omega
  rw [dt_sm_1, ← d] at l
  have cs : ∀ s, s < 144 → T (s / 6) = true → dt_n (dt_h ia ho (s % 6) (s / 6)) n = dt_p cn s := fun s hs w => by
    rw [dt_cX h hM hI (by omega) w (by omega), show 6 * (s / 6) + s % 6 = s from by omega]
  have u := (dt_sm_4 (f := fun s => dt_n (fun i => dt_h ia ho (s % 6) (s / 6) i) n) (s := 6 * e + a) (m := 144) fun s hs => by
    show dt_n (dt_h ia ho (s % 6) (s / 6)) n ≤ 4
    by_cases w : T (s / 6) = true
    · rw [cs s hs w]
      have := (hI (s / 6) (s % 6) (by omega) w (by omega)).2.1
      rw [show 6 * (s / 6) + s % 6 = s from by omega] at this
      exact this
    · rw [dt_n_0 fun i hi => dt_bf fun y => w ((h.2.1 i hi).2.2.2.2.2 _ (dt_h_i.mp y).2).2]
      omega).1 (by omega) (by
    show dt_n (dt_h ia ho ((6 * e + a) % 6) ((6 * e + a) / 6)) n ≤ 3
    rw [cs (6 * e + a) (by omega) (by rw [show (6 * e + a) / 6 = e from by omega]; exact ht)]
    exact c3)
  omega
/-- nobody ahead of e has the value -/
def dt_hs (T : Nat → Bool) (cn vs : Nat → Int32) (a : Nat) (v : Int32) (x : Nat) : Bool := T x && dt_any (fun k => vs (4 * (6 * x + a) + k) == v) (dt_p cn (6 * x + a))
def dt_fs (T : Nat → Bool) (cn vs : Nat → Int32) (a e : Nat) (v : Int32) : Bool := decide (dt_f (dt_hs T cn vs a v) e 0 = e)
def dt_fr' (T : Nat → Bool) (cn vs : Nat → Int32) (a p : Nat) : Bool := (T (p / 4) && decide (p % 4 < dt_p cn (6 * (p / 4) + a))) && dt_fs T cn vs a (p / 4) (vs (4 * (6 * (p / 4) + a) + p % 4))
theorem dt_fs_i {T : Nat → Bool} {cn vs : Nat → Int32} {a e : Nat} {v : Int32} : dt_fs T cn vs a e v = true ↔ ∀ x, x < e → T x = true → ∀ k, k < dt_p cn (6 * x + a) → vs (4 * (6 * x + a) + k) ≠ v := by
  unfold dt_fs
  rw [decide_eq_true_eq]
  obtain ⟨_, s2, s3, s4⟩ := dt_f_sp (dt_hs T cn vs a v) e 0
  constructor
  · intro z x hx tx k hk w
    have := s4 x (by omega) (by omega)
    unfold dt_hs at this
    rw [tx, Bool.true_and, dt_any_i.mpr ⟨k, hk, by rw [w]; exact beq_self_eq_true _⟩] at this
    exact absurd this (by decide)
  · intro z
    apply Classical.byContradiction
    intro w
    have lt : dt_f (dt_hs T cn vs a v) e 0 < e := by omega
    have hb := s3 (by omega)
    generalize dt_f (dt_hs T cn vs a v) e 0 = r at lt hb
    unfold dt_hs at hb
    rw [Bool.and_eq_true, dt_any_i] at hb
    obtain ⟨t1, k, k1, k2⟩ := hb
    exact z r lt t1 k k1 (eq_of_beq k2)
theorem dt_diff {T : Nat → Bool} {n : Nat} {ia ik iv ho cn vs : Nat → Int32} (h : rl_IX T n ia ik iv ho) (hM : rl_IM T n ia iv ho cn vs) (hI : rl_IY T cn vs) {a : Nat} (ha : a < 6) : dt_n (fun j => ia j == nI a) n = dt_n (dt_fr' T cn vs a) 96 := by
  have d := dt_dc (fun e i => dt_h ia ho a e i && dt_f (bt (ho i)) e 0 == e) n 24
  have l : dt_n (fun j => ia j == nI a) n = dt_sm (fun i => dt_n (fun e => dt_h ia ho a e i && dt_f (bt (ho i)) e 0 == e) 24) n := by
    rw [← dt_sm_n]
    refine dt_sm_cg fun i hi => ?_
    obtain ⟨_, _, _, _, k5, k6⟩ := h.2.1 i hi
    by_cases z : ia i = nI a
    · rw [if_pos (by rw [z]; exact beq_self_eq_true _)]
      have S : dt_S (ho i) := fun b hb => dt_bf fun y => by have := (k6 b y).1; omega
      obtain ⟨b, b1, b2⟩ := dt_S_ne S k5
      obtain ⟨s1, s2, s3, s4⟩ := dt_f_sp (bt (ho i)) 24 0
      have lt : dt_f (bt (ho i)) 24 0 < 24 := by
        apply Classical.byContradiction
        intro y
        have := s4 b (by omega) (by omega)
        rw [b2] at this
        exact absurd this (by decide)
      have lb := s3 lt
      generalize dt_f (bt (ho i)) 24 0 = m at lt lb s4
      have is : ∀ e, e < 24 → ((dt_h ia ho a e i && dt_f (bt (ho i)) e 0 == e) = true ↔ e = m) := fun e he => by
        rw [Bool.and_eq_true, dt_h_i, beq_iff_eq]
        obtain ⟨_, r2, r3, r4⟩ := dt_f_sp (bt (ho i)) e 0
        constructor
        · rintro ⟨⟨_, y1⟩, y2⟩
          rcases Nat.lt_trichotomy e m with w | w | w
          · have := s4 e (by omega) w
            rw [y1] at this
            exact absurd this (by decide)
          · exact w
          · have := r4 m (by omega) (by omega)
            rw [lb] at this
            exact absurd this (by decide)
        · intro y
          subst y
          refine ⟨⟨z, lb⟩, ?_⟩
          have := dt_f_no (q := bt (ho i)) (d := e) (i := 0) fun j j1 j2 => s4 j j1 (by omega)
          omega
      have c1 : ∀ k, k ≤ 24 → dt_n (fun e => dt_h ia ho a e i && dt_f (bt (ho i)) e 0 == e) k = if m < k then 1 else 0 := by
        intro k
        induction k with
        | zero => intro _; rfl
        | succ k ih =>
          intro hk
          have ih' := ih (by omega)
          by_cases w : k = m
          · rw [dt_n_t ((is k (by omega)).mpr w), ih', if_neg (by omega), if_pos (by omega)]
          · rw [dt_n_f (dt_bf fun y => w ((is k (by omega)).mp y)), ih']
            by_cases x : m < k
            · rw [if_pos x, if_pos (by omega)]
            · rw [if_neg x, if_neg (by omega)]
      rw [c1 24 (Nat.le_refl _), if_pos lt]
    · rw [if_neg (by rw [beq_iff_eq]; exact z)]
      refine (dt_n_0 fun e _ => ?_).symm
      unfold dt_h
      rw [beq_eq_false_iff_ne.mpr z, Bool.false_and, Bool.false_and]
  rw [l, ← d, show (96 : Nat) = 4 * 24 from rfl, dt_n_4]
  refine dt_sm_cg fun e he => ?_
  by_cases ht : T e = true
  · obtain ⟨_, c4, _⟩ := hI e a he ht ha
    have L := congrArg (fun z : List Int32 => z.countP (dt_fs T cn vs a e)) (dt_lists h hM hI he ht ha)
    have L' : (((List.range n).filter (dt_h ia ho a e)).map iv).countP (dt_fs T cn vs a e) = ((List.range (dt_p cn (6 * e + a))).map (fun k => vs (4 * (6 * e + a) + k))).countP (dt_fs T cn vs a e) := L
    rw [List.countP_map, List.countP_filter, dt_rg, List.countP_map, dt_rg] at L'
    have e1 : dt_n (fun i => dt_h ia ho a e i && dt_f (bt (ho i)) e 0 == e) n = dt_n (fun i => (dt_fs T cn vs a e ∘ iv) i && dt_h ia ho a e i) n := dt_n_cg fun i hi => by
      rw [Bool.eq_iff_iff, Bool.and_eq_true, Bool.and_eq_true, beq_iff_eq]
      have key : dt_h ia ho a e i = true → (dt_f (bt (ho i)) e 0 = e ↔ dt_fs T cn vs a e (iv i) = true) := fun q => by
        have q1 := (dt_h_i.mp q).1
        obtain ⟨_, r2, r3, r4⟩ := dt_f_sp (bt (ho i)) e 0
        rw [dt_fs_i]
        constructor
        · intro y x hx tx k hk w
          obtain ⟨i', j1, j2, j3, j4⟩ := (hM x a (iv i) (by omega) tx ha).mpr ⟨k, hk, w⟩
          have ii : i' = i := by
            obtain ⟨_, _, p3, _⟩ := rl_IX_p h j1
            obtain ⟨_, _, p3', _⟩ := rl_IX_p h hi
            have ea := (rl_IX_e h j1 ha).mp j2
            have eb := (rl_IX_e h hi ha).mp q1
            have cdq : dt_cd ia ik i' = dt_cd ia ik i := by
              rw [p3, p3', ea, eb, (h.2.1 i' j1).2.2.2.1, (h.2.1 i hi).2.2.2.1, ea, eb, j3]
            rcases Nat.lt_trichotomy i' i with w | w | w
            · have := h.2.2 i' i w hi
              omega
            · exact w
            · have := h.2.2 i i' w j1
              omega
          rw [ii] at j4
          have := r4 x (by omega) (by omega)
          rw [j4] at this
          exact absurd this (by decide)
        · intro y
          have := dt_f_no (q := bt (ho i)) (d := e) (i := 0) fun j j1 j2 => dt_bf fun w => by
            have tj := ((h.2.1 i hi).2.2.2.2.2 j w).2
            obtain ⟨k, k1, k2⟩ := (hM j a (iv i) (by omega) tj ha).mp ⟨i, hi, q1, rfl, w⟩
            exact y j (by omega) tj k k1 k2
          omega
      constructor
      · rintro ⟨x, y⟩
        exact ⟨(key x).mp y, x⟩
      · rintro ⟨x, y⟩
        exact ⟨y, (key y).mpr x⟩
    rw [e1, L']
    have e2 : dt_n (fun j => dt_fr' T cn vs a (4 * e + j)) (dt_p cn (6 * e + a) + (4 - dt_p cn (6 * e + a))) = dt_n (fun j => dt_fr' T cn vs a (4 * e + j)) (dt_p cn (6 * e + a)) := dt_n_up _ fun i x y => by
      show dt_fr' T cn vs a (4 * e + i) = false
      unfold dt_fr'
      rw [show (4 * e + i) / 4 = e from by omega, show (4 * e + i) % 4 = i from by omega, decide_eq_false (by omega), Bool.and_false, Bool.false_and]
    rw [show dt_p cn (6 * e + a) + (4 - dt_p cn (6 * e + a)) = 4 from by omega] at e2
    rw [e2]
    refine dt_n_cg fun i hi => ?_
    show dt_fs T cn vs a e (vs (4 * (6 * e + a) + i)) = dt_fr' T cn vs a (4 * e + i)
    unfold dt_fr'
    rw [show (4 * e + i) / 4 = e from by omega, show (4 * e + i) % 4 = i from by omega, decide_eq_true hi, ht, Bool.and_self, Bool.true_and]
  · rw [dt_n_0 fun i hi => ?_, dt_n_0 fun j hj => ?_]
    · show dt_fr' T cn vs a (4 * e + j) = false
      unfold dt_fr'
      rw [show (4 * e + j) / 4 = e from by omega, dt_bf ht, Bool.false_and, Bool.false_and]
    · refine dt_bf fun y => ?_
      rw [Bool.and_eq_true, dt_h_i] at y
      exact ht ((h.2.1 i hi).2.2.2.2.2 e y.1.2).2
section
variable {tk hg : Int32} {yt pa na cl al cn vs ki ya nu ps yo wa : Nat → Int32} {T : Nat → Bool}
theorem dt_4 : ¬ (4 : Int32) = 0 := by decide
theorem yd_diff80 (hY : rl_Y T yt) (hI : rl_IY T cn vs) {a p c : Nat} {v : Int32} (ha : a < 6) (hp : p < 96) {post : Int32 → Prop} {J : Int32 → Int32 → Prop} :
    ∀ (d j : Nat) (b : Bool), j + d = p / 4 → J (nI (if (b && decide (dt_f (dt_hs T cn vs a v) d j = p / 4)) = true then c + 1 else c)) (nI (p + 1)) → wY_different_80 post J (nI a) (nI c) (nI p) v tk hg yt pa na cl al cn vs ki ya nu ps yo wa (d + 1) (dt_i b) (nI j) := by
  have e4 : nI p / 4 = nI (p / 4) := pk_div (d := 4) (by omega) (by omega) (by omega)
  have fin : ∀ b : Bool, J (nI (if b = true then c + 1 else c)) (nI (p + 1)) → wY_different_128 post J (nI a) (nI c) (nI p) (dt_i b) tk hg yt pa na cl al cn vs ki ya nu ps yo wa := fun b g => by
    cases b
    · exact br_t rfl (nm_r (nI_1 p) g)
    · exact br_f (by decide) (nm_r (nI_1 c) (nm_r (nI_1 p) g))
  intro d
  induction d with
  | zero =>
    intro j b hj g
    refine ⟨dt_4, br_t ?_ (fin b ?_)⟩
    · rw [e4]
      exact nI_le (by omega) (by omega)
    · rw [show (b && decide (dt_f (dt_hs T cn vs a v) 0 j = p / 4)) = b from by
        rw [show dt_f (dt_hs T cn vs a v) 0 j = j from rfl, decide_eq_true (by omega), Bool.and_true]] at g
      exact g
  | succ d ih =>
    intro j b hj g
    refine ⟨dt_4, br_f ?_ ?_⟩
    · rw [e4]
      exact nI_ge (by omega) (by omega)
    cases b
    · exact br_t rfl (fin false g)
    · refine br_f (by decide) ⟨vp_in_nI (by omega) (by decide), ?_⟩
      have no : dt_hs T cn vs a v j = false → wY_different_80 post J (nI a) (nI c) (nI p) v tk hg yt pa na cl al cn vs ki ya nu ps yo wa (d + 1) 1 (nI (j + 1)) := fun w => by
        rw [dt_f_n w] at g
        exact ih (j + 1) true (by omega) g
      by_cases ht : T j = true
      · obtain ⟨i1, i2, _⟩ := hI j a (by omega) ht ha
        refine br_f (rl_Y1 hY (by omega) ht) (yd_placeOf (by omega) ha i1 i2 (fun k k1 k2 => ?_) (fun w => ?_))
        · refine br_t (nI_pos' (by omega)) (nm_r (nI_1 j) (ih (j + 1) false (by omega) ?_))
          have q : dt_hs T cn vs a v j = true := by
            unfold dt_hs
            rw [ht, Bool.true_and, dt_any_i]
            exact ⟨k, k1, by rw [k2]; exact beq_self_eq_true _⟩
          rw [dt_f_p q, decide_eq_false (by omega)] at g
          exact g
        · refine br_f (by decide) (nm_r (nI_1 j) (no ?_))
          refine dt_bf fun y => ?_
          unfold dt_hs at y
          rw [Bool.and_eq_true, dt_any_i] at y
          obtain ⟨_, k, k1, k2⟩ := y
          exact w k k1 (eq_of_beq k2)
      · refine br_t (rl_Y0 hY (by omega) (dt_bf ht)) (nm_r (nI_1 j) (no ?_))
        unfold dt_hs
        rw [dt_bf ht, Bool.false_and]
theorem yd_diff15 (hY : rl_Y T yt) (hI : rl_IY T cn vs) {a : Nat} (ha : a < 6) {post : Int32 → Prop} (hp : post (nI (dt_n (dt_fr' T cn vs a) 96))) :
    ∀ d p, p + d = 96 → wY_different_15 post (nI a) tk hg yt pa na cl al cn vs ki ya nu ps yo wa (d + 1) (nI (dt_n (dt_fr' T cn vs a) p)) (nI p)
  | 0, p, hd => by
    have z : p = 96 := by omega
    subst z
    exact br_t (nI_le (a := 96) (b := 96) (by omega) (by decide)) hp
  | d + 1, p, hd => by
    have e4 : nI p / 4 = nI (p / 4) := pk_div (d := 4) (by omega) (by omega) (by omega)
    have r4 : nI p - nI (p / 4) * 4 = nI (p % 4) := by rw [← e4]; exact pk_rem (d := 4) (by omega) (by omega) (by omega)
    have ih := yd_diff15 hY hI ha hp d (p + 1) (by omega)
    have v4 : vp_in (nI (p / 4)) 24 := vp_in_nI (by omega) (by decide)
    have es : (6 : Int32) * nI (p / 4) + nI a = nI (6 * (p / 4) + a) := dt_sl1
    have d60 : ∀ b : Bool, (T (p / 4) && decide (p % 4 < dt_p cn (6 * (p / 4) + a))) = b → wY_different_60 post (wY_different_15 post (nI a) tk hg yt pa na cl al cn vs ki ya nu ps yo wa (d + 1)) (nI a) (nI (dt_n (dt_fr' T cn vs a) p)) (nI p) (nI (6 * (p / 4) + a)) (dt_i b) tk hg yt pa na cl al cn vs ki ya nu ps yo wa := fun b hb => by
      refine ⟨dt_4, ?_⟩
      rw [e4, r4, dt_sl2, nI_clamp (by omega)]
      refine ⟨vp_in_nI (by omega) (by decide), nm_e ⟨_, yd_diff80 hY hI ha (by omega) (p / 4) 0 b (Nat.zero_add _) ?_⟩⟩
      have fe : (b && decide (dt_f (dt_hs T cn vs a (vs (4 * (6 * (p / 4) + a) + p % 4))) (p / 4) 0 = p / 4)) = dt_fr' T cn vs a p := by
        unfold dt_fr' dt_fs
        rw [hb]
      rw [fe]
      cases q : dt_fr' T cn vs a p
      · rw [dt_n_f q] at ih
        rw [if_neg (by decide)]
        exact ih
      · rw [dt_n_t q] at ih
        rw [if_pos rfl]
        exact ih
    refine br_f (nI_ge (b := 96) (by omega) (by decide)) ⟨dt_4, ?_⟩
    rw [e4, r4]
    refine nm_r es ⟨dt_4, v4, ?_⟩
    by_cases ht : T (p / 4) = true
    · obtain ⟨i1, i2, _⟩ := hI (p / 4) a (by omega) ht ha
      refine br_f (rl_Y1 hY (by omega) ht) ⟨dt_4, vp_in_nI (by omega) (by decide), ?_⟩
      rw [nI_clamp (n := 6 * (p / 4) + a) (by omega), i1]
      refine pk_le (dt_p cn (6 * (p / 4) + a)) (p % 4) (fun y => ?_) (fun y => ?_)
      · exact d60 false (by rw [decide_eq_false (by omega), Bool.and_false])
      · exact d60 true (by rw [decide_eq_true y, ht]; rfl)
    · exact br_t (rl_Y0 hY (by omega) (dt_bf ht)) (d60 false (by rw [dt_bf ht, Bool.false_and]))
end
theorem i_vc_different {k : Nat} {u : SX} {v : SY} (I : i_Rel k u v) (hk : k + 4 ≤ 2048) (v1 : Int32) : wpX_different (fun r => wpY_different (fun r' => r' = r ∧ i_Rel (k + 4) u v) v v1) u v1 := by
  refine rl_el (P := fun u v => wpX_different (fun r => wpY_different (fun r' => r' = r ∧ i_Rel (k + 4) u v) v v1) u v1) I ?_
  intro th od mn n t hg de pa na cl al so bl ia ik iv ho ki ta nu sp tr un yt cn vs ya ps yo wa A B F
  have R : i_Rel (k + 4) (th, od, mn, nI n, nI t, hg, de, pa, na, cl, al, so, bl, ia, ik, iv, ho, ki, ta, nu, sp, tr, un) (nI t, hg, yt, pa, na, cl, al, cn, vs, ki, ya, nu, ps, yo, wa) := rl_mk A B F
  unfold wpX_different
  rcases dt_att v1 with ⟨a, ha, rfl⟩ | hna
  · refine xd_isAttribute_t ha (br_f (by decide) ⟨n + 1, xd_different_l B.1.1 ?_ n 0 (Nat.zero_add n)⟩)
    unfold wpY_different
    refine yd_isAttribute_t ha (br_f (by decide) ⟨97, yd_diff15 A.2.2.1 B.2.2 ha ⟨?_, R⟩ 96 0 rfl⟩)
    rw [dt_diff B.1 B.2.1 B.2.2 ha]
  · refine xd_isAttribute_f hna (br_t rfl ?_)
    unfold wpY_different
    exact yd_isAttribute_f hna (br_t rfl ⟨rfl, R⟩)
end
section
/-! a value put: both sides' lists -/
theorem dt_in_lo {f : Nat → Int32} {r d j : Nat} {x : Int32} (h : j < r) : upd (dt_sf r d f) r x j = f j := by
  rw [pk_un (by omega)]
  exact if_neg (by omega)
theorem dt_in_hi {f : Nat → Int32} {r d j : Nat} {x : Int32} (h : r ≤ j) (h2 : j < r + d) : upd (dt_sf r d f) r x (j + 1) = f j := by
  rw [pk_un (by omega)]
  exact if_pos (by omega)
theorem dt_in_ou {f : Nat → Int32} {r d j : Nat} {x : Int32} (h : r + d < j) : upd (dt_sf r d f) r x j = f j := by
  rw [pk_un (by omega)]
  exact if_neg (by omega)
theorem dt_split {r n j : Nat} (hj : j < n + 1) : j < r ∨ j = r ∨ ∃ i, r ≤ i ∧ i < n ∧ j = i + 1 := by
  rcases Nat.lt_trichotomy j r with z | z | z
  · exact Or.inl z
  · exact Or.inr (Or.inl z)
  · exact Or.inr (Or.inr ⟨j - 1, by omega, by omega, by omega⟩)
/-- a new place -/
theorem rl_put_new {T : Nat → Bool} {n a e r : Nat} {v : Int32} {ia ik iv ho : Nat → Int32} (h : rl_IX T n ia ik iv ho) (hn : n < 576) (ha : a < 6) (hv : dt_ok a v = true) (he : e < 24) (ht : T e = true) (no : ∀ i, i < n → ia i = nI a → iv i ≠ v) (hr : dt_PL ia ik n ((a : Int) * 4096 + (dt_key a v).toInt) r) :
    rl_IX T (n + 1) (upd (dt_sf r (n - r) ia) r (nI a)) (upd (dt_sf r (n - r) ik) r (dt_key a v)) (upd (dt_sf r (n - r) iv) r v) (upd (dt_sf r (n - r) ho) r ((1 : Int32) <<< (nI e &&& 31))) ∧
    ∀ x b w, x < 24 → b < 6 → ((∃ j, j < n + 1 ∧ upd (dt_sf r (n - r) ia) r (nI a) j = nI b ∧ upd (dt_sf r (n - r) iv) r v j = w ∧ bt (upd (dt_sf r (n - r) ho) r ((1 : Int32) <<< (nI e &&& 31)) j) x = true) ↔ (∃ i, i < n ∧ ia i = nI b ∧ iv i = w ∧ bt (ho i) x = true) ∨ (x = e ∧ b = a ∧ w = v)) := by
  obtain ⟨r1, r2, r3⟩ := hr
  have cdl : ∀ j, j < r → dt_cd (upd (dt_sf r (n - r) ia) r (nI a)) (upd (dt_sf r (n - r) ik) r (dt_key a v)) j = dt_cd ia ik j := fun j hj => by
    unfold dt_cd
    rw [dt_in_lo hj, dt_in_lo hj]
  have cdm : dt_cd (upd (dt_sf r (n - r) ia) r (nI a)) (upd (dt_sf r (n - r) ik) r (dt_key a v)) r = (a : Int) * 4096 + (dt_key a v).toInt := by
    unfold dt_cd
    rw [pk_us, pk_us, nI_toInt (by omega)]
  have cdh : ∀ i, r ≤ i → i < n → dt_cd (upd (dt_sf r (n - r) ia) r (nI a)) (upd (dt_sf r (n - r) ik) r (dt_key a v)) (i + 1) = dt_cd ia ik i := fun i h1 h2 => by
    unfold dt_cd
    rw [dt_in_hi h1 (by omega), dt_in_hi h1 (by omega)]
  have gt : ∀ i, r ≤ i → i < n → (a : Int) * 4096 + (dt_key a v).toInt < dt_cd ia ik i := fun i h1 h2 => by
    have k := r3 i h1 h2
    obtain ⟨p1, p2, p3, p4, p5⟩ := rl_IX_p h h2
    have kr := dt_key_r hv
    rcases Int.lt_or_eq_of_le k with z | z
    · exact z
    · exfalso
      rw [p3] at z
      have ea : dt_p ia i = a := by omega
      have w := (rl_IX_e h h2 ha).mpr ea
      refine no i h2 w (dt_key_inj (a := a) ?_ hv ?_)
      · rw [← ea]; exact (h.2.1 i h2).2.2.1
      · have q := (h.2.1 i h2).2.2.2.1
        rw [ea] at q
        rw [← q]
        omega
  have old : ∀ j i, i < n → upd (dt_sf r (n - r) ia) r (nI a) j = ia i → upd (dt_sf r (n - r) ik) r (dt_key a v) j = ik i → upd (dt_sf r (n - r) iv) r v j = iv i → upd (dt_sf r (n - r) ho) r ((1 : Int32) <<< (nI e &&& 31)) j = ho i →
      upd (dt_sf r (n - r) ia) r (nI a) j = nI (dt_p (upd (dt_sf r (n - r) ia) r (nI a)) j) ∧ dt_p (upd (dt_sf r (n - r) ia) r (nI a)) j < 6 ∧ dt_ok (dt_p (upd (dt_sf r (n - r) ia) r (nI a)) j) (upd (dt_sf r (n - r) iv) r v j) = true ∧ upd (dt_sf r (n - r) ik) r (dt_key a v) j = dt_key (dt_p (upd (dt_sf r (n - r) ia) r (nI a)) j) (upd (dt_sf r (n - r) iv) r v j) ∧ upd (dt_sf r (n - r) ho) r ((1 : Int32) <<< (nI e &&& 31)) j ≠ 0 ∧ ∀ b, bt (upd (dt_sf r (n - r) ho) r ((1 : Int32) <<< (nI e &&& 31)) j) b = true → b < 24 ∧ T b = true := by
    intro j i hi e1 e2 e3 e4
    have e5 : dt_p (upd (dt_sf r (n - r) ia) r (nI a)) j = dt_p ia i := by unfold dt_p; rw [e1]
    rw [e5, e1, e2, e3, e4]
    exact h.2.1 i hi
  refine ⟨⟨by omega, fun j hj => ?_, fun j l hjl hl => ?_⟩, fun x b w hx hb => ?_⟩
  · rcases dt_split (r := r) hj with z | z | ⟨i, z1, z2, rfl⟩
    · exact old j j (by omega) (dt_in_lo z) (dt_in_lo z) (dt_in_lo z) (dt_in_lo z)
    · subst z
      rw [dt_p_us (by omega), pk_us, pk_us, pk_us, pk_us]
      refine ⟨rfl, ha, hv, rfl, dt_ne0 (i := e) (by rw [dt_sh (by omega) (by omega)]; exact decide_eq_true rfl), fun b hb => ?_⟩
      rcases Nat.lt_or_ge b 32 with y | y
      · rw [dt_sh (by omega) y, decide_eq_true_eq] at hb
        rw [hb]
        exact ⟨he, ht⟩
      · rw [b_big y] at hb
        exact absurd hb (by decide)
    · exact old (i + 1) i z2 (dt_in_hi z1 (by omega)) (dt_in_hi z1 (by omega)) (dt_in_hi z1 (by omega)) (dt_in_hi z1 (by omega))
  · rcases dt_split (r := r) (show j < n + 1 from by omega) with z | z | ⟨i, z1, z2, rfl⟩
    · rw [cdl j z]
      rcases dt_split (r := r) hl with y | y | ⟨q, y1, y2, rfl⟩
      · rw [cdl l y]
        exact h.2.2 j l hjl (by omega)
      · rw [y, cdm]
        exact r2 j z
      · rw [cdh q y1 y2]
        exact h.2.2 j q (by omega) y2
    · rcases dt_split (r := r) hl with y | y | ⟨q, y1, y2, rfl⟩
      · omega
      · omega
      · rw [z, cdm, cdh q y1 y2]
        exact gt q y1 y2
    · rw [cdh i z1 z2]
      rcases dt_split (r := r) hl with y | y | ⟨q, y1, y2, rfl⟩
      · omega
      · omega
      · rw [cdh q y1 y2]
        exact h.2.2 i q (by omega) y2
  · constructor
    · rintro ⟨j, j1, j2, j3, j4⟩
      rcases dt_split (r := r) j1 with z | z | ⟨i, z1, z2, rfl⟩
      · rw [dt_in_lo z] at j2 j3 j4
        exact Or.inl ⟨j, by omega, j2, j3, j4⟩
      · subst z
        rw [pk_us] at j2 j3 j4
        rw [dt_sh (by omega) (by omega), decide_eq_true_eq] at j4
        exact Or.inr ⟨j4, ((nI_eq (by omega) (by omega)).mp j2).symm, j3.symm⟩
      · rw [dt_in_hi z1 (by omega)] at j2 j3 j4
        exact Or.inl ⟨i, z2, j2, j3, j4⟩
    · rintro (⟨i, i1, i2, i3, i4⟩ | ⟨rfl, rfl, rfl⟩)
      · rcases Nat.lt_or_ge i r with z | z
        · exact ⟨i, by omega, by rw [dt_in_lo z]; exact i2, by rw [dt_in_lo z]; exact i3, by rw [dt_in_lo z]; exact i4⟩
        · exact ⟨i + 1, by omega, by rw [dt_in_hi z (by omega)]; exact i2, by rw [dt_in_hi z (by omega)]; exact i3, by rw [dt_in_hi z (by omega)]; exact i4⟩
      · exact ⟨r, by omega, pk_us, pk_us, by rw [pk_us, dt_sh (by omega) (by omega)]; exact decide_eq_true rfl⟩
/-- two places with one attribute and one value are one -/
theorem dt_one_place {T : Nat → Bool} {n a i j : Nat} {v : Int32} {ia ik iv ho : Nat → Int32} (h : rl_IX T n ia ik iv ho) (ha : a < 6) (hi : i < n) (hj : j < n) (i1 : ia i = nI a) (j1 : ia j = nI a) (i2 : iv i = v) (j2 : iv j = v) : i = j := by
  obtain ⟨_, _, p3, _⟩ := rl_IX_p h hi
  obtain ⟨_, _, p3', _⟩ := rl_IX_p h hj
  have ea := (rl_IX_e h hi ha).mp i1
  have eb := (rl_IX_e h hj ha).mp j1
  have cdq : dt_cd ia ik i = dt_cd ia ik j := by
    rw [p3, p3', ea, eb, (h.2.1 i hi).2.2.2.1, (h.2.1 j hj).2.2.2.1, ea, eb, i2, j2]
  rcases Nat.lt_trichotomy i j with w | w | w
  · have := h.2.2 i j w hj
    omega
  · exact w
  · have := h.2.2 j i w hi
    omega
theorem rl_put_old {T : Nat → Bool} {n a e r : Nat} {v : Int32} {ia ik iv ho : Nat → Int32} (h : rl_IX T n ia ik iv ho) (ha : a < 6) (he : e < 24) (ht : T e = true) (hr : r < n) (r1 : ia r = nI a) (r2 : iv r = v) :
    rl_IX T n ia ik iv (upd ho r (ho r ||| ((1 : Int32) <<< (nI e &&& 31)))) ∧
    ∀ x b w, x < 24 → b < 6 → ((∃ j, j < n ∧ ia j = nI b ∧ iv j = w ∧ bt (upd ho r (ho r ||| ((1 : Int32) <<< (nI e &&& 31))) j) x = true) ↔ (∃ i, i < n ∧ ia i = nI b ∧ iv i = w ∧ bt (ho i) x = true) ∨ (x = e ∧ b = a ∧ w = v)) := by
  refine ⟨⟨h.1, fun j hj => ?_, h.2.2⟩, fun x b w hx hb => ?_⟩
  · obtain ⟨k1, k2, k3, k4, k5, k6⟩ := h.2.1 j hj
    by_cases z : j = r
    · subst z
      rw [pk_us]
      refine ⟨k1, k2, k3, k4, dt_ne0 (i := e) (by rw [b_or, dt_sh (by omega) (by omega), decide_eq_true rfl, Bool.or_true]), fun b hb => ?_⟩
      rw [b_or, Bool.or_eq_true] at hb
      rcases hb with hb | hb
      · exact k6 b hb
      · rcases Nat.lt_or_ge b 32 with y | y
        · rw [dt_sh (by omega) y, decide_eq_true_eq] at hb
          rw [hb]
          exact ⟨he, ht⟩
        · rw [b_big y] at hb
          exact absurd hb (by decide)
    · rw [pk_un z]
      exact ⟨k1, k2, k3, k4, k5, k6⟩
  · constructor
    · rintro ⟨j, j1, j2, j3, j4⟩
      by_cases z : j = r
      · subst z
        rw [pk_us, b_or, Bool.or_eq_true, dt_sh (by omega) (by omega), decide_eq_true_eq] at j4
        rcases j4 with j4 | j4
        · exact Or.inl ⟨j, j1, j2, j3, j4⟩
        · rw [r1] at j2
          exact Or.inr ⟨j4, ((nI_eq (by omega) (by omega)).mp j2).symm, j3.symm.trans r2⟩
      · rw [pk_un z] at j4
        exact Or.inl ⟨j, j1, j2, j3, j4⟩
    · rintro (⟨i, i1, i2, i3, i4⟩ | ⟨rfl, rfl, rfl⟩)
      · refine ⟨i, i1, i2, i3, ?_⟩
        by_cases z : i = r
        · subst z
          rw [pk_us, b_or, i4, Bool.true_or]
        · rw [pk_un z]
          exact i4
      · exact ⟨r, hr, r1, r2, by rw [pk_us, b_or, dt_sh (by omega) (by omega), decide_eq_true rfl, Bool.or_true]⟩
theorem rl_put_Y {T : Nat → Bool} {a e t c : Nat} {v : Int32} {cn vs : Nat → Int32} (hI : rl_IY T cn vs) (he : e < 24) (ht : T e = true) (ha : a < 6) (hv : dt_ok a v = true) (hc : dt_p cn (6 * e + a) = c) (c3 : c ≤ 3) (no : ∀ k, k < c → vs (4 * (6 * e + a) + k) ≠ v) (tc : t ≤ c)
    (h1 : t = 0 ∨ ∃ i, i + 1 = t ∧ (dt_key a (vs (4 * (6 * e + a) + i))).toInt ≤ (dt_key a v).toInt) (h2 : ∀ j, t ≤ j → j < c → (dt_key a v).toInt < (dt_key a (vs (4 * (6 * e + a) + j))).toInt) :
    rl_IY T (upd cn (6 * e + a) (nI (c + 1))) (upd (dt_sf (4 * (6 * e + a) + t) (c - t) vs) (4 * (6 * e + a) + t) v) ∧
    ∀ x b w, x < 24 → T x = true → b < 6 → ((∃ k, k < dt_p (upd cn (6 * e + a) (nI (c + 1))) (6 * x + b) ∧ upd (dt_sf (4 * (6 * e + a) + t) (c - t) vs) (4 * (6 * e + a) + t) v (4 * (6 * x + b) + k) = w) ↔ (∃ k, k < dt_p cn (6 * x + b) ∧ vs (4 * (6 * x + b) + k) = w) ∨ (x = e ∧ b = a ∧ w = v)) := by
  obtain ⟨i1, _, i3, i4⟩ := hI e a he ht ha
  rw [hc] at i3 i4
  have other : ∀ x b, x < 24 → b < 6 → ¬ (x = e ∧ b = a) → 6 * x + b ≠ 6 * e + a := fun x b hx hb w z => w (by omega)
  have vo : ∀ x b k, x < 24 → b < 6 → ¬ (x = e ∧ b = a) → k < 4 → upd (dt_sf (4 * (6 * e + a) + t) (c - t) vs) (4 * (6 * e + a) + t) v (4 * (6 * x + b) + k) = vs (4 * (6 * x + b) + k) := fun x b k hx hb w hk => by
    have := other x b hx hb w
    rcases Nat.lt_or_ge (4 * (6 * x + b) + k) (4 * (6 * e + a) + t) with z | z
    · exact dt_in_lo z
    · exact dt_in_ou (by omega)
  have vl : ∀ k, k < t → upd (dt_sf (4 * (6 * e + a) + t) (c - t) vs) (4 * (6 * e + a) + t) v (4 * (6 * e + a) + k) = vs (4 * (6 * e + a) + k) := fun k hk => dt_in_lo (by omega)
  have vh : ∀ k, t ≤ k → k < c → upd (dt_sf (4 * (6 * e + a) + t) (c - t) vs) (4 * (6 * e + a) + t) v (4 * (6 * e + a) + (k + 1)) = vs (4 * (6 * e + a) + k) := fun k h1 h2 => dt_in_hi (j := 4 * (6 * e + a) + k) (by omega) (by omega)
  have lowk : ∀ k, k < t → (dt_key a (vs (4 * (6 * e + a) + k))).toInt < (dt_key a v).toInt := fun k hk => by
    rcases h1 with z | ⟨i, z, y⟩
    · omega
    · have ne : (dt_key a (vs (4 * (6 * e + a) + i))).toInt ≠ (dt_key a v).toInt := fun w => no i (by omega) (dt_key_inj (i3 i (by omega)) hv w)
      by_cases q : k = i
      · rw [q]; omega
      · have := i4 k i (by omega) (by omega)
        omega
  refine ⟨fun x b hx tx hb => ?_, fun x b w hx tx hb => ?_⟩
  · by_cases z : x = e ∧ b = a
    · obtain ⟨rfl, rfl⟩ := z
      rw [dt_p_us (by omega), pk_us]
      refine ⟨rfl, by omega, fun k hk => ?_, fun k l hkl hl => ?_⟩
      · rcases dt_split (r := t) (show k < c + 1 from hk) with y | y | ⟨q, y1, y2, rfl⟩
        · rw [vl k y]
          exact i3 k (by omega)
        · rw [y, pk_us]
          exact hv
        · rw [vh q y1 y2]
          exact i3 q y2
      · rcases dt_split (r := t) (show k < c + 1 from by omega) with y | y | ⟨q, y1, y2, rfl⟩
        · rw [vl k y]
          rcases dt_split (r := t) hl with u | u | ⟨m, u1, u2, rfl⟩
          · rw [vl l u]
            exact i4 k l hkl (by omega)
          · rw [u, pk_us]
            exact lowk k y
          · rw [vh m u1 u2]
            exact i4 k m (by omega) u2
        · rcases dt_split (r := t) hl with u | u | ⟨m, u1, u2, rfl⟩
          · omega
          · omega
          · rw [y, pk_us, vh m u1 u2]
            exact h2 m u1 u2
        · rw [vh q y1 y2]
          rcases dt_split (r := t) hl with u | u | ⟨m, u1, u2, rfl⟩
          · omega
          · omega
          · rw [vh m u1 u2]
            exact i4 q m (by omega) u2
    · have o := other x b hx hb z
      obtain ⟨k1, k2, k3, k4⟩ := hI x b hx tx hb
      rw [dt_p_un o, pk_un o]
      refine ⟨k1, k2, fun k hk => ?_, fun k l hkl hl => ?_⟩
      · rw [vo x b k hx hb z (by omega)]
        exact k3 k hk
      · rw [vo x b k hx hb z (by omega), vo x b l hx hb z (by omega)]
        exact k4 k l hkl hl
  · by_cases z : x = e ∧ b = a
    · obtain ⟨rfl, rfl⟩ := z
      rw [dt_p_us (by omega), hc]
      constructor
      · rintro ⟨k, hk, y⟩
        rcases dt_split (r := t) (show k < c + 1 from hk) with u | u | ⟨q, u1, u2, rfl⟩
        · rw [vl k u] at y
          exact Or.inl ⟨k, by omega, y⟩
        · rw [u, pk_us] at y
          exact Or.inr ⟨rfl, rfl, y.symm⟩
        · rw [vh q u1 u2] at y
          exact Or.inl ⟨q, u2, y⟩
      · rintro (⟨k, hk, y⟩ | ⟨_, _, y⟩)
        · rcases Nat.lt_or_ge k t with u | u
          · exact ⟨k, by omega, by rw [vl k u]; exact y⟩
          · exact ⟨k + 1, by omega, by rw [vh k u hk]; exact y⟩
        · exact ⟨t, by omega, by rw [pk_us, y]⟩
    · have o := other x b hx hb z
      obtain ⟨_, k2, _⟩ := hI x b hx tx hb
      rw [dt_p_un o]
      constructor
      · rintro ⟨k, hk, y⟩
        rw [vo x b k hx hb z (by omega)] at y
        exact Or.inl ⟨k, hk, y⟩
      · rintro (⟨k, hk, y⟩ | ⟨y1, y2, _⟩)
        · exact ⟨k, hk, by rw [vo x b k hx hb z (by omega)]; exact y⟩
        · exact absurd ⟨y1, y2⟩ z
theorem rl_drop_Y {T : Nat → Bool} {a e m c : Nat} {v : Int32} {cn vs : Nat → Int32} (hI : rl_IY T cn vs) (he : e < 24) (ht : T e = true) (ha : a < 6) (hc : dt_p cn (6 * e + a) = c + 1) (hm : m ≤ c) (hv : vs (4 * (6 * e + a) + m) = v) :
    rl_IY T (upd cn (6 * e + a) (nI c)) (dt_dl (4 * (6 * e + a) + m) (c - m) vs) ∧
    ∀ x b w, x < 24 → T x = true → b < 6 → ((∃ k, k < dt_p (upd cn (6 * e + a) (nI c)) (6 * x + b) ∧ dt_dl (4 * (6 * e + a) + m) (c - m) vs (4 * (6 * x + b) + k) = w) ↔ (∃ k, k < dt_p cn (6 * x + b) ∧ vs (4 * (6 * x + b) + k) = w) ∧ ¬ (x = e ∧ b = a ∧ w = v)) := by
  obtain ⟨i1, i2, i3, i4⟩ := hI e a he ht ha
  rw [hc] at i2 i3 i4
  have other : ∀ x b, x < 24 → b < 6 → ¬ (x = e ∧ b = a) → 6 * x + b ≠ 6 * e + a := fun x b hx hb w z => w (by omega)
  have vo : ∀ x b k, x < 24 → b < 6 → ¬ (x = e ∧ b = a) → k < 4 → dt_dl (4 * (6 * e + a) + m) (c - m) vs (4 * (6 * x + b) + k) = vs (4 * (6 * x + b) + k) := fun x b k hx hb w hk => by
    have := other x b hx hb w
    exact if_neg (by omega)
  have vl : ∀ k, k < m → dt_dl (4 * (6 * e + a) + m) (c - m) vs (4 * (6 * e + a) + k) = vs (4 * (6 * e + a) + k) := fun k hk => if_neg (by omega)
  have vh : ∀ k, m ≤ k → k < c → dt_dl (4 * (6 * e + a) + m) (c - m) vs (4 * (6 * e + a) + k) = vs (4 * (6 * e + a) + (k + 1)) := fun k h1 h2 => if_pos (by omega)
  refine ⟨fun x b hx tx hb => ?_, fun x b w hx tx hb => ?_⟩
  · by_cases z : x = e ∧ b = a
    · obtain ⟨rfl, rfl⟩ := z
      rw [dt_p_us (by omega), pk_us]
      refine ⟨rfl, by omega, fun k hk => ?_, fun k l hkl hl => ?_⟩
      · rcases Nat.lt_or_ge k m with y | y
        · rw [vl k y]
          exact i3 k (by omega)
        · rw [vh k y hk]
          exact i3 (k + 1) (by omega)
      · rcases Nat.lt_or_ge k m with y | y
        · rw [vl k y]
          rcases Nat.lt_or_ge l m with u | u
          · rw [vl l u]
            exact i4 k l hkl (by omega)
          · rw [vh l u hl]
            exact i4 k (l + 1) (by omega) (by omega)
        · rw [vh k y (by omega), vh l (by omega) hl]
          exact i4 (k + 1) (l + 1) (by omega) (by omega)
    · have o := other x b hx hb z
      obtain ⟨k1, k2, k3, k4⟩ := hI x b hx tx hb
      rw [dt_p_un o, pk_un o]
      refine ⟨k1, k2, fun k hk => ?_, fun k l hkl hl => ?_⟩
      · rw [vo x b k hx hb z (by omega)]
        exact k3 k hk
      · rw [vo x b k hx hb z (by omega), vo x b l hx hb z (by omega)]
        exact k4 k l hkl hl
  · by_cases z : x = e ∧ b = a
    · obtain ⟨rfl, rfl⟩ := z
      rw [dt_p_us (by omega), hc]
      have ne : ∀ k, k < c + 1 → k ≠ m → vs (4 * (6 * x + b) + k) ≠ v := fun k hk hn y => by
        rcases Nat.lt_trichotomy k m with u | u | u
        · have := i4 k m u (by omega)
          rw [hv, y] at this
          omega
        · exact hn u
        · have := i4 m k u (by omega)
          rw [hv, y] at this
          omega
      constructor
      · rintro ⟨k, hk, y⟩
        rcases Nat.lt_or_ge k m with u | u
        · rw [vl k u] at y
          exact ⟨⟨k, by omega, y⟩, fun q => ne k (by omega) (by omega) (y.trans q.2.2)⟩
        · rw [vh k u hk] at y
          exact ⟨⟨k + 1, by omega, y⟩, fun q => ne (k + 1) (by omega) (by omega) (y.trans q.2.2)⟩
      · rintro ⟨⟨k, hk, y⟩, q⟩
        rcases Nat.lt_trichotomy k m with u | u | u
        · exact ⟨k, by omega, by rw [vl k u]; exact y⟩
        · rw [u, hv] at y
          exact absurd ⟨rfl, rfl, y.symm⟩ q
        · obtain ⟨j, rfl⟩ : ∃ j, k = j + 1 := ⟨k - 1, by omega⟩
          exact ⟨j, by omega, by rw [vh j (by omega) (by omega)]; exact y⟩
    · have o := other x b hx hb z
      obtain ⟨_, k2, _⟩ := hI x b hx tx hb
      rw [dt_p_un o]
      constructor
      · rintro ⟨k, hk, y⟩
        rw [vo x b k hx hb z (by omega)] at y
        exact ⟨⟨k, hk, y⟩, fun q => z ⟨q.1, q.2.1⟩⟩
      · rintro ⟨⟨k, hk, y⟩, _⟩
        exact ⟨k, hk, by rw [vo x b k hx hb z (by omega)]; exact y⟩
end
section
/-! the owed rows put and drop, and the beginning -/
theorem dt_uu {f : Nat → Int32} {r : Nat} {x y : Int32} : upd (upd f r y) r x = upd f r x := by
  funext j
  by_cases z : j = r
  · rw [z, pk_us, pk_us]
  · rw [pk_un z, pk_un z, pk_un z]
theorem dt_0or (x : Int32) : (0 : Int32) ||| x = x := b_ext fun i _ => by rw [b_or, b_0, Bool.false_or]
theorem i_vc_put {k : Nat} {u : SX} {v : SY} (I : i_Rel k u v) (hk : k + 4 ≤ 2048) (v1 : Int32) (v2 : Int32) (v3 : Int32) : wpX_put (fun r u' => wpY_put (fun r' v' => r' = r ∧ i_Rel (k + 4) u' v') v v1 v2 v3) u v1 v2 v3 := by
  refine rl_el (P := fun u v => wpX_put (fun r u' => wpY_put (fun r' v' => r' = r ∧ i_Rel (k + 4) u' v') v v1 v2 v3) u v1 v2 v3) I ?_
  intro th od mn n t hg de pa na cl al so bl ia ik iv ho ki ta nu sp tr un yt cn vs ya ps yo wa A B F
  have R : i_Rel (k + 4) (th, od, mn, nI n, nI t, hg, de, pa, na, cl, al, so, bl, ia, ik, iv, ho, ki, ta, nu, sp, tr, un) (nI t, hg, yt, pa, na, cl, al, cn, vs, ki, ya, nu, ps, yo, wa) := rl_mk A B F
  unfold wpX_put
  rcases dt_ent th v1 with ⟨e, he, rfl, ht⟩ | hn
  · refine xd_isEntry_t he ht (br_f (by decide) ?_)
    rcases dt_att v2 with ⟨a, ha, rfl⟩ | hna
    · refine xd_isAttribute_t ha (br_f (by decide) (xd_isValue ha ?_))
      cases hv : dt_ok a v3
      · refine br_t rfl ?_
        unfold wpY_put
        refine yd_isEntry_t A.2.2.1 he ht (br_f (by decide) (yd_isAttribute_t ha (br_f (by decide) (yd_canBe ha ?_))))
        rw [hv]
        exact br_t rfl ⟨rfl, R⟩
      · obtain ⟨c1, c2⟩ := A.2.1.2.2.2.1 e he ht
        have ce : (nI e).toNatClampNeg = e := nI_clamp (by omega)
        refine br_f (by decide) ⟨vp_in_nI he (by decide), ?_⟩
        rw [ce, c1, nI_clamp (n := dt_p cl e) (by omega)]
        refine ⟨vp_in_nI c2 (by decide), ?_⟩
        cases hb : bt (al (dt_p cl e)) a
        · refine br_t ((dt_z _ (by omega)).mpr hb) ?_
          unfold wpY_put
          refine yd_isEntry_t A.2.2.1 he ht (br_f (by decide) (yd_isAttribute_t ha (br_f (by decide) (yd_canBe ha ?_))))
          rw [hv]
          refine br_f (by decide) (yd_allows A.2.1 he ht ha ?_)
          rw [hb]
          exact br_t rfl ⟨rfl, R⟩
        · have hb' : ¬ (al (dt_p cl e) >>> (nI a &&& 31)) &&& 1 = 0 := fun w => by
            have := (dt_z _ (show a < 32 from by omega)).mp w
            rw [hb] at this
            exact absurd this (by decide)
          refine br_f hb' ?_
          obtain ⟨h, hM, hI⟩ := B
          obtain ⟨i1, i2, i3, i4⟩ := hI e a he ht ha
          have cX := dt_cX h hM hI he ht ha
          have kr := dt_key_r hv
          have cs : (nI (6 * e + a)).toNatClampNeg = 6 * e + a := nI_clamp (by omega)
          have vS : vp_in (nI (6 * e + a)) 144 := vp_in_nI (by omega) (by decide)
          have Y : ∀ post : Int32 → SY → Prop, ((∃ q, q < dt_p cn (6 * e + a) ∧ vs (4 * (6 * e + a) + q) = v3) → post (-4) (nI t, hg, yt, pa, na, cl, al, cn, vs, ki, ya, nu, ps, yo, wa)) → ((∀ q, q < dt_p cn (6 * e + a) → vs (4 * (6 * e + a) + q) ≠ v3) → dt_p cn (6 * e + a) = 4 → post (-5) (nI t, hg, yt, pa, na, cl, al, cn, vs, ki, ya, nu, ps, yo, wa)) →
              ((∀ q, q < dt_p cn (6 * e + a) → vs (4 * (6 * e + a) + q) ≠ v3) → dt_p cn (6 * e + a) ≤ 3 → ∀ (cj vj : Nat → Int32), rl_IY (bt th) cj vj → (∀ x b w, x < 24 → bt th x = true → b < 6 → ((∃ q, q < dt_p cj (6 * x + b) ∧ vj (4 * (6 * x + b) + q) = w) ↔ (∃ q, q < dt_p cn (6 * x + b) ∧ vs (4 * (6 * x + b) + q) = w) ∨ (x = e ∧ b = a ∧ w = v3))) → post (nI (dt_p cn (6 * e + a) + 1)) (nI t, hg, yt, pa, na, cl, al, cj, vj, ki, ya, nu, ps, yo, wa)) → wpY_put post (nI t, hg, yt, pa, na, cl, al, cn, vs, ki, ya, nu, ps, yo, wa) (nI e) (nI a) v3 := fun post g1 g2 g3 => by
            unfold wpY_put
            refine yd_isEntry_t A.2.2.1 he ht (br_f (by decide) (yd_isAttribute_t ha (br_f (by decide) (yd_canBe ha ?_))))
            rw [hv]
            refine br_f (by decide) (yd_allows A.2.1 he ht ha ?_)
            rw [hb]
            refine br_f (by decide) (yd_placeOf he ha i1 i2 (fun q q1 q2 => br_f (nI_pos (by omega)) (g1 ⟨q, q1, q2⟩)) (fun no => br_t dt_m1' (nm_r dt_sl1 ⟨vS, ?_⟩)))
            rw [cs, i1]
            by_cases z : dt_p cn (6 * e + a) = 4
            · exact br_t (by rw [z]; rfl) (g2 no z)
            · refine br_f (fun w => z ((nI_eq (b := 4) (by omega) (by omega)).mp w)) ⟨vS, nm_e ⟨dt_p cn (6 * e + a) + 1, ?_⟩⟩
              have g := @yd_put_l (nI t) hg yt pa na cl al cn vs ki ya nu ps yo wa (6 * e + a) a (dt_p cn (6 * e + a)) v3 (by omega) ha i1 (by omega) hv i3 post (fun m m1 m2 m3 => by
                obtain ⟨y1, y2⟩ := rl_put_Y hI he ht ha hv rfl (by omega) no m1 m2 m3
                exact g3 no (by omega) _ _ y1 y2) (dt_p cn (6 * e + a)) (Nat.le_refl _) (fun j x y => absurd y (by omega))
              rw [Nat.sub_self, dt_sf_0] at g
              exact g
          have mk : ∀ (q : Nat) (ja jk jv jo cj vj : Nat → Int32), rl_IX (bt th) q ja jk jv jo → rl_IY (bt th) cj vj → (∀ x b w, x < 24 → b < 6 → ((∃ j, j < q ∧ ja j = nI b ∧ jv j = w ∧ bt (jo j) x = true) ↔ (∃ i, i < n ∧ ia i = nI b ∧ iv i = w ∧ bt (ho i) x = true) ∨ (x = e ∧ b = a ∧ w = v3))) → (∀ x b w, x < 24 → bt th x = true → b < 6 → ((∃ q, q < dt_p cj (6 * x + b) ∧ vj (4 * (6 * x + b) + q) = w) ↔ (∃ q, q < dt_p cn (6 * x + b) ∧ vs (4 * (6 * x + b) + q) = w) ∨ (x = e ∧ b = a ∧ w = v3))) → rl_B th q ja jk jv jo cj vj := fun q ja jk jv jo cj vj h1 h2 h3 h4 => by
            refine ⟨h1, fun x b w hx tx hb => ?_, h2⟩
            rw [h3 x b w hx hb, h4 x b w hx tx hb, hM x b w hx tx hb]
          refine xd_indexOf h ha hv (fun i j1 j2 j3 => br_f (nI_pos (by have := h.1; omega)) ?_) (fun no => br_t dt_m1' ?_)
          · have n576 := h.1
            have ci : (nI i).toNatClampNeg = i := nI_clamp (by omega)
            have vi : vp_in (nI i) 576 := vp_in_nI (by omega) (by decide)
            refine ⟨vi, ?_⟩
            rw [ci]
            cases hq : bt (ho i) e
            · have yno : ¬ ∃ q, q < dt_p cn (6 * e + a) ∧ vs (4 * (6 * e + a) + q) = v3 := fun w => by
                obtain ⟨i', l1, l2, l3, l4⟩ := (hM e a v3 he ht ha).mpr w
                rw [dt_one_place h ha l1 j1 l2 j2 l3 j3, hq] at l4
                exact absurd l4 (by decide)
              refine br_f (fun w => by have := (dt_t _ (show e < 32 from by omega)).mp w; rw [hq] at this; exact absurd this (by decide)) ?_
              unfold wX_put_80
              refine xd_valuesOf h ha he ?_
              rw [cX]
              by_cases z : dt_p cn (6 * e + a) ≤ 3
              · refine br_t (nI_lt (b := 4) (by omega) (by decide)) (br_t (nI_pos' (by omega)) ⟨vi, vi, nm_r (e' := upd ho i (ho i ||| ((1 : Int32) <<< (nI e &&& 31)))) (by rw [ci]) ?_⟩)
                obtain ⟨x1, x2⟩ := rl_put_old h ha he ht j1 j2 j3
                rw [nI_1]
                exact Y _ (fun w => absurd w yno) (fun _ w => absurd w (by omega)) (fun _ _ cj vj y1 y2 => ⟨rfl, rl_mk A (mk _ _ _ _ _ _ _ x1 y1 x2 y2) F⟩)
              · refine br_f (nI_nlt (b := 4) (by omega) (by omega)) ?_
                exact Y _ (fun w => absurd w yno) (fun _ _ => ⟨rfl, R⟩) (fun _ w => absurd w (by omega))
            · refine br_t ((dt_t _ (by omega)).mpr hq) ?_
              have yes := (hM e a v3 he ht ha).mp ⟨i, j1, j2, j3, hq⟩
              exact Y _ (fun _ => ⟨rfl, R⟩) (fun no => by obtain ⟨q, q1, q2⟩ := yes; exact absurd q2 (no q q1)) (fun no => by obtain ⟨q, q1, q2⟩ := yes; exact absurd q2 (no q q1))
          · have yno : ¬ ∃ q, q < dt_p cn (6 * e + a) ∧ vs (4 * (6 * e + a) + q) = v3 := fun w => by
              obtain ⟨i', l1, l2, l3, l4⟩ := (hM e a v3 he ht ha).mpr w
              exact no i' l1 l2 l3
            unfold wX_put_80
            refine xd_valuesOf h ha he ?_
            rw [cX]
            by_cases z : dt_p cn (6 * e + a) ≤ 3
            · have n575 := dt_room h hM hI he ht ha z
              refine br_t (nI_lt (b := 4) (by omega) (by decide)) (br_f (by decide) (xd_keyOf ha hv (xd_placeOf h ha (by omega) fun r hr => xd_openPlace hr.1 n575 ?_)))
              have r575 := hr.1
              have cr : (nI r).toNatClampNeg = r := nI_clamp (by omega)
              have vr : vp_in (nI r) 576 := vp_in_nI (by omega) (by decide)
              obtain ⟨x1, x2⟩ := rl_put_new h n575 ha hv he ht no hr
              refine ⟨vr, nm_r (e' := upd (dt_sf r (n - r) ia) r (nI a)) (by rw [cr]) ⟨vr, nm_r (e' := upd (dt_sf r (n - r) ik) r (dt_key a v3)) (by rw [cr]) ⟨vr, nm_r (e' := upd (dt_sf r (n - r) iv) r v3) (by rw [cr]) ⟨vr, nm_r (e' := upd (dt_sf r (n - r) ho) r 0) (by rw [cr]) ⟨vr, vr, nm_r (e' := upd (dt_sf r (n - r) ho) r ((1 : Int32) <<< (nI e &&& 31))) (by rw [cr, pk_us, dt_0or, dt_uu]) ?_⟩⟩⟩⟩⟩
              rw [nI_1]
              exact Y _ (fun w => absurd w yno) (fun _ w => absurd w (by omega)) (fun _ _ cj vj y1 y2 => ⟨rfl, rl_mk A (mk _ _ _ _ _ _ _ x1 y1 x2 y2) F⟩)
            · refine br_f (nI_nlt (b := 4) (by omega) (by omega)) ?_
              exact Y _ (fun w => absurd w yno) (fun _ _ => ⟨rfl, R⟩) (fun _ w => absurd w (by omega))
    · refine xd_isAttribute_f hna (br_t rfl ?_)
      unfold wpY_put
      exact yd_isEntry_t A.2.2.1 he ht (br_f (by decide) (yd_isAttribute_f hna (br_t rfl ⟨rfl, R⟩)))
  · refine xd_isEntry_f hn (br_t rfl ?_)
    unfold wpY_put
    exact yd_isEntry_f A.2.2.1 hn (br_t rfl ⟨rfl, R⟩)
theorem i_vc_drop {k : Nat} {u : SX} {v : SY} (I : i_Rel k u v) (hk : k + 4 ≤ 2048) (v1 : Int32) (v2 : Int32) (v3 : Int32) : wpX_drop (fun r u' => wpY_drop (fun r' v' => r' = r ∧ i_Rel (k + 4) u' v') v v1 v2 v3) u v1 v2 v3 := by
  refine rl_el (P := fun u v => wpX_drop (fun r u' => wpY_drop (fun r' v' => r' = r ∧ i_Rel (k + 4) u' v') v v1 v2 v3) u v1 v2 v3) I ?_
  intro th od mn n t hg de pa na cl al so bl ia ik iv ho ki ta nu sp tr un yt cn vs ya ps yo wa A B F
  have R : i_Rel (k + 4) (th, od, mn, nI n, nI t, hg, de, pa, na, cl, al, so, bl, ia, ik, iv, ho, ki, ta, nu, sp, tr, un) (nI t, hg, yt, pa, na, cl, al, cn, vs, ki, ya, nu, ps, yo, wa) := rl_mk A B F
  unfold wpX_drop
  rcases dt_ent th v1 with ⟨e, he, rfl, ht⟩ | hn
  · refine xd_isEntry_t he ht (br_f (by decide) ?_)
    rcases dt_att v2 with ⟨a, ha, rfl⟩ | hna
    · obtain ⟨h, hM, hI⟩ := B
      obtain ⟨i1, i2, i3, i4⟩ := hI e a he ht ha
      have n576 := h.1
      have cs : (nI (6 * e + a)).toNatClampNeg = 6 * e + a := nI_clamp (by omega)
      have vS : vp_in (nI (6 * e + a)) 144 := vp_in_nI (by omega) (by decide)
      have Y : ∀ post : Int32 → SY → Prop, ((∀ q, q < dt_p cn (6 * e + a) → vs (4 * (6 * e + a) + q) ≠ v3) → post (-3) (nI t, hg, yt, pa, na, cl, al, cn, vs, ki, ya, nu, ps, yo, wa)) →
          (∀ (q c : Nat), dt_p cn (6 * e + a) = c + 1 → q ≤ c → vs (4 * (6 * e + a) + q) = v3 → post (nI c) (nI t, hg, yt, pa, na, cl, al, upd cn (6 * e + a) (nI c), dt_dl (4 * (6 * e + a) + q) (c - q) vs, ki, ya, nu, ps, yo, wa)) → wpY_drop post (nI t, hg, yt, pa, na, cl, al, cn, vs, ki, ya, nu, ps, yo, wa) (nI e) (nI a) v3 := fun post g1 g2 => by
        unfold wpY_drop
        refine yd_isEntry_t A.2.2.1 he ht (br_f (by decide) (yd_isAttribute_t ha (br_f (by decide) (yd_placeOf he ha i1 i2 (fun q q1 q2 => br_t (nI_pos' (by omega)) (nm_r dt_sl1 ⟨vS, vS, ?_⟩)) (fun no => br_f dt_m1 (g1 no))))))
        obtain ⟨c, hc⟩ : ∃ c, dt_p cn (6 * e + a) = c + 1 := ⟨dt_p cn (6 * e + a) - 1, by omega⟩
        refine nm_r (e' := upd cn (6 * e + a) (nI c)) (by rw [cs, i1, hc, nI_pred]) ⟨c - q + 1, ?_⟩
        have g := @yd_drop_l (nI t) hg yt pa na cl al (upd cn (6 * e + a) (nI c)) vs ki ya nu ps yo wa (6 * e + a) c q (by omega) pk_us (by omega) (by omega) post (g2 q c hc (by omega) q2) (c - q) q (by omega) (Nat.le_refl _)
        rw [Nat.sub_self, dt_dl_0] at g
        exact g
      have neg : (¬ ∃ i, i < n ∧ ia i = nI a ∧ iv i = v3 ∧ bt (ho i) e = true) → wpY_drop (fun r' v' => r' = -3 ∧ i_Rel (k + 4) (th, od, mn, nI n, nI t, hg, de, pa, na, cl, al, so, bl, ia, ik, iv, ho, ki, ta, nu, sp, tr, un) v') (nI t, hg, yt, pa, na, cl, al, cn, vs, ki, ya, nu, ps, yo, wa) (nI e) (nI a) v3 := fun w =>
        Y _ (fun _ => ⟨rfl, R⟩) (fun q c hc hq q2 => absurd ((hM e a v3 he ht ha).mpr ⟨q, by omega, q2⟩) w)
      refine xd_isAttribute_t ha (br_f (by decide) (xd_isValue ha ?_))
      cases hv : dt_ok a v3
      · refine br_t rfl (br_t dt_m1' (neg fun w => ?_))
        obtain ⟨i, j1, j2, j3, _⟩ := w
        have q := (h.2.1 i j1).2.2.1
        rw [(rl_IX_e h j1 ha).mp j2, j3, hv] at q
        exact absurd q (by decide)
      · refine br_f (by decide) (xd_indexOf h ha hv (fun i j1 j2 j3 => br_f (nI_pos (by omega)) ?_) (fun no => br_t dt_m1' (neg fun w => ?_)))
        · have ci : (nI i).toNatClampNeg = i := nI_clamp (by omega)
          have vi : vp_in (nI i) 576 := vp_in_nI (by omega) (by decide)
          refine ⟨vi, ?_⟩
          rw [ci]
          cases hq : bt (ho i) e
          · refine br_t ((dt_z _ (by omega)).mpr hq) (neg fun w => ?_)
            obtain ⟨i', l1, l2, l3, l4⟩ := w
            rw [dt_one_place h ha l1 j1 l2 j2 l3 j3, hq] at l4
            exact absurd l4 (by decide)
          · have yes := (hM e a v3 he ht ha).mp ⟨i, j1, j2, j3, hq⟩
            refine br_f (fun w => by have := (dt_z _ (show e < 32 from by omega)).mp w; rw [hq] at this; exact absurd this (by decide)) ⟨vi, vi, nm_e ?_⟩
            refine xd_sweep n576 fun q g ja jk jv jo hs hG => ?_
            have bo : ∀ j x, x < 32 → (bt (upd ho i (ho i &&& (((1 : Int32) <<< (nI e &&& 31)) ^^^ (-1))) j) x = true ↔ bt (ho j) x = true ∧ ¬ (j = i ∧ x = e)) := fun j x hx => by
              by_cases z : j = i
              · subst z
                rw [pk_us, b_and, dt_nt _ hx, dt_sh (by omega) hx, Bool.and_eq_true, Bool.not_eq_true', decide_eq_false_iff_not]
                exact ⟨fun w => ⟨w.1, fun y => w.2 y.2⟩, fun w => ⟨w.1, fun y => w.2 ⟨rfl, y⟩⟩⟩
              · rw [pk_un z]
                exact ⟨fun w => ⟨w, fun y => z y.1⟩, fun w => w.1⟩
            obtain ⟨X1, X2⟩ := rl_sweep (T := bt th) (ik := ik) n576 (fun j hj => by
              obtain ⟨k1, k2, k3, k4, k5, k6⟩ := h.2.1 j hj
              refine ⟨k1, k2, k3, k4, fun b hb => ?_⟩
              rcases Nat.lt_or_ge b 32 with z | z
              · exact k6 b ((bo j b z).mp hb).1
              · rw [b_big z] at hb
                exact absurd hb (by decide)) h.2.2 hs hG
            have X3 : ∀ x b w, x < 24 → b < 6 → ((∃ j, j < q ∧ ja j = nI b ∧ jv j = w ∧ bt (jo j) x = true) ↔ (∃ j, j < n ∧ ia j = nI b ∧ iv j = w ∧ bt (ho j) x = true) ∧ ¬ (x = e ∧ b = a ∧ w = v3)) := fun x b w hx hb => by
              rw [X2 x b w]
              constructor
              · rintro ⟨j, l1, l2, l3, l4⟩
                obtain ⟨l5, l6⟩ := (bo j x (by omega)).mp l4
                refine ⟨⟨j, l1, l2, l3, l5⟩, fun y => l6 ⟨?_, y.1⟩⟩
                rw [y.2.1] at l2
                exact dt_one_place h ha l1 j1 l2 j2 (l3.trans y.2.2) j3
              · rintro ⟨⟨j, l1, l2, l3, l4⟩, y⟩
                refine ⟨j, l1, l2, l3, (bo j x (by omega)).mpr ⟨l4, fun z => y ⟨z.2, ?_, ?_⟩⟩⟩
                · rw [z.1, j2] at l2
                  exact ((nI_eq (by omega) (by omega)).mp l2).symm
                · rw [← l3, z.1, j3]
            obtain ⟨q0, qc, qv⟩ := yes
            refine xd_valuesOf X1 ha he ?_
            refine Y _ (fun no => absurd qv (no q0 qc)) (fun q' c hc hq' q2 => ?_)
            obtain ⟨y1, y2⟩ := rl_drop_Y hI he ht ha hc hq' q2
            have M' : rl_IM (bt th) q ja jv jo (upd cn (6 * e + a) (nI c)) (dt_dl (4 * (6 * e + a) + q') (c - q') vs) := fun x b w hx tx hb => by
              rw [X3 x b w hx hb, y2 x b w hx tx hb, hM x b w hx tx hb]
            refine ⟨?_, rl_mk A ⟨X1, M', y1⟩ F⟩
            rw [dt_cX X1 M' y1 he ht ha, dt_p_us (by omega)]
        · obtain ⟨i', l1, l2, l3, _⟩ := w
          exact no i' l1 l2 l3
    · refine xd_isAttribute_f hna (br_t rfl ?_)
      unfold wpY_drop
      exact yd_isEntry_t A.2.2.1 he ht (br_f (by decide) (yd_isAttribute_f hna (br_t rfl ⟨rfl, R⟩)))
  · refine xd_isEntry_f hn (br_t rfl ?_)
    unfold wpY_drop
    exact yd_isEntry_f A.2.2.1 hn (br_t rfl ⟨rfl, R⟩)
end
section
/-! the beginning -/
theorem rl_A0 : rl_A 1 0 0 (upd (fun _ => 0) 0 1) (upd (fun _ => 0) 0 (-1)) (fun _ => 0) (fun _ => 0) (fun _ => 0) (fun _ => 0) := by
  have no : ∀ e, 0 < e → bt 1 e = true → False := fun e h0 w => by
    rcases Nat.lt_or_ge e 32 with z | z
    · rw [dt_one e z, decide_eq_true_eq] at w
      omega
    · rw [b_big z] at w
      exact absurd w (by decide)
  refine ⟨fun i hi => dt_bf fun w => no i (by omega) w, ⟨dt_one 0 (by omega), pk_us, fun e h0 _ w => (no e h0 w).elim, fun e _ _ => ⟨rfl, ?_⟩, fun e f h0 _ w => (no e h0 w).elim, fun _ => 0, fun e h0 _ w => (no e h0 w).elim⟩, fun e he => ?_, Or.inl rfl⟩
  · show (0 : Int32).toNatClampNeg < 4
    decide
  · by_cases z : e = 0
    · rw [z, pk_us, if_pos (show bt 1 0 = true from dt_one 0 (by omega))]
    · rw [pk_un z, if_neg fun w => no e (by omega) w]
theorem rl_B0 : rl_B 1 0 (fun _ => 0) (fun _ => 0) (fun _ => 0) (fun _ => 0) (fun _ => 0) (fun _ => 0) := by
  have z : ∀ s, dt_p (fun _ => 0) s = 0 := fun s => by
    show (0 : Int32).toNatClampNeg = 0
    decide
  refine ⟨⟨by omega, fun i hi => absurd hi (by omega), fun i j _ hj => absurd hj (by omega)⟩, fun e a v _ _ _ => ?_, fun e a _ _ _ => ?_⟩
  · rw [z]
    constructor
    · rintro ⟨i, hi, _⟩
      omega
    · rintro ⟨i, hi, _⟩
      omega
  · rw [z]
    exact ⟨rfl, by omega, fun k hk => absurd hk (by omega), fun k l _ hl => absurd hl (by omega)⟩
theorem i_vc0 : wpX_init (fun u => wpY_init (fun v => i_Rel 0 u v)) := by
  have v0 : vp_in 0 4 := vp_in_iff.mpr (by decide)
  have v1 : vp_in (0 + 1) 4 := vp_in_iff.mpr (by decide)
  have v2 : vp_in (0 + 1 + 1) 4 := vp_in_iff.mpr (by decide)
  have v3 : vp_in (0 + 1 + 1 + 1) 4 := vp_in_iff.mpr (by decide)
  refine nm_e ⟨5, br_f (by decide) ⟨v0, nm_e (nm_e (br_f (by decide) ⟨v1, nm_e (nm_e (br_f (by decide) ⟨v2, nm_e (nm_e (br_f (by decide) ⟨v3, nm_e (nm_e (br_t (by decide) ?_))⟩))⟩))⟩))⟩⟩
  refine nm_r (e' := upd (fun _ => 0) 0 1) (by rw [dt_nb1]) (nm_e ⟨5, br_f (by decide) ⟨v0, nm_e (nm_e (br_f (by decide) ⟨v1, nm_e (nm_e (br_f (by decide) ⟨v2, nm_e (nm_e (br_f (by decide) ⟨v3, nm_e (nm_e (br_t (by decide) ?_))⟩))⟩))⟩))⟩⟩)
  exact rl_mk (n := 0) (t := 0) rl_A0 rl_B0 (rl_F_0 _ _ _ _)
end
