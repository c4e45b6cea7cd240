section
/-! numbers, branches, bits: rows taken from the kit's rows to paste -/
theorem pk_us {f : Nat → Int32} {k : Nat} {x : Int32} : upd f k x k = x := if_pos rfl
theorem pk_un {f : Nat → Int32} {k j : Nat} {x : Int32} (h : j ≠ k) : upd f k x j = f j := if_neg h
theorem pk_sub {a b : Nat} (h : b ≤ a) : nI a - nI b = nI (a - b) := by
  obtain ⟨c, rfl⟩ : ∃ c, a = c + b := ⟨a - b, by omega⟩
  rw [← nI_add, Int32.add_sub_cancel, Nat.add_sub_cancel]
theorem pk_m1 (n : Nat) : nI (n + 1) + (-1) = nI n := by
  rw [← nI_1, Int32.add_assoc, show (1 : Int32) + (-1) = 0 from rfl, Int32.add_zero]
theorem pk_mul (a b : Nat) : nI a * nI b = nI (a * b) := (Int32.ofNat_mul a b).symm
theorem pk_div {a d : Nat} (ha : a < 2 ^ 31) (h0 : 0 < d) (hd : d < 2 ^ 31) : nI a / nI d = nI (a / d) := by
  apply Int32.toInt_inj.mp
  rw [lg_idiv_nonneg (by rw [nI_toInt ha]; omega) (by rw [nI_toInt hd]; omega), nI_toInt ha, nI_toInt hd, nI_toInt (Nat.lt_of_le_of_lt (Nat.div_le_self a d) ha)]
  first | rfl | exact (Int.natCast_ediv _ _).symm
theorem pk_rem {a d : Nat} (ha : a < 2 ^ 31) (h0 : 0 < d) (hd : d < 2 ^ 31) : nI a - nI a / nI d * nI d = nI (a % d) := by
  rw [pk_div ha h0 hd, pk_mul, pk_sub (Nat.div_mul_le_self a d)]
  exact congrArg nI (by have := Nat.div_add_mod' a d; omega)
theorem pk_le {x y : Int32} {A B : Prop} (a b : Nat) (f : a ≤ b → A) (g : b < a → B) (hx : x = nI a := by rfl) (hy : y = nI b := by rfl) (ha : a < 2 ^ 31 := by omega) (hb : b < 2 ^ 31 := by omega) : (x ≤ y → A) ∧ (¬ x ≤ y → B) := by
  subst hx hy
  rw [nI_leI ha hb]
  exact ⟨f, fun z => g (by omega)⟩
theorem pk_lt {x y : Int32} {A B : Prop} (a b : Nat) (f : a < b → A) (g : b ≤ a → B) (hx : x = nI a := by rfl) (hy : y = nI b := by rfl) (ha : a < 2 ^ 31 := by omega) (hb : b < 2 ^ 31 := by omega) : (x < y → A) ∧ (¬ x < y → B) := by
  subst hx hy
  rw [nI_ltI ha hb]
  exact ⟨f, fun z => g (by omega)⟩
theorem pk_eq {x y : Int32} {A B : Prop} (a b : Nat) (f : a = b → A) (g : a ≠ b → B) (hx : x = nI a := by rfl) (hy : y = nI b := by rfl) (ha : a < 2 ^ 31 := by omega) (hb : b < 2 ^ 31 := by omega) : (x = y → A) ∧ (¬ x = y → B) := by
  subst hx hy
  rw [nI_eq ha hb]
  exact ⟨f, g⟩
theorem pk_in {x : Int32} (n N : Nat) (h : n < N) (hx : x = nI n := by rfl) (hN : N < 2 ^ 31 := by omega) : vp_in x N := by
  subst hx
  exact vp_in_nI h hN
theorem pk_cl {x : Int32} (n : Nat) (hx : x = nI n := by rfl) (h : n < 2 ^ 31 := by omega) : x.toNatClampNeg = n := by
  subst hx
  exact nI_clamp h
theorem pk_tn {n : Nat} (h : n < 2 ^ 32) : (nI n).toBitVec.toNat = n := Nat.mod_eq_of_lt h
theorem pk_ix (x : Int32) {n : Nat} (hn : n < 2 ^ 31) : x < 0 ∨ nI n ≤ x ∨ ∃ j : Nat, j < n ∧ x = nI j := by
  by_cases h : x < 0
  · exact Or.inl h
  · obtain ⟨j, hj, rfl⟩ := nI_of h
    by_cases h2 : j < n
    · exact Or.inr (Or.inr ⟨j, h2, rfl⟩)
    · exact Or.inr (Or.inl (nI_le (by omega) hj))
theorem pk_vb (z : Int32) : vp_nar .byte z.toInt8.toInt32 = z.toInt8.toInt32 := by rw [vp_nar_byte]; simp
theorem pk_loop {σ : Type} (W : Nat → Nat → σ → Prop) (I : Nat → σ → Prop) (e i0 : Nat) (s : σ) (hi : i0 ≤ e) (h0 : I i0 s) (hx : ∀ n s, I e s → W (n + 1) e s)
    (hs : ∀ n i s, i < e → I i s → (∀ s', I (i + 1) s' → W n (i + 1) s') → W (n + 1) i s) : ∃ n, W n i0 s :=
  ⟨e + 1, loop_i W I e hx hs (e + 1) i0 s hi (by omega) h0⟩
theorem pk_least (P : Nat → Prop) (h : ∃ k, P k) : ∃ k, P k ∧ ∀ j, j < k → ¬ P j := by
  obtain ⟨k, hk⟩ := h
  induction k using Nat.strongRecOn with
  | ind k ih =>
    by_cases e : ∃ j, j < k ∧ P j
    · obtain ⟨j, hj, pj⟩ := e
      exact ih j hj pj
    · exact ⟨k, hk, fun j hj pj => e ⟨j, hj, pj⟩⟩
def bt (x : Int32) (i : Nat) : Bool := x.toBitVec.getLsbD i
theorem b_ext {x y : Int32} (h : ∀ i, i < 32 → bt x i = bt y i) : x = y := Int32.toBitVec_inj.mp (BitVec.eq_of_getLsbD_eq (fun i hi => h i hi))
theorem b_or (x y : Int32) (i : Nat) : bt (x ||| y) i = (bt x i || bt y i) := by unfold bt; rw [Int32.toBitVec_or, BitVec.getLsbD_or]
theorem b_and (x y : Int32) (i : Nat) : bt (x &&& y) i = (bt x i && bt y i) := by unfold bt; rw [Int32.toBitVec_and, BitVec.getLsbD_and]
theorem b_xor (x y : Int32) (i : Nat) : bt (x ^^^ y) i = (bt x i ^^ bt y i) := by unfold bt; rw [Int32.toBitVec_xor, BitVec.getLsbD_xor]
theorem b_big {x : Int32} {i : Nat} (h : 32 ≤ i) : bt x i = false := BitVec.getLsbD_of_ge _ _ h
theorem b_m1 : ∀ i, i < 32 → bt (-1) i = true := by decide +kernel
theorem b_0 (i : Nat) : bt 0 i = false := BitVec.getLsbD_zero
theorem s_l : ∀ n, n < 32 → ((nI n &&& 31).toBitVec.smod 32).toNat = n := by decide +kernel
theorem b_shl (n : Nat) (hn : n < 32) (x : Int32) {i : Nat} (hi : i < 32) : bt (x <<< (nI n &&& 31)) i = (decide (n ≤ i) && bt x (i - n)) := by
  unfold bt
  rw [Int32.toBitVec_shiftLeft]
  show (x.toBitVec <<< ((nI n &&& 31).toBitVec.smod 32).toNat).getLsbD i = _
  rw [s_l n hn, BitVec.getLsbD_shiftLeft]
  rcases Nat.lt_or_ge i n with h | h
  · simp [h, Nat.not_le.mpr h]
  · simp [hi, h, Nat.not_lt.mpr h]
theorem b_sshr (n : Nat) (hn : n < 32) (x : Int32) {i : Nat} (hi : i < 32) : bt (x >>> (nI n &&& 31)) i = if n + i < 32 then bt x (n + i) else bt x 31 := by
  unfold bt
  rw [Int32.toBitVec_shiftRight]
  show (x.toBitVec.sshiftRight ((nI n &&& 31).toBitVec.smod 32).toNat).getLsbD i = _
  rw [s_l n hn, BitVec.getLsbD_sshiftRight, BitVec.msb_eq_getLsbD_last]
  simp [hi]
end
section
/-! sets of bits: Java's tests and masks by bits; counts -/
def b1 (j : Nat) : Int32 := (1 : Int32) <<< (nI j &&& 31)
theorem sf_b1t : ∀ j, j < 32 → ∀ i, i < 32 → bt (b1 j) i = decide (i = j) := by decide +kernel
theorem sf_b1 {j : Nat} (hj : j < 32) (i : Nat) : bt (b1 j) i = decide (i = j) := by
  rcases Nat.lt_or_ge i 32 with h | h
  · exact sf_b1t j hj i h
  · rw [b_big h, decide_eq_false (by omega)]
theorem sf_one : ∀ i, i < 32 → bt 1 i = decide (i = 0) := by decide +kernel
theorem sf_sh {x : Int32} {j : Nat} (hj : j < 32) : ((x >>> (nI j &&& 31)) &&& 1) = if bt x j = true then 1 else 0 := by
  apply b_ext
  intro i hi
  rw [b_and, b_sshr j hj x hi, sf_one i hi]
  by_cases e : i = 0
  · subst e
    rw [Nat.add_zero, if_pos hj, decide_eq_true rfl, Bool.and_true]
    cases h : bt x j
    · rw [if_neg (by decide), b_0]
    · rw [if_pos rfl, sf_one 0 (by decide)]; rfl
  · have e1 : decide (i = 0) = false := decide_eq_false e
    rw [e1, Bool.and_false]
    split
    · rw [sf_one i hi, e1]
    · rw [b_0]
theorem sf_t {x : Int32} {j : Nat} (hj : j < 32) : ((x >>> (nI j &&& 31)) &&& 1) = 1 ↔ bt x j = true := by
  rw [sf_sh hj]
  cases bt x j <;> decide
theorem sf_t0 {x : Int32} {j : Nat} (hj : j < 32) : ((x >>> (nI j &&& 31)) &&& 1) = 0 ↔ bt x j = false := by
  rw [sf_sh hj]
  cases bt x j <;> decide
theorem sf_br {x : Int32} {j : Nat} {A B : Prop} (hj : j < 32) (f : bt x j = true → A) (g : bt x j = false → B) : (((x >>> (nI j &&& 31)) &&& 1) = 1 → A) ∧ (¬ ((x >>> (nI j &&& 31)) &&& 1) = 1 → B) := by
  rw [sf_t hj]
  exact ⟨f, fun h => g (by cases e : bt x j; rfl; exact absurd e h)⟩
theorem sf_br0 {x : Int32} {j : Nat} {A B : Prop} (hj : j < 32) (f : bt x j = false → A) (g : bt x j = true → B) : (((x >>> (nI j &&& 31)) &&& 1) = 0 → A) ∧ (¬ ((x >>> (nI j &&& 31)) &&& 1) = 0 → B) := by
  rw [sf_t0 hj]
  exact ⟨f, fun h => g (by cases e : bt x j; exact absurd e h; rfl)⟩
theorem sf_n (x : Int32) {i : Nat} (hi : i < 32) : bt (x ^^^ (-1)) i = !bt x i := by rw [b_xor, b_m1 i hi, Bool.xor_true]
theorem sf_mk : ∀ n, n < 18 → ∀ i, i < 32 → bt (b1 n - 1) i = decide (i < n) := by decide +kernel
theorem sf_lt {x : Int32} {i : Nat} (h : bt x i = true) : i < 32 := by
  rcases Nat.lt_or_ge i 32 with z | z
  · exact z
  · rw [b_big z] at h; exact absurd h (by decide)
theorem sf_z {x : Int32} (h : ∀ i, bt x i = false) : x = 0 := b_ext (fun i _ => by rw [h i, b_0])
theorem sf_nz {x : Int32} (h : ¬ x = 0) : ∃ i, bt x i = true := by
  apply Classical.byContradiction
  intro n
  apply h
  apply sf_z
  intro i
  cases e : bt x i
  · rfl
  · exact absurd ⟨i, e⟩ n
theorem sf_ne {x y : Int32} (h : ¬ x = y) : ∃ i, bt x i ≠ bt y i := by
  apply Classical.byContradiction
  intro n
  exact h (b_ext (fun i _ => Classical.byContradiction (fun z => n ⟨i, z⟩)))
theorem sf_eqb {x y : Int32} (h : ∀ i, bt x i = true ↔ bt y i = true) : x = y := by
  apply b_ext
  intro i _
  have := h i
  cases e : bt x i <;> cases e' : bt y i <;> simp_all
theorem sf_f {b : Bool} (h : ¬ b = true) : b = false := by cases b; rfl; exact absurd rfl h
/-- x and not w -/
theorem sf_an {x w : Int32} {i : Nat} : bt (x &&& (w ^^^ (-1))) i = true ↔ bt x i = true ∧ ¬ bt w i = true := by
  rcases Nat.lt_or_ge i 32 with h | h
  · rw [b_and, sf_n w h]
    cases bt x i <;> cases bt w i <;> simp
  · rw [b_big h, b_big h]
    simp
theorem sf_or {x y : Int32} {i : Nat} : bt (x ||| y) i = true ↔ bt x i = true ∨ bt y i = true := by
  rw [b_or]; cases bt x i <;> cases bt y i <;> simp
theorem sf_and {x y : Int32} {i : Nat} : bt (x &&& y) i = true ↔ bt x i = true ∧ bt y i = true := by
  rw [b_and]; cases bt x i <;> cases bt y i <;> simp
theorem sf_1 {j : Nat} (hj : j < 32) {i : Nat} : bt (b1 j) i = true ↔ i = j := by rw [sf_b1 hj]; simp
theorem sf_0 {i : Nat} : ¬ bt 0 i = true := by rw [b_0]; decide
theorem sf_mask {n : Nat} (hn : n < 18) {i : Nat} : bt (b1 n - 1) i = true ↔ i < n := by
  rcases Nat.lt_or_ge i 32 with h | h
  · rw [sf_mk n hn i h]; simp
  · rw [b_big h]
    constructor
    · intro z; exact absurd z (by decide)
    · intro z; omega
/-- counts -/
def cnk (P : Nat → Bool) : Nat → Nat
  | 0 => 0
  | n + 1 => cnk P n + (if P n = true then 1 else 0)
theorem cnk_s (P : Nat → Bool) (n : Nat) : cnk P (n + 1) = cnk P n + (if P n = true then 1 else 0) := rfl
theorem cnk_n (P : Nat → Bool) : ∀ n, cnk P n ≤ n := by
  intro n
  induction n with
  | zero => exact Nat.le_refl _
  | succ n ih => rw [cnk_s]; split <;> omega
theorem cnk_le {P Q : Nat → Bool} : ∀ n, (∀ j, j < n → P j = true → Q j = true) → cnk P n ≤ cnk Q n := by
  intro n
  induction n with
  | zero => intro _; exact Nat.le_refl _
  | succ n ih =>
    intro h
    have i1 := ih (fun j hj => h j (by omega))
    have i2 := h n (by omega)
    rw [cnk_s, cnk_s]
    by_cases e : P n = true
    · rw [if_pos e, if_pos (i2 e)]; omega
    · rw [if_neg e]; omega
theorem cnk_lt {P Q : Nat → Bool} {k : Nat} : ∀ n, (∀ j, j < n → P j = true → Q j = true) → k < n → ¬ P k = true → Q k = true → cnk P n < cnk Q n := by
  intro n
  induction n with
  | zero => intro _ h; omega
  | succ n ih =>
    intro h hk p q
    rw [cnk_s, cnk_s]
    by_cases e : k = n
    · subst e
      have i1 := cnk_le k (fun j hj => h j (by omega))
      rw [if_neg p, if_pos q]; omega
    · have i1 := ih (fun j hj => h j (by omega)) (by omega) p q
      have i2 := h n (by omega)
      by_cases e : P n = true
      · rw [if_pos e, if_pos (i2 e)]; omega
      · rw [if_neg e]; omega
/-- the number of bits of a set -/
def cn (x : Int32) : Nat := cnk (bt x) 32
theorem cn_le {x y : Int32} (h : ∀ j, bt x j = true → bt y j = true) : cn x ≤ cn y := cnk_le 32 (fun j _ => h j)
theorem cn_lt {x y : Int32} (h : ∀ j, bt x j = true → bt y j = true) (n : ¬ x = y) : cn x < cn y := by
  obtain ⟨i, hi⟩ := sf_ne n
  have h1 := h i
  cases e : bt x i
  · cases e' : bt y i
    · rw [e, e'] at hi; exact absurd rfl hi
    · exact cnk_lt 32 (fun j _ => h j) (sf_lt e') (by rw [e]; decide) e'
  · rw [e, h1 e] at hi; exact absurd rfl hi
theorem cnk_z {P : Nat → Bool} {m : Nat} : ∀ n, (∀ j, P j = true → j < m) → cnk P n ≤ m := by
  intro n h
  induction n with
  | zero => exact Nat.zero_le _
  | succ n ih =>
    rw [cnk_s]
    by_cases e : P n = true
    · have := h n e
      have := cnk_n P n
      rw [if_pos e]; omega
    · rw [if_neg e]; omega
theorem cn_m {x : Int32} {m : Nat} (h : ∀ j, bt x j = true → j < m) : cn x ≤ m := cnk_z 32 h
/-- the sum of the counts of n sets -/
def sm (f : Nat → Int32) : Nat → Nat
  | 0 => 0
  | n + 1 => sm f n + cn (f n)
theorem sm_s (f : Nat → Int32) (n : Nat) : sm f (n + 1) = sm f n + cn (f n) := rfl
theorem sm_out {f : Nat → Int32} {k : Nat} {v : Int32} : ∀ n, n ≤ k → sm (upd f k v) n = sm f n := by
  intro n
  induction n with
  | zero => intro _; rfl
  | succ n ih => intro h; rw [sm_s, sm_s, ih (by omega), pk_un (by omega)]
theorem sm_upd {f : Nat → Int32} {k : Nat} {v : Int32} : ∀ n, k < n → sm (upd f k v) n + cn (f k) = sm f n + cn v := by
  intro n
  induction n with
  | zero => intro h; omega
  | succ n ih =>
    intro h
    rw [sm_s, sm_s]
    by_cases e : k = n
    · subst e
      rw [sm_out k (Nat.le_refl _), pk_us]; omega
    · have := ih (by omega)
      rw [pk_un (show n ≠ k by omega)]; omega
theorem sm_b (f : Nat → Int32) : ∀ n, sm f n ≤ 32 * n := by
  intro n
  induction n with
  | zero => exact Nat.le_refl _
  | succ n ih => rw [sm_s]; have : cn (f n) ≤ 32 := cnk_n _ 32; omega
theorem sm_le {f g : Nat → Int32} : ∀ n, (∀ i, i < n → ∀ j, bt (f i) j = true → bt (g i) j = true) → sm f n ≤ sm g n := by
  intro n
  induction n with
  | zero => intro _; exact Nat.le_refl _
  | succ n ih =>
    intro h
    have := ih (fun i hi => h i (by omega))
    have := cn_le (h n (by omega))
    rw [sm_s, sm_s]; omega
theorem sm_lt {f g : Nat → Int32} {k : Nat} : ∀ n, (∀ i, i < n → ∀ j, bt (f i) j = true → bt (g i) j = true) → k < n → ¬ f k = g k → sm f n < sm g n := by
  intro n
  induction n with
  | zero => intro _ h; omega
  | succ n ih =>
    intro h hk q
    have h2 := cn_le (h n (by omega))
    rw [sm_s, sm_s]
    by_cases e : k = n
    · subst e
      have := sm_le k (fun i hi => h i (by omega))
      have := cn_lt (h k (by omega)) q
      omega
    · have := ih (fun i hi => h i (by omega)) (by omega) q
      omega
theorem sf_upd_self {f : Nat → Int32} {k : Nat} : upd f k (f k) = f := by
  funext j
  by_cases e : j = k
  · rw [e, pk_us]
  · rw [pk_un e]
end
section
/-! ways: least sets, forwards (RR) and backwards (AV) -/
def RR (N : Nat) (E : Nat → Nat → Prop) (S0 W : Nat → Prop) (j : Nat) : Prop :=
  ∀ S : Nat → Prop, (∀ j, S0 j → ¬ W j → S j) → (∀ i j, i < N → S i → E i j → ¬ W j → S j) → S j
def AV (N : Nat) (E : Nat → Nat → Prop) (W : Nat → Prop) (i : Nat) : Prop :=
  ∀ S : Nat → Prop, (¬ W N → S N) → (∀ i j, i < N → ¬ W i → E i j → S j → S i) → S i
def NW : Nat → Prop := fun _ => False
/-- q is a meeting place of b -/
def MT (N : Nat) (E : Nat → Nat → Prop) (b q : Nat) : Prop := q ≠ b ∧ q ≤ N ∧ AV N E NW b ∧ ¬ AV N E (fun j => j = q) b
/-- q is the nearest one -/
def NR (N : Nat) (E : Nat → Nat → Prop) (b q : Nat) : Prop := MT N E b q ∧ RR N E (E b) (fun j => MT N E b j ∧ j ≠ q) q
section
variable {N : Nat} {E : Nat → Nat → Prop} {S0 W W' : Nat → Prop} {i j b q q' r : Nat}
theorem RR_b (h : S0 j) (w : ¬ W j) : RR N E S0 W j := fun _ f _ => f j h w
theorem RR_s (hi : i < N) (h : RR N E S0 W i) (e : E i j) (w : ¬ W j) : RR N E S0 W j := fun S f g => g i j hi (h S f g) e w
theorem RR_w (h : RR N E S0 W j) : ¬ W j := h (fun j => ¬ W j) (fun _ _ w => w) (fun _ _ _ _ _ w => w)
theorem RR_le (h0 : ∀ j, S0 j → j ≤ N) (hE : ∀ i j, i < N → E i j → j ≤ N) (h : RR N E S0 W j) : j ≤ N :=
  h (fun j => j ≤ N) (fun j s _ => h0 j s) (fun i j hi _ e _ => hE i j hi e)
theorem RR_m (hw : ∀ j, W' j → W j) (h : RR N E S0 W j) : RR N E S0 W' j :=
  h (fun j => RR N E S0 W' j) (fun j s w => RR_b s (fun z => w (hw j z))) (fun i j hi s e w => RR_s hi s e (fun z => w (hw j z)))
theorem RR_c (hs : ∀ j, S0 j ↔ W' j) (h : RR N E S0 W j) : RR N E W' W j :=
  h (fun j => RR N E W' W j) (fun j s w => RR_b ((hs j).mp s) w) (fun i j hi s e w => RR_s hi s e w)
theorem AV_b (w : ¬ W N) : AV N E W N := fun _ f _ => f w
theorem AV_s (hi : i < N) (w : ¬ W i) (e : E i j) (h : AV N E W j) : AV N E W i := fun S f g => g i j hi w e (h S f g)
theorem AV_w (h : AV N E W i) : ¬ W i := h (fun i => ¬ W i) (fun w => w) (fun _ _ _ w _ _ => w)
theorem AV_m (hw : ∀ j, W' j → W j) (h : AV N E W i) : AV N E W' i :=
  h (fun i => AV N E W' i) (fun w => AV_b (fun z => w (hw N z))) (fun i j hi w e s => AV_s hi (fun z => w (hw i z)) e s)
theorem AV_le (h : AV N E W i) : i ≤ N := h (fun i => i ≤ N) (fun _ => Nat.le_refl _) (fun i _ hi _ _ _ => by omega)
theorem AV_nw (h : AV N E W i) : AV N E NW i := AV_m (fun _ z => z.elim) h
/-- forwards and backwards -/
theorem RR_AV (hb : b < N) (wb : ¬ W b) (wN : ¬ W N) : RR N E (E b) W N ↔ AV N E W b := by
  constructor
  · intro h
    have k : ¬ W N ∧ (AV N E W N → AV N E W b) := h (fun j => ¬ W j ∧ (AV N E W j → AV N E W b)) (fun j e w => ⟨w, fun a => AV_s hb wb e a⟩)
      (fun i j hi s e w => ⟨w, fun a => s.2 (AV_s hi s.1 e a)⟩)
    exact k.2 (AV_b wN)
  · intro h
    have k : ¬ W b ∧ ((b = b ∨ RR N E (E b) W b) → RR N E (E b) W N) := h (fun j => ¬ W j ∧ ((j = b ∨ RR N E (E b) W j) → RR N E (E b) W N))
      (fun w => ⟨w, fun z => z.elim (fun e => absurd e (by omega)) id⟩)
      (fun i j hi w e s => ⟨w, fun z => s.2 (Or.inr (z.elim (fun eb => RR_b (eb ▸ e) s.1) (fun h => RR_s hi h e s.1)))⟩)
    exact k.2 (Or.inl rfl)
/-- the nearest one's ways to the end come by every meeting place -/
theorem MT_lt (h : MT N E b q) : b < N := by
  have h1 : b ≤ N := AV_le h.2.2.1
  by_cases z : b = N
  · exfalso
    apply h.2.2.2
    rw [z]
    exact AV_b (fun y => h.1 (Eq.trans (Eq.symm y) z.symm))
  · omega
theorem NR_all (h : NR N E b q) (h' : MT N E b q') : ¬ AV N E (fun j => j = q') q := by
  intro a
  by_cases e : q' = q
  · exact AV_w a e.symm
  · have hb : b < N := MT_lt h'
    have k := h.2 (fun j => j ≠ q' ∧ (AV N E (fun j => j = q') j → AV N E (fun j => j = q') b))
      (fun j ej w => ⟨fun x => w ⟨by rw [x]; exact h', by rw [x]; exact e⟩, fun a => AV_s hb (fun z => h'.1 (Eq.symm z)) ej a⟩)
      (fun i j hi s ej w => ⟨fun x => w ⟨by rw [x]; exact h', by rw [x]; exact e⟩, fun a => s.2 (AV_s hi s.1 ej a)⟩)
    exact h'.2.2.2 (k.2 a)
/-- what the farther place has behind it the nearer has too .. -/
theorem AV_via (h : ¬ AV N E (fun j => j = q') q) (a : AV N E (fun j => j = r) q) : AV N E (fun j => j = r) q' := by
  have k : AV N E (fun j => j = r) q ∧ (AV N E (fun j => j = r) q' ∨ AV N E (fun j => j = q') q) :=
    a (fun i => AV N E (fun j => j = r) i ∧ (AV N E (fun j => j = r) q' ∨ AV N E (fun j => j = q') i))
      (fun w => ⟨AV_b w, by
        by_cases e : N = q'
        · exact Or.inl (e ▸ AV_b w)
        · exact Or.inr (AV_b e)⟩)
      (fun i j hi w e s => ⟨AV_s hi w e s.1, by
        rcases s.2 with y | y
        · exact Or.inl y
        · by_cases ei : i = q'
          · exact Or.inl (ei ▸ AV_s hi w e s.1)
          · exact Or.inr (AV_s hi ei e y)⟩)
  exact k.2.elim id (fun z => absurd z h)
/-- .. and itself besides -/
theorem AV_anti (ne : q ≠ q') (a : AV N E NW b) : (AV N E (fun j => j = q) q' ∨ AV N E (fun j => j = q') q) ∨ (AV N E (fun j => j = q) b ∧ AV N E (fun j => j = q') b) :=
  a (fun i => (AV N E (fun j => j = q) q' ∨ AV N E (fun j => j = q') q) ∨ (AV N E (fun j => j = q) i ∧ AV N E (fun j => j = q') i))
    (fun _ => by
      by_cases e : N = q
      · exact Or.inl (Or.inr (e ▸ AV_b (fun z => ne (e.symm.trans z))))
      · by_cases e' : N = q'
        · exact Or.inl (Or.inl (e' ▸ AV_b e))
        · exact Or.inr ⟨AV_b e, AV_b e'⟩)
    (fun i j hi _ e s => by
      rcases s with y | y
      · exact Or.inl y
      · by_cases e1 : i = q
        · exact Or.inl (Or.inr (e1 ▸ AV_s hi (fun z => ne (e1.symm.trans z)) e y.2))
        · by_cases e2 : i = q'
          · exact Or.inl (Or.inl (e2 ▸ AV_s hi e1 e y.1))
          · exact Or.inr ⟨AV_s hi e1 e y.1, AV_s hi e2 e y.2⟩)
theorem NR_sub (h : NR N E b q) (h' : MT N E b q') (hr : ¬ AV N E (fun j => j = r) q') : ¬ AV N E (fun j => j = r) q :=
  fun a => hr (AV_via (NR_all h h') a)
theorem NR_str (h : NR N E b q) (h' : MT N E b q') (ne : q ≠ q') : AV N E (fun j => j = q) q' := by
  rcases AV_anti ne h'.2.2.1 with y | y
  · rcases y with z | z
    · exact z
    · exact absurd z (NR_all h h')
  · exact absurd y.1 h.1.2.2.2
theorem AV_self : ¬ AV N E (fun j => j = q) q := fun a => AV_w a rfl
/-- there is a nearest one -/
theorem MT_N (hb : b < N) (a : AV N E NW b) : MT N E b N := ⟨by omega, Nat.le_refl _, a, fun z => by
  have : N = N → False := z (fun _ => N = N → False) (fun w => w) (fun _ _ _ _ _ s => s)
  exact this rfl⟩
theorem NR_ex (hE : ∀ i j, i < N → E i j → j ≤ N) (hb : b < N) (a : AV N E NW b) : ∃ q, NR N E b q := by
  have k : (b = b ∨ RR N E (E b) (MT N E b) b) → ∃ q, NR N E b q :=
    a (fun i => (i = b ∨ RR N E (E b) (MT N E b) i) → ∃ q, NR N E b q)
      (fun _ z => z.elim (fun e => absurd e (by omega)) (fun h => absurd (MT_N hb a) (RR_w h)))
      (fun i j hi _ e s z => by
        by_cases m : MT N E b j
        · refine ⟨j, m, ?_⟩
          rcases z with y | y
          · exact RR_b (y ▸ e) (fun x => x.2 rfl)
          · exact RR_s hi (RR_m (fun _ x => x.1) y) e (fun x => x.2 rfl)
        · apply s
          right
          rcases z with y | y
          · exact RR_b (y ▸ e) m
          · exact RR_s hi y e m)
  exact k (Or.inl rfl)
theorem NR_uniq (h : NR N E b q) (h' : NR N E b q') : q = q' := by
  apply Classical.byContradiction
  intro ne
  exact NR_all h' h.1 (NR_str h h'.1 ne)
end
end
section
/-! what both sides compute, plainly: the program, ways, meeting places -/
def tg (N : Nat) (x : Nat → Nat) (i : Nat) : Nat := if x i ≤ N then x i else N
def nx (N : Nat) (o x : Nat → Nat) (i : Nat) : Int32 :=
  if o i = 5 then b1 (tg N x i) else if o i = 6 then b1 (i + 1) ||| b1 (tg N x i) else if o i = 7 then b1 N else b1 (i + 1)
def EB (f : Nat → Int32) (i j : Nat) : Prop := bt (f i) j = true
def PG (N : Nat) (o r x : Nat → Nat) : Prop := 1 ≤ N ∧ N ≤ 16 ∧ ∀ i, i < N → o i ≤ 7 ∧ r i < 4 ∧ x i ≤ 16 ∧ (o i ≤ 3 → x i < 4)
def prX (N : Nat) (o r x : Nat → Nat) (op fi se : Nat → Int32) : Prop := ∀ i, i < N → op i = nI (o i) ∧ fi i = nI (r i) ∧ se i = nI (x i)
def prY (N : Nat) (o r x : Nat → Nat) (op fi se : Nat → Int32) : Prop :=
  ∀ i, i < N → op i = nI (o i) ∧ (o i ≤ 4 ∨ o i = 6 → fi i = nI (r i)) ∧ (o i ≤ 3 ∨ o i = 5 ∨ o i = 6 → se i = nI (x i))
theorem tg_le (N : Nat) (x : Nat → Nat) (i : Nat) : tg N x i ≤ N := by
  unfold tg
  split <;> omega
theorem nx_le {N : Nat} {o x : Nat → Nat} {i j : Nat} (hN : N ≤ 16) (hi : i < N) (h : EB (nx N o x) i j) : j ≤ N := by
  have ht := tg_le N x i
  unfold EB nx at h
  by_cases h5 : o i = 5
  · rw [if_pos h5, sf_1 (by omega)] at h; omega
  · rw [if_neg h5] at h
    by_cases h6 : o i = 6
    · rw [if_pos h6, sf_or, sf_1 (by omega), sf_1 (by omega)] at h; omega
    · rw [if_neg h6] at h
      by_cases h7 : o i = 7
      · rw [if_pos h7, sf_1 (by omega)] at h; omega
      · rw [if_neg h7, sf_1 (by omega)] at h; omega
/-- one pass of spread, of reach -/
def st1 (f : Nat → Int32) (w : Int32) (i : Nat) (s : Int32) : Int32 := if bt s i = true then s ||| (f i &&& (w ^^^ (-1))) else s
def spf (f : Nat → Int32) (w : Int32) : Nat → Int32 → Int32
  | 0, s => s
  | i + 1, s => st1 f w i (spf f w i s)
theorem spf_s (f : Nat → Int32) (w : Int32) (i : Nat) (s : Int32) : spf f w (i + 1) s = st1 f w i (spf f w i s) := rfl
theorem spf_t {f : Nat → Int32} {w : Int32} {i : Nat} {s : Int32} (h : bt (spf f w i s) i = true) : spf f w (i + 1) s = spf f w i s ||| (f i &&& (w ^^^ (-1))) := if_pos h
theorem spf_n {f : Nat → Int32} {w : Int32} {i : Nat} {s : Int32} (h : bt (spf f w i s) i = false) : spf f w (i + 1) s = spf f w i s := if_neg (by rw [h]; decide)
theorem st1_sub {f : Nat → Int32} {w : Int32} {i : Nat} {s : Int32} {j : Nat} (h : bt s j = true) : bt (st1 f w i s) j = true := by
  unfold st1
  split
  · exact sf_or.mpr (Or.inl h)
  · exact h
theorem spf_sub {f : Nat → Int32} {w : Int32} {s : Int32} {j i : Nat} : ∀ d, bt (spf f w i s) j = true → bt (spf f w (i + d) s) j = true := by
  intro d h
  induction d with
  | zero => exact h
  | succ d ih => exact st1_sub ih
theorem spf_sub0 {f : Nat → Int32} {w : Int32} {s : Int32} {j : Nat} (i : Nat) (h : bt s j = true) : bt (spf f w i s) j = true := by
  have k : bt (spf f w (0 + i) s) j = true := spf_sub (i := 0) i h
  rw [Nat.zero_add] at k
  exact k
theorem spf_sound {N : Nat} {f : Nat → Int32} {w : Int32} {s : Int32} {S : Nat → Prop} (h0 : ∀ j, bt s j = true → S j)
    (hc : ∀ i j, i < N → S i → bt (f i) j = true → ¬ bt w j = true → S j) : ∀ k, k ≤ N → ∀ j, bt (spf f w k s) j = true → S j := by
  intro k
  induction k with
  | zero => intro _ j h; exact h0 j h
  | succ k ih =>
    intro hk j h
    rw [spf_s] at h
    unfold st1 at h
    by_cases e : bt (spf f w k s) k = true
    · rw [if_pos e, sf_or, sf_an] at h
      rcases h with h | h
      · exact ih (by omega) j h
      · exact hc k j (by omega) (ih (by omega) k e) h.1 h.2
    · rw [if_neg e] at h
      exact ih (by omega) j h
theorem spf_fix {N : Nat} {f : Nat → Int32} {w : Int32} {s : Int32} {i j : Nat} (h : s = spf f w N s) (hi : i < N) (hs : bt s i = true) (hf : bt (f i) j = true) (hw : ¬ bt w j = true) : bt s j = true := by
  have k1 : bt (spf f w i s) i = true := spf_sub0 i hs
  have k2 : bt (spf f w (i + 1) s) j = true := by
    rw [spf_t k1]
    exact sf_or.mpr (Or.inr (sf_an.mpr ⟨hf, hw⟩))
  have k3 : bt (spf f w (i + 1 + (N - (i + 1))) s) j = true := spf_sub _ k2
  rw [show i + 1 + (N - (i + 1)) = N by omega] at k3
  rw [h]
  exact k3
/-- the rounds: before s stood b; r rounds are done -/
def SI (N : Nat) (f : Nat → Int32) (p w : Int32) (r : Nat) (s b : Int32) : Prop :=
  (∀ j, bt p j = true → ¬ bt w j = true → bt s j = true) ∧ (∀ j, bt s j = true → RR N (EB f) (fun j => bt p j = true) (fun j => bt w j = true) j) ∧
  ((r = 0 ∧ (s = b → s = 0)) ∨ (1 ≤ r ∧ s = spf f w N b ∧ r ≤ cn b + 1))
def RB (N : Nat) (f : Nat → Int32) (p w : Int32) (s : Int32) : Prop := ∀ j, bt s j = true ↔ RR N (EB f) (fun j => bt p j = true) (fun j => bt w j = true) j
theorem SI_end {N : Nat} {f : Nat → Int32} {p w s b : Int32} {r : Nat} (h : SI N f p w r s b) (e : s = b) : RB N f p w s := by
  obtain ⟨h1, h2, h3⟩ := h
  intro j
  refine ⟨h2 j, fun k => k (fun j => bt s j = true) h1 (fun i j hi hs hf hw => ?_)⟩
  rcases h3 with ⟨_, z⟩ | ⟨_, z, _⟩
  · rw [z e] at hs
    exact absurd hs sf_0
  · rw [← e] at z
    exact spf_fix z hi hs hf hw
theorem SI_sub {N : Nat} {f : Nat → Int32} {w s b : Int32} (h : s = spf f w N b) : ∀ j, bt b j = true → bt s j = true := by
  intro j hj
  rw [h]
  exact spf_sub0 N hj
theorem SI_18 {N : Nat} {f : Nat → Int32} {p w s b : Int32} (hN : N ≤ 16) (hp : ∀ j, bt p j = true → j ≤ N) (hf : ∀ i j, i < N → EB f i j → j ≤ N) (h : SI N f p w 18 s b) : s = b := by
  obtain ⟨h1, h2, h3⟩ := h
  apply Classical.byContradiction
  intro ne
  rcases h3 with ⟨z, _⟩ | ⟨_, z, k⟩
  · omega
  · have c1 : cn b < cn s := cn_lt (SI_sub z) (fun y => ne y.symm)
    have c2 : cn s ≤ 17 := cn_m (fun j hj => by have := RR_le hp hf (h2 j hj); omega)
    omega
theorem SI_step {N : Nat} {f : Nat → Int32} {p w s b : Int32} {r : Nat} (h : SI N f p w r s b) (ne : ¬ s = b) : SI N f p w (r + 1) (spf f w N s) s := by
  obtain ⟨h1, h2, h3⟩ := h
  refine ⟨fun j hp hw => spf_sub0 N (h1 j hp hw), spf_sound h2 (fun i j hi hs hf hw => RR_s hi hs hf hw) N (Nat.le_refl _), Or.inr ⟨by omega, rfl, ?_⟩⟩
  rcases h3 with ⟨z, _⟩ | ⟨_, z, k⟩
  · omega
  · have c1 : cn b < cn s := cn_lt (SI_sub z) (fun y => ne y.symm)
    omega
theorem SI_0 {N : Nat} {f : Nat → Int32} {p w b : Int32} (h : p &&& (w ^^^ (-1)) = b → p &&& (w ^^^ (-1)) = 0) : SI N f p w 0 (p &&& (w ^^^ (-1))) b :=
  ⟨fun j hp hw => sf_an.mpr ⟨hp, hw⟩, fun j hj => RR_b (sf_an.mp hj).1 (sf_an.mp hj).2, Or.inl ⟨rfl, h⟩⟩
theorem RB_u {N : Nat} {f : Nat → Int32} {p w s s' : Int32} (h : RB N f p w s) (h' : RB N f p w s') : s = s' := sf_eqb (fun j => (h j).trans (h' j).symm)
/-- the places from which there is a way to the end -/
def et1 (f : Nat → Int32) (i : Nat) (s : Int32) : Int32 := if f i &&& s = 0 then s else s ||| b1 i
def ef (f : Nat → Int32) : Nat → Int32 → Int32
  | 0, s => s
  | i + 1, s => ef f i (et1 f i s)
theorem ef_s (f : Nat → Int32) (i : Nat) (s : Int32) : ef f (i + 1) s = ef f i (et1 f i s) := rfl
theorem et1_sub {f : Nat → Int32} {i : Nat} {s : Int32} {j : Nat} (h : bt s j = true) : bt (et1 f i s) j = true := by
  unfold et1
  split
  · exact h
  · exact sf_or.mpr (Or.inl h)
theorem ef_sub {f : Nat → Int32} {j : Nat} : ∀ (i : Nat) (s : Int32), bt s j = true → bt (ef f i s) j = true := by
  intro i
  induction i with
  | zero => intro s h; exact h
  | succ i ih => intro s h; exact ih _ (et1_sub h)
theorem ef_sound {N : Nat} {f : Nat → Int32} {S : Nat → Prop} (hN : N ≤ 16) (hc : ∀ i j, i < N → bt (f i) j = true → S j → S i) :
    ∀ (k : Nat) (s : Int32), k ≤ N → (∀ j, bt s j = true → S j) → ∀ j, bt (ef f k s) j = true → S j := by
  intro k
  induction k with
  | zero => intro s _ h; exact h
  | succ k ih =>
    intro s hk h
    apply ih _ (by omega)
    intro j hj
    unfold et1 at hj
    by_cases e : f k &&& s = 0
    · rw [if_pos e] at hj; exact h j hj
    · rw [if_neg e, sf_or, sf_1 (by omega)] at hj
      rcases hj with hj | hj
      · exact h j hj
      · obtain ⟨q, hq⟩ := sf_nz e
        rw [sf_and] at hq
        rw [hj]
        exact hc k q (by omega) hq.1 (h q hq.2)
theorem ef_hit {f : Nat → Int32} {i j : Nat} (hi : i < 32) (hf : bt (f i) j = true) : ∀ (k : Nat) (s : Int32), i < k → bt s j = true → bt (ef f k s) i = true := by
  intro k
  induction k with
  | zero => intro s h; omega
  | succ k ih =>
    intro s h hs
    rw [ef_s]
    by_cases e : i = k
    · subst e
      apply ef_sub
      unfold et1
      rw [if_neg (fun z => by
        have : bt (f i &&& s) j = true := sf_and.mpr ⟨hf, hs⟩
        rw [z] at this
        exact sf_0 this)]
      exact sf_or.mpr (Or.inr ((sf_1 hi).mpr rfl))
    · exact ih _ (by omega) (et1_sub hs)
def EI (N : Nat) (f : Nat → Int32) (r : Nat) (s : Int32) : Prop :=
  bt s N = true ∧ (∀ j, bt s j = true → AV N (EB f) NW j) ∧ (ef f N s = s ∨ r + 1 ≤ cn s)
theorem EI_0 {N : Nat} {f : Nat → Int32} (hN : N ≤ 16) : EI N f 0 (b1 N) := by
  refine ⟨(sf_1 (by omega)).mpr rfl, fun j hj => ?_, Or.inr ?_⟩
  · rw [sf_1 (by omega)] at hj
    rw [hj]
    exact AV_b (fun z => z)
  · have : cn 0 < cn (b1 N) := cn_lt (fun j hj => absurd hj sf_0) (fun z => by
      have k : bt (b1 N) N = true := (sf_1 (by omega)).mpr rfl
      rw [← z] at k
      exact sf_0 k)
    omega
theorem ef_av {N : Nat} {f : Nat → Int32} {s : Int32} (hN : N ≤ 16) (h : ∀ j, bt s j = true → AV N (EB f) NW j) : ∀ j, bt (ef f N s) j = true → AV N (EB f) NW j :=
  ef_sound hN (fun _ _ hi e a => AV_s hi (fun z => z) e a) N s (Nat.le_refl _) h
theorem EI_s {N : Nat} {f : Nat → Int32} {r : Nat} {s : Int32} (hN : N ≤ 16) (h : EI N f r s) : EI N f (r + 1) (ef f N s) := by
  obtain ⟨h1, h2, h3⟩ := h
  refine ⟨ef_sub N s h1, ef_av hN h2, ?_⟩
  by_cases e : ef f N s = s
  · left; rw [e, e]
  · right
    have : cn s < cn (ef f N s) := cn_lt (fun j hj => ef_sub N s hj) (fun z => e z.symm)
    rcases h3 with h3 | h3
    · exact absurd h3 e
    · omega
theorem EI_16 {N : Nat} {f : Nat → Int32} {s : Int32} (hN : N ≤ 16) (h : EI N f 16 s) : ∀ j, bt s j = true ↔ AV N (EB f) NW j := by
  obtain ⟨h1, h2, h3⟩ := h
  have hfix : ef f N s = s := by
    rcases h3 with h3 | h3
    · exact h3
    · apply Classical.byContradiction
      intro e
      have c1 : cn s < cn (ef f N s) := cn_lt (fun j hj => ef_sub N s hj) (fun z => e z.symm)
      have c2 : cn (ef f N s) ≤ 17 := cn_m (fun j hj => by have := AV_le (ef_av hN h2 j hj); omega)
      omega
  intro j
  refine ⟨h2 j, fun k => k (fun j => bt s j = true) (fun _ => h1) (fun i j hi _ hf hs => ?_)⟩
  have := ef_hit (by omega) hf N s hi hs
  rw [hfix] at this
  exact this
/-- what all ways to the end have in common: the greatest solution, from above -/
def CF (N : Nat) (f : Nat → Int32) (en : Int32) (co : Nat → Int32) (i q : Nat) : Prop :=
  q ≤ N ∧ (q = i ∨ ∀ j, j ≤ N → bt (f i) j = true → bt en j = true → bt (co j) q = true)
def CO (N : Nat) (f : Nat → Int32) (en : Int32) (co : Nat → Int32) : Prop :=
  (∀ i, i ≤ N → ∀ q, bt (co i) q = true → q ≤ N) ∧ (∀ i q, i ≤ N → q ≤ N → ¬ AV N (EB f) (fun j => j = q) i → bt (co i) q = true) ∧ co N = b1 N ∧
  (∀ i q, i < N → CF N f en co i q → bt (co i) q = true)
theorem CO_upd {N : Nat} {f : Nat → Int32} {en : Int32} {co : Nat → Int32} {i : Nat} {v : Int32} (h : CO N f en co) (hi : i < N) (hf : ∀ i j, i < N → EB f i j → j ≤ N)
    (hv : ∀ q, bt v q = true ↔ CF N f en co i q) : CO N f en (upd co i v) := by
  obtain ⟨h1, h2, h3, h4⟩ := h
  have sub : ∀ j q, bt (upd co i v j) q = true → bt (co j) q = true := by
    intro j q hj
    by_cases e : j = i
    · rw [e, pk_us] at hj
      rw [e]
      exact h4 i q hi ((hv q).mp hj)
    · rw [pk_un e] at hj
      exact hj
  refine ⟨fun k hk q hq => h1 k hk q (sub k q hq), fun k q hk hq ha => ?_, by rw [pk_un (by omega)]; exact h3, fun k q hk hc => ?_⟩
  · by_cases e : k = i
    · rw [e, pk_us, hv]
      refine ⟨hq, ?_⟩
      by_cases eq : q = i
      · exact Or.inl eq
      · right
        intro j hj hb _
        apply h2 j q hj hq
        intro a
        apply ha
        rw [e]
        exact AV_s hi (fun z => eq (Eq.symm z)) hb a
    · rw [pk_un e]
      exact h2 k q hk hq ha
  · have hc' : CF N f en co k q := ⟨hc.1, hc.2.imp id (fun z j hj hb he => sub j q (z j hj hb he))⟩
    by_cases e : k = i
    · rw [e] at hc'
      rw [e, pk_us, hv]
      exact hc'
    · rw [pk_un e]
      exact h4 k q hk hc'
theorem CO_end {N : Nat} {f : Nat → Int32} {en : Int32} {co : Nat → Int32} (hN : N ≤ 16) (h : CO N f en co) (he : ∀ j, bt en j = true ↔ AV N (EB f) NW j)
    (hx : ∀ i, i < N → ∀ q, bt (co i) q = true → CF N f en co i q) : ∀ i, i ≤ N → ∀ q, bt (co i) q = true ↔ q ≤ N ∧ ¬ AV N (EB f) (fun j => j = q) i := by
  obtain ⟨h1, h2, h3, _⟩ := h
  intro i hi q
  refine ⟨fun hb => ⟨h1 i hi q hb, fun a => ?_⟩, fun z => h2 i q hi z.1 z.2⟩
  have k : i ≤ N ∧ (¬ bt (co i) q = true) ∧ AV N (EB f) NW i := a (fun i => i ≤ N ∧ (¬ bt (co i) q = true) ∧ AV N (EB f) NW i)
    (fun w => ⟨Nat.le_refl _, by rw [h3, sf_1 (by omega)]; exact fun z => w z.symm, AV_b (fun z => z)⟩)
    (fun i j hi w e s => ⟨by omega, fun hb => by
      rcases (hx i hi q hb).2 with z | z
      · exact w z.symm
      · exact s.2.1 (z j s.1 e ((he j).mpr s.2.2)), AV_s hi (fun z => z) e s.2.2⟩)
  exact k.2.1 hb
theorem CO_0 {N : Nat} {f : Nat → Int32} {en : Int32} {co : Nat → Int32} (hN : N ≤ 16) (h : ∀ i, i < N → co i = b1 (N + 1) - 1) (hn : co N = b1 N) : CO N f en co := by
  have fb : ∀ i, i < N → ∀ q, bt (co i) q = true ↔ q < N + 1 := fun i hi q => by rw [h i hi]; exact sf_mask (by omega)
  refine ⟨fun i hi q hq => ?_, fun i q hi hq ha => ?_, hn, fun i q hi hc => (fb i hi q).mpr (by have := hc.1; omega)⟩
  · by_cases e : i = N
    · rw [e, hn, sf_1 (by omega)] at hq; omega
    · have := (fb i (by omega) q).mp hq; omega
  · by_cases e : i = N
    · rw [e, hn, sf_1 (by omega)]
      apply Classical.byContradiction
      intro z
      apply ha
      rw [e]
      exact AV_b (fun y => z (Eq.symm y))
    · exact (fb i (by omega) q).mpr (by omega)
/-- the set of b's meeting places; what is under b -/
def MB (N : Nat) (f : Nat → Int32) (b : Nat) (m : Int32) : Prop := ∀ q, bt m q = true ↔ MT N (EB f) b q
def UB (N : Nat) (f : Nat → Int32) (b : Nat) (u : Int32) : Prop := ∀ j, bt u j = true ↔ j < N ∧ RR N (EB f) (EB f b) (MT N (EB f) b) j
theorem MB_u {N : Nat} {f : Nat → Int32} {b : Nat} {m m' : Int32} (h : MB N f b m) (h' : MB N f b m') : m = m' := sf_eqb (fun j => (h j).trans (h' j).symm)
theorem UB_u {N : Nat} {f : Nat → Int32} {b : Nat} {m m' : Int32} (h : UB N f b m) (h' : UB N f b m') : m = m' := sf_eqb (fun j => (h j).trans (h' j).symm)
theorem RB_MB {N : Nat} {f : Nat → Int32} {b : Nat} {m s : Int32} (hm : MB N f b m) (h : RB N f (f b) m s) : ∀ j, bt s j = true ↔ RR N (EB f) (EB f b) (MT N (EB f) b) j := by
  intro j
  refine (h j).trans ⟨fun k => RR_m (fun j z => (hm j).mpr z) k, fun k => RR_m (fun j z => (hm j).mp z) k⟩
/-- what meeting answers -/
def NA (N : Nat) (f : Nat → Int32) (b : Nat) (v : Int32) : Prop := (¬ AV N (EB f) NW b ∧ v = -4) ∨ (AV N (EB f) NW b ∧ ∃ q, q ≤ N ∧ NR N (EB f) b q ∧ v = nI q)
theorem NA_u {N : Nat} {f : Nat → Int32} {b : Nat} {v v' : Int32} (h : NA N f b v) (h' : NA N f b v') : v = v' := by
  rcases h with ⟨a, e⟩ | ⟨a, q, _, n, e⟩
  · rcases h' with ⟨a', e'⟩ | ⟨a', _⟩
    · rw [e, e']
    · exact absurd a' a
  · rcases h' with ⟨a', _⟩ | ⟨_, q', _, n', e'⟩
    · exact absurd a a'
    · rw [e, e', NR_uniq n n']
end
section
/-! what registers know, plainly: one round hands sets on from place to place; rounds until nothing is new -/
def bI (b : Bool) : Int32 := if b = true then 1 else 0
theorem bI_t : bI true = 1 := rfl
theorem bI_f : bI false = 0 := rfl
theorem bI_br {b : Bool} {A B : Prop} (f : b = false → A) (g : b = true → B) : (bI b = 0 → A) ∧ (¬ bI b = 0 → B) := by
  cases b
  · exact br_t rfl (f rfl)
  · exact br_f (by decide) (g rfl)
def sq (o r : Nat → Nat) (re : Int32) (K : Nat → Int32) (b : Nat) : Bool := decide (o b = 6) && (bt re b && bt (K b) (r b))
def scf (Q : Nat → Bool) : Nat → Int32
  | 0 => 0
  | i + 1 => if Q i = true then scf Q i ||| b1 i else scf Q i
def dkf (Q : Nat → Bool) (be : Nat → Int32) : Nat → Int32
  | 0 => 0
  | i + 1 => if Q i = true then dkf Q be i ||| be i else dkf Q be i
theorem scf_t {Q : Nat → Bool} {i : Nat} (h : Q i = true) : scf Q (i + 1) = scf Q i ||| b1 i := if_pos h
theorem scf_f {Q : Nat → Bool} {i : Nat} (h : Q i = false) : scf Q (i + 1) = scf Q i := if_neg (by rw [h]; decide)
theorem dkf_t {Q : Nat → Bool} {be : Nat → Int32} {i : Nat} (h : Q i = true) : dkf Q be (i + 1) = dkf Q be i ||| be i := if_pos h
theorem dkf_f {Q : Nat → Bool} {be : Nat → Int32} {i : Nat} (h : Q i = false) : dkf Q be (i + 1) = dkf Q be i := if_neg (by rw [h]; decide)
theorem scf_bt {Q : Nat → Bool} {j : Nat} : ∀ n, n ≤ 32 → (bt (scf Q n) j = true ↔ j < n ∧ Q j = true) := by
  intro n
  induction n with
  | zero => intro _; exact ⟨fun h => absurd h sf_0, fun h => by omega⟩
  | succ n ih =>
    intro hn
    have ih := ih (by omega)
    cases e : Q n
    · rw [scf_f e, ih]
      constructor
      · intro h; exact ⟨by omega, h.2⟩
      · intro h
        refine ⟨?_, h.2⟩
        by_cases z : j = n
        · rw [z, e] at h; exact absurd h.2 (by decide)
        · omega
    · rw [scf_t e, sf_or, ih, sf_1 (by omega)]
      constructor
      · intro h
        rcases h with h | h
        · exact ⟨by omega, h.2⟩
        · rw [h]; exact ⟨by omega, e⟩
      · intro h
        by_cases z : j = n
        · exact Or.inr z
        · exact Or.inl ⟨by omega, h.2⟩
theorem dkf_c {Q Q' : Nat → Bool} {be be' : Nat → Int32} : ∀ n, (∀ i, i < n → Q i = Q' i ∧ be i = be' i) → dkf Q be n = dkf Q' be' n := by
  intro n
  induction n with
  | zero => intro _; rfl
  | succ n ih =>
    intro h
    have h1 := h n (by omega)
    have h2 := ih (fun i hi => h i (by omega))
    cases e : Q n
    · rw [dkf_f e, dkf_f (by rw [← h1.1]; exact e), h2]
    · rw [dkf_t e, dkf_t (by rw [← h1.1]; exact e), h2, h1.2]
/-- behind an instruction -/
def bs (o r x : Nat → Nat) (K : Nat → Int32) (dk : Int32) (i : Nat) : Bool := (decide (o i ≠ 0) && bt (K i) (x i)) || ((decide (2 ≤ o i) && bt (K i) (r i)) || bt dk i)
def bh (o r x : Nat → Nat) (K : Nat → Int32) (dk : Int32) (i : Nat) : Int32 :=
  if o i ≤ 3 then (if bs o r x K dk i = true then K i ||| b1 (r i) else K i &&& (b1 (r i) ^^^ (-1))) else K i
def hk (e s : Int32) (K : Nat → Int32) (k : Nat) : Nat → Int32 := fun j => if j < k ∧ bt e j = true then K j ||| s else K j
def hm (e s : Int32) (K : Nat → Int32) : Nat → Bool
  | 0 => false
  | j + 1 => hm e s K j || (bt e j && !decide (s &&& (K j ^^^ (-1)) = 0))
theorem hm_s (e s : Int32) (K : Nat → Int32) (j : Nat) : hm e s K (j + 1) = (hm e s K j || (bt e j && !decide (s &&& (K j ^^^ (-1)) = 0))) := rfl
theorem kn_same {s k : Int32} (h : s &&& (k ^^^ (-1)) = 0) : k ||| s = k := by
  apply sf_eqb
  intro i
  rw [sf_or]
  refine ⟨fun z => z.elim id (fun y => ?_), Or.inl⟩
  apply Classical.byContradiction
  intro n
  have : bt (s &&& (k ^^^ (-1))) i = true := sf_an.mpr ⟨y, n⟩
  rw [h] at this
  exact sf_0 this
theorem kn_new {s k : Int32} (h : ¬ s &&& (k ^^^ (-1)) = 0) : ¬ k = k ||| s := by
  intro e
  obtain ⟨i, hi⟩ := sf_nz h
  rw [sf_an] at hi
  apply hi.2
  rw [e]
  exact sf_or.mpr (Or.inr hi.1)
theorem hm_f {e s : Int32} {K : Nat → Int32} : ∀ k, hm e s K k = false → ∀ j, j < k → bt e j = true → s &&& (K j ^^^ (-1)) = 0 := by
  intro k
  induction k with
  | zero => intro _ j hj; omega
  | succ k ih =>
    intro h j hj hb
    rw [hm_s, Bool.or_eq_false_iff] at h
    by_cases z : j = k
    · have h2 := h.2
      rw [← z, hb, Bool.true_and] at h2
      apply Classical.byContradiction
      intro y
      rw [decide_eq_false y] at h2
      exact absurd h2 (by decide)
    · exact ih h.1 j (by omega) hb
theorem hm_t {e s : Int32} {K : Nat → Int32} : ∀ k, hm e s K k = true → ∃ j, j < k ∧ bt e j = true ∧ ¬ s &&& (K j ^^^ (-1)) = 0 := by
  intro k
  induction k with
  | zero => intro h; exact absurd (show false = true from h) (by decide)
  | succ k ih =>
    intro h
    rw [hm_s, Bool.or_eq_true] at h
    rcases h with h | h
    · obtain ⟨j, a, b, c⟩ := ih h
      exact ⟨j, by omega, b, c⟩
    · rw [Bool.and_eq_true] at h
      refine ⟨k, by omega, h.1, fun z => ?_⟩
      have h2 := h.2
      rw [decide_eq_true z] at h2
      exact absurd h2 (by decide)
theorem hk_in {e s : Int32} {K : Nat → Int32} {k j : Nat} (h : j < k) (hb : bt e j = true) : hk e s K k j = K j ||| s := if_pos ⟨h, hb⟩
theorem hk_out {e s : Int32} {K : Nat → Int32} {k j : Nat} (h : ¬ (j < k ∧ bt e j = true)) : hk e s K k j = K j := if_neg h
theorem hk_same {e s : Int32} {K : Nat → Int32} {k : Nat} (h : hm e s K k = false) : hk e s K k = K := by
  funext j
  by_cases z : j < k ∧ bt e j = true
  · rw [hk_in z.1 z.2]
    exact kn_same (hm_f k h j z.1 z.2)
  · exact hk_out z
theorem hk_sub {e s : Int32} {K : Nat → Int32} {k j i : Nat} (h : bt (K j) i = true) : bt (hk e s K k j) i = true := by
  by_cases z : j < k ∧ bt e j = true
  · rw [hk_in z.1 z.2]
    exact sf_or.mpr (Or.inl h)
  · rw [hk_out z]
    exact h
theorem hk_lt {e s : Int32} {K : Nat → Int32} {n : Nat} (h : hm e s K n = true) : sm K n < sm (hk e s K n) n := by
  obtain ⟨j, a, b, c⟩ := hm_t n h
  exact sm_lt n (fun i _ q hq => hk_sub hq) a (by rw [hk_in a b]; exact kn_new c)
section
variable (N : Nat) (f : Nat → Int32) (o r x : Nat → Nat) (re : Int32) (be : Nat → Int32)
def ho (dk : Int32) (K : Nat → Int32) : Nat → Bool × (Nat → Int32)
  | 0 => (false, K)
  | i + 1 => if bt re i = true then ((ho dk K i).1 || hm (f i) (bh o r x (ho dk K i).2 dk i) (ho dk K i).2 (N + 1), hk (f i) (bh o r x (ho dk K i).2 dk i) (ho dk K i).2 (N + 1)) else ho dk K i
theorem ho_t {dk : Int32} {K : Nat → Int32} {i : Nat} (h : bt re i = true) : ho N f o r x re dk K (i + 1) = ((ho N f o r x re dk K i).1 || hm (f i) (bh o r x (ho N f o r x re dk K i).2 dk i) (ho N f o r x re dk K i).2 (N + 1), hk (f i) (bh o r x (ho N f o r x re dk K i).2 dk i) (ho N f o r x re dk K i).2 (N + 1)) := if_pos h
theorem ho_f {dk : Int32} {K : Nat → Int32} {i : Nat} (h : bt re i = false) : ho N f o r x re dk K (i + 1) = ho N f o r x re dk K i := if_neg (by rw [h]; decide)
def kp (K : Nat → Int32) : Bool × (Nat → Int32) := ho N f o r x re (dkf (sq o r re K) be N) K N
def ks : Nat → Nat → Int32
  | 0 => fun j => if j = 0 then 2 else 0
  | t + 1 => (kp N f o r x re be (ks t)).2
def KD (t : Nat) : Prop := (kp N f o r x re be (ks N f o r x re be t)).1 = false ∧ ∀ t', t' < t → (kp N f o r x re be (ks N f o r x re be t')).1 = true
theorem ho_same {dk : Int32} {K : Nat → Int32} : ∀ i, (ho N f o r x re dk K i).1 = false → (ho N f o r x re dk K i).2 = K := by
  intro i
  induction i with
  | zero => intro _; rfl
  | succ i ih =>
    intro h
    cases e : bt re i
    · rw [ho_f N f o r x re e] at h ⊢
      exact ih h
    · rw [ho_t N f o r x re e] at h ⊢
      have h' := (Bool.or_eq_false_iff.mp h)
      show hk _ _ _ _ = K
      rw [hk_same h'.2, ih h'.1]
theorem ho_sm {dk : Int32} {K : Nat → Int32} : ∀ i, sm K (N + 1) ≤ sm (ho N f o r x re dk K i).2 (N + 1) ∧ ((ho N f o r x re dk K i).1 = true → sm K (N + 1) < sm (ho N f o r x re dk K i).2 (N + 1)) := by
  intro i
  induction i with
  | zero => exact ⟨Nat.le_refl _, fun h => absurd h (by decide : ¬ (false = true))⟩
  | succ i ih =>
    cases e : bt re i
    · rw [ho_f N f o r x re e]
      exact ih
    · rw [ho_t N f o r x re e]
      have k1 : sm (ho N f o r x re dk K i).2 (N + 1) ≤ sm (hk (f i) (bh o r x (ho N f o r x re dk K i).2 dk i) (ho N f o r x re dk K i).2 (N + 1)) (N + 1) := sm_le _ (fun a _ q hq => hk_sub hq)
      refine ⟨Nat.le_trans ih.1 k1, fun h => ?_⟩
      have h := (Bool.or_eq_true _ _).mp h
      rcases h with h | h
      · exact Nat.lt_of_lt_of_le (ih.2 h) k1
      · exact Nat.lt_of_le_of_lt ih.1 (hk_lt h)
theorem ks_g : ∀ t, (∀ t', t' < t → (kp N f o r x re be (ks N f o r x re be t')).1 = true) → t ≤ sm (ks N f o r x re be t) (N + 1) := by
  intro t
  induction t with
  | zero => intro _; exact Nat.zero_le _
  | succ t ih =>
    intro h
    have h1 := ih (fun t' ht => h t' (by omega))
    have h2 := (ho_sm N f o r x re (dk := dkf (sq o r re (ks N f o r x re be t)) be N) (K := ks N f o r x re be t) N).2 (h t (by omega))
    exact Nat.lt_of_le_of_lt h1 h2
theorem KD_ex : ∃ t, KD N f o r x re be t := by
  have h : ∃ t, (kp N f o r x re be (ks N f o r x re be t)).1 = false := by
    apply Classical.byContradiction
    intro n
    have a : ∀ t, (kp N f o r x re be (ks N f o r x re be t)).1 = true := fun t => by
      cases e : (kp N f o r x re be (ks N f o r x re be t)).1
      · exact absurd ⟨t, e⟩ n
      · rfl
    have k1 := ks_g N f o r x re be (32 * (N + 1) + 1) (fun t' _ => a t')
    have k2 := sm_b (ks N f o r x re be (32 * (N + 1) + 1)) (N + 1)
    omega
  obtain ⟨t, h1, h2⟩ := pk_least _ h
  exact ⟨t, h1, fun t' ht => by
    cases e : (kp N f o r x re be (ks N f o r x re be t')).1
    · exact absurd e (h2 t' ht)
    · rfl⟩
theorem KD_u {t t' : Nat} (h : KD N f o r x re be t) (h' : KD N f o r x re be t') : t = t' := by
  rcases Nat.lt_trichotomy t t' with z | z | z
  · have := h'.2 t z
    rw [h.1] at this
    exact absurd this (by decide)
  · exact z
  · have := h.2 t' z
    rw [h'.1] at this
    exact absurd this (by decide)
theorem KD_fix {t : Nat} (h : KD N f o r x re be t) : ks N f o r x re be (t + 1) = ks N f o r x re be t := ho_same N f o r x re N h.1
/-- four bits each -/
def KR (K : Nat → Int32) : Prop := ∀ j q, bt (K j) q = true → q < 4
theorem bh_r {K : Nat → Int32} {dk : Int32} {i : Nat} (h : KR K) (hr : r i < 4) : ∀ q, bt (bh o r x K dk i) q = true → q < 4 := by
  intro q hq
  unfold bh at hq
  by_cases e : o i ≤ 3
  · rw [if_pos e] at hq
    by_cases e2 : bs o r x K dk i = true
    · rw [if_pos e2, sf_or, sf_1 (by omega)] at hq
      rcases hq with z | z
      · exact h i q z
      · omega
    · rw [if_neg e2, sf_an] at hq
      exact h i q hq.1
  · rw [if_neg e] at hq
    exact h i q hq
theorem hk_r {e s : Int32} {K : Nat → Int32} {k : Nat} (h : KR K) (hs : ∀ q, bt s q = true → q < 4) : KR (hk e s K k) := by
  intro j q hq
  by_cases z : j < k ∧ bt e j = true
  · rw [hk_in z.1 z.2, sf_or] at hq
    exact hq.elim (h j q) (hs q)
  · rw [hk_out z] at hq
    exact h j q hq
theorem ho_r {dk : Int32} {K : Nat → Int32} (h : KR K) : ∀ i, (∀ j, j < i → r j < 4) → KR (ho N f o r x re dk K i).2 := by
  intro i
  induction i with
  | zero => intro _; exact h
  | succ i ih =>
    intro hr
    have ih := ih (fun j hj => hr j (by omega))
    cases e : bt re i
    · rw [ho_f N f o r x re e]; exact ih
    · rw [ho_t N f o r x re e]
      exact hk_r ih (bh_r o r x ih (hr i (by omega)))
theorem ks_r (hr : ∀ j, j < N → r j < 4) : ∀ t, KR (ks N f o r x re be t) := by
  intro t
  induction t with
  | zero =>
    intro j q hq
    have : bt (if j = 0 then (2 : Int32) else 0) q = true := hq
    by_cases e : j = 0
    · rw [if_pos e] at this
      have k : ∀ q, q < 32 → bt 2 q = true → q < 4 := by decide +kernel
      exact k q (sf_lt this) this
    · rw [if_neg e] at this
      exact absurd this sf_0
  | succ t ih => exact ho_r N f o r x re ih N hr
end
/-- a set below 16 as a byte -/
theorem kn_b16 : ∀ n, n < 16 → (nI n).toInt8.toInt32 = nI n := by decide +kernel
theorem kn_of4 {v : Int32} (h : ∀ q, bt v q = true → q < 4) : ∃ n, n < 16 ∧ v = nI n := by
  refine ⟨v.toBitVec.toNat, ?_, ?_⟩
  · have k : v.toBitVec.toNat < 2 ^ 4 := Nat.lt_pow_two_of_testBit _ (fun i hi => by
      apply Bool.eq_false_iff.mpr
      intro z
      have := h i z
      omega)
    exact k
  · apply Int32.toBitVec_inj.1
    show v.toBitVec = BitVec.ofNat 32 v.toBitVec.toNat
    simp
theorem kn_byte {v : Int32} (h : ∀ q, bt v q = true → q < 4) : vp_nar .byte v.toInt8.toInt32 = v := by
  obtain ⟨n, hn, e⟩ := kn_of4 h
  rw [pk_vb, e, kn_b16 n hn]
end
section
/-! runs, plainly -/
def uN1 (f : Nat → Nat) (k v : Nat) : Nat → Nat := fun j => if j = k then v else f j
theorem uN1_s {f : Nat → Nat} {k v : Nat} : uN1 f k v k = v := if_pos rfl
theorem uN1_n {f : Nat → Nat} {k v j : Nat} (h : j ≠ k) : uN1 f k v j = f j := if_neg h
section
variable (N : Nat) (o r x : Nat → Nat)
/-- where it goes on; the registers behind it -/
def na (a : Nat) (g : Nat → Nat) : Nat := if o a = 7 then N else if o a = 5 then tg N x a else if o a = 6 then (if g (r a) = 0 then tg N x a else a + 1) else a + 1
def ng (a : Nat) (g : Nat → Nat) : Nat → Nat :=
  if o a = 0 then uN1 g (r a) (x a) else if o a = 1 then uN1 g (r a) (g (x a)) else if o a = 2 then uN1 g (r a) ((g (r a) + g (x a)) % 4) else
  if o a = 3 then uN1 g (r a) ((g (r a) + 4 - g (x a)) % 4) else g
def nc (a c : Nat) : Nat := if o a = 4 then c + 1 else c
def nw (a c : Nat) (g w : Nat → Nat) : Nat → Nat := if o a = 4 then uN1 w c (g (r a)) else w
/-- fuel, steps, place, registers, how many numbers and which: the steps, the place and the numbers at the end -/
def rn : Nat → Nat → Nat → (Nat → Nat) → Nat → (Nat → Nat) → Nat × Nat × Nat × (Nat → Nat)
  | 0, t, a, _, c, w => (t, a, c, w)
  | d + 1, t, a, g, c, w => if a < N then rn d (t + 1) (na N o r x a g) (ng o r x a g) (nc o a c) (nw o r a c g w) else (t, a, c, w)
theorem rn_go {d t a c : Nat} {g w : Nat → Nat} (h : a < N) : rn N o r x (d + 1) t a g c w = rn N o r x d (t + 1) (na N o r x a g) (ng o r x a g) (nc o a c) (nw o r a c g w) := if_pos h
theorem rn_st {d t a c : Nat} {g w : Nat → Nat} (h : ¬ a < N) : rn N o r x d t a g c w = (t, a, c, w) := by
  cases d with
  | zero => rfl
  | succ d => exact if_neg h
def g0 (p s : Nat) : Nat → Nat := fun j => if j = 0 then p else if j = 1 then s else 0
def RU (k : Nat) : Nat × Nat × Nat × (Nat → Nat) := rn N o r x 60 0 0 (g0 (k / 4) (k % 4)) 0 (fun _ => 0)
theorem na_le {a : Nat} {g : Nat → Nat} (h : a < N) : na N o r x a g ≤ N := by
  have := tg_le N x a
  unfold na
  split
  · omega
  · split
    · omega
    · split
      · split <;> omega
      · omega
theorem nc_le {a c t : Nat} (h : c ≤ t) : nc o a c ≤ t + 1 := by
  unfold nc
  split <;> omega
theorem uN1_4 {g : Nat → Nat} {k v : Nat} (h : ∀ j, j < 4 → g j < 4) (hv : v < 4) : ∀ j, j < 4 → uN1 g k v j < 4 := by
  intro j hj
  by_cases e : j = k
  · rw [e, uN1_s]; exact hv
  · rw [uN1_n e]; exact h j hj
theorem ng_4 {a : Nat} {g : Nat → Nat} (h : ∀ j, j < 4 → g j < 4) (hx : o a ≤ 3 → x a < 4) : ∀ j, j < 4 → ng o r x a g j < 4 := by
  unfold ng
  split
  · exact uN1_4 h (hx (by omega))
  · split
    · exact uN1_4 h (h _ (hx (by omega)))
    · split
      · exact uN1_4 h (Nat.mod_lt _ (by decide))
      · split
        · exact uN1_4 h (Nat.mod_lt _ (by decide))
        · exact h
theorem rn_b : ∀ (d t a c : Nat) (g w : Nat → Nat), t + d = 60 → c ≤ t → a ≤ N → (rn N o r x d t a g c w).1 ≤ 60 ∧ (rn N o r x d t a g c w).2.1 ≤ N ∧ (rn N o r x d t a g c w).2.2.1 ≤ 60 := by
  intro d
  induction d with
  | zero => intro t a c g w h1 h2 h3; exact ⟨by show t ≤ 60; omega, h3, by show c ≤ 60; omega⟩
  | succ d ih =>
    intro t a c g w h1 h2 h3
    by_cases e : a < N
    · rw [rn_go N o r x e]
      exact ih _ _ _ _ _ (by omega) (nc_le o h2) (na_le N o r x e)
    · rw [rn_st N o r x e]
      exact ⟨by show t ≤ 60; omega, h3, by show c ≤ 60; omega⟩
theorem RU_b (k : Nat) : (RU N o r x k).1 ≤ 60 ∧ (RU N o r x k).2.1 ≤ N ∧ (RU N o r x k).2.2.1 ≤ 60 := rn_b N o r x 60 0 0 0 _ _ rfl (Nat.le_refl _) (Nat.zero_le _)
/-- which runs end, which show the same, how many outputs there are -/
def rD (k : Nat) : Bool := decide ((RU N o r x k).2.1 = N)
end
def rq (w w' : Nat → Nat) : Nat → Bool
  | 0 => true
  | i + 1 => rq w w' i && decide (nI (w i) = nI (w' i))
theorem rq_s (w w' : Nat → Nat) (i : Nat) : rq w w' (i + 1) = (rq w w' i && decide (nI (w i) = nI (w' i))) := rfl
theorem rq_f {w w' : Nat → Nat} {i : Nat} (h : rq w w' i = false) : ∀ d, rq w w' (i + d) = false := by
  intro d
  induction d with
  | zero => exact h
  | succ d ih => show (rq w w' (i + d) && _) = false; rw [ih]; rfl
theorem rq_fl {w w' : Nat → Nat} {i k : Nat} (h : rq w w' i = false) (hk : i ≤ k) : rq w w' k = false := by
  have := rq_f h (k - i)
  rw [show i + (k - i) = k by omega] at this
  exact this
section
variable (N : Nat) (o r x : Nat → Nat)
def rS (k l : Nat) : Bool := decide ((RU N o r x k).2.2.1 = (RU N o r x l).2.2.1) && rq (RU N o r x k).2.2.2 (RU N o r x l).2.2.2 (RU N o r x k).2.2.1
def fr (p s : Nat) : Nat → Bool
  | 0 => rD N o r x (4 * p + s)
  | t + 1 => fr p s t && !(rD N o r x (4 * p + t) && rS N o r x (4 * p + s) (4 * p + t))
def nsh (p : Nat) : Nat → Nat
  | 0 => 0
  | s + 1 => if fr N o r x p s s = true then nsh p s + 1 else nsh p s
def lk : Nat → Bool
  | 0 => false
  | p + 1 => lk p || decide (1 < nsh N o r x p 4)
theorem fr_s (p s t : Nat) : fr N o r x p s (t + 1) = (fr N o r x p s t && !(rD N o r x (4 * p + t) && rS N o r x (4 * p + s) (4 * p + t))) := rfl
theorem fr_f {p s t : Nat} (h : fr N o r x p s t = false) : ∀ d, fr N o r x p s (t + d) = false := by
  intro d
  induction d with
  | zero => exact h
  | succ d ih => show (fr N o r x p s (t + d) && _) = false; rw [ih]; rfl
theorem fr_fl {p s t k : Nat} (h : fr N o r x p s t = false) (hk : t ≤ k) : fr N o r x p s k = false := by
  have := fr_f N o r x h (k - t)
  rw [show t + (k - t) = k by omega] at this
  exact this
theorem fr_D {p s : Nat} : ∀ t, fr N o r x p s t = true → rD N o r x (4 * p + s) = true := by
  intro t
  induction t with
  | zero => intro h; exact h
  | succ t ih => intro h; exact ih ((Bool.and_eq_true _ _).mp h).1
theorem nsh_t {p s : Nat} (h : fr N o r x p s s = true) : nsh N o r x p (s + 1) = nsh N o r x p s + 1 := if_pos h
theorem nsh_f {p s : Nat} (h : fr N o r x p s s = false) : nsh N o r x p (s + 1) = nsh N o r x p s := if_neg (by rw [h]; decide)
theorem nsh_le (p : Nat) : ∀ s, nsh N o r x p s ≤ s := by
  intro s
  induction s with
  | zero => exact Nat.le_refl _
  | succ s ih =>
    cases e : fr N o r x p s s
    · rw [nsh_f N o r x e]; omega
    · rw [nsh_t N o r x e]; omega
theorem lk_s (p : Nat) : lk N o r x (p + 1) = (lk N o r x p || decide (1 < nsh N o r x p 4)) := rfl
theorem lk_t {p : Nat} (h : lk N o r x p = true) : ∀ d, lk N o r x (p + d) = true := by
  intro d
  induction d with
  | zero => exact h
  | succ d ih => show (lk N o r x (p + d) || _) = true; rw [ih]; rfl
theorem lk_tl {p k : Nat} (h : lk N o r x p = true) (hk : p ≤ k) : lk N o r x k = true := by
  have := lk_t N o r x h (k - p)
  rw [show p + (k - p) = k by omega] at this
  exact this
end
end
section
/-! X's walks: next, spread, ending, common -/
section
variable {f_known f_reached f_ending f_secrets f_dark f_ran : Int32} {a_op a_first a_second a_next a_common a_nearest a_below a_knowing a_ends a_stepsOf a_outsOf a_shown a_value : Nat → Int32} {N : Nat} {o r x : Nat → Nat} {f : Nat → Int32}
theorem nx_5 {i : Nat} (h : o i = 5) : nx N o x i = b1 (tg N x i) := if_pos h
theorem nx_6 {i : Nat} (h : o i = 6) : nx N o x i = b1 (i + 1) ||| b1 (tg N x i) := by unfold nx; rw [if_neg (by omega), if_pos h]
theorem nx_7 {i : Nat} (h : o i = 7) : nx N o x i = b1 N := by unfold nx; rw [if_neg (by omega), if_neg (by omega), if_pos h]
theorem nx_o {i : Nat} (h5 : o i ≠ 5) (h6 : o i ≠ 6) (h7 : o i ≠ 7) : nx N o x i = b1 (i + 1) := by unfold nx; rw [if_neg h5, if_neg h6, if_neg h7]
theorem xTg {post : Int32 → Prop} {i : Nat} (hG : PG N o r x) (hP : prX N o r x a_op a_first a_second) (hi : i < N) (k : post (nI (tg N x i))) : wpX_targetOf post (nI N, f_known, f_reached, f_ending, f_secrets, f_dark, f_ran, a_op, a_first, a_second, a_next, a_common, a_nearest, a_below, a_knowing, a_ends, a_stepsOf, a_outsOf, a_shown, a_value) (nI i) := by
  obtain ⟨h1, h16, hg⟩ := hG
  obtain ⟨g1, g2, g3, g4⟩ := hg i hi
  have c : (nI i).toNatClampNeg = i := nI_clamp (by omega)
  have v : vp_in (nI i) 16 := vp_in_nI (by omega) (by omega)
  have e := (hP i hi).2.2
  refine ⟨v, ?_⟩
  rw [c, e]
  refine pk_le (x i) N (fun h => ⟨v, ?_⟩) (fun h => ?_)
  · rw [tg, if_pos h] at k; exact k
  · rw [tg, if_neg (by omega)] at k; exact k
theorem fn_u {a : Nat → Int32} {i : Nat} (h : ∀ j, j < i → a j = f j) : ∀ j, j < i + 1 → upd a i (f i) j = f j := by
  intro j hj
  by_cases e : j = i
  · rw [e, pk_us]
  · rw [pk_un e]; exact h j (by omega)
theorem xfn {post : SX → Prop} (hG : PG N o r x) (hP : prX N o r x a_op a_first a_second) (K : ∀ a : Nat → Int32, (∀ i, i < N → a i = nx N o x i) → post (nI N, f_known, f_reached, f_ending, f_secrets, f_dark, f_ran, a_op, a_first, a_second, a, a_common, a_nearest, a_below, a_knowing, a_ends, a_stepsOf, a_outsOf, a_shown, a_value)) :
    ∀ (n i : Nat) (a : Nat → Int32), N < n + i → i ≤ N → (∀ j, j < i → a j = nx N o x j) → wX_findNext_2 post (nI N) f_known f_reached f_ending f_secrets f_dark f_ran n (nI i) a_op a_first a_second a a_common a_nearest a_below a_knowing a_ends a_stepsOf a_outsOf a_shown a_value := by
  intro n
  induction n with
  | zero => intro i a h1 h2; omega
  | succ n ih =>
    intro i a h1 h2 ha
    have h16 := hG.2.1
    rw [wX_findNext_2]
    by_cases e : N ≤ i
    · exact br_t (nI_le e (by omega)) (K a (fun j hj => ha j (by omega)))
    · have hi : i < N := by omega
      have go := (hG.2.2 i hi).1
      have c : (nI i).toNatClampNeg = i := nI_clamp (by omega)
      have v : vp_in (nI i) 16 := vp_in_nI (by omega) (by omega)
      have eo := (hP i hi).1
      have nxt : ∀ b : Nat → Int32, b = upd a i (nx N o x i) → ∀ y : Int32, y = nI i + 1 → wX_findNext_2 post (nI N) f_known f_reached f_ending f_secrets f_dark f_ran n y a_op a_first a_second b a_common a_nearest a_below a_knowing a_ends a_stepsOf a_outsOf a_shown a_value := by
        intro b eb y ey
        rw [eb, ey, nI_1]
        exact ih (i + 1) _ (by omega) (by omega) (fn_u ha)
      refine br_f (nI_ge hi (by omega)) (nm_r (e' := b1 (i + 1)) (by rw [nI_1]; rfl) (xTg hG hP hi (nm_r (e' := b1 (tg N x i)) rfl ⟨v, nm_r (e' := nI (o i)) (by rw [c, eo]) ?_⟩)))
      refine pk_eq (o i) 5 (fun h5 => ⟨v, fun b eb => nxt b (by rw [eb, c, nx_5 h5])⟩) (fun h5 => ?_)
      refine pk_eq (o i) 6 (fun h6 => ⟨v, fun b eb => nxt b (by rw [eb, c, nx_6 h6])⟩) (fun h6 => ?_)
      refine pk_eq (o i) 7 (fun h7 => ⟨v, fun b eb => nxt b (by rw [eb, c, nx_7 h7]; rfl)⟩) (fun h7 => ?_)
      exact ⟨v, fun b eb => nxt b (by rw [eb, c, nx_o h5 h6 h7])⟩
theorem xFN {post : SX → Prop} (hG : PG N o r x) (hP : prX N o r x a_op a_first a_second) (K : ∀ a : Nat → Int32, (∀ i, i < N → a i = nx N o x i) → post (nI N, f_known, f_reached, f_ending, f_secrets, f_dark, f_ran, a_op, a_first, a_second, a, a_common, a_nearest, a_below, a_knowing, a_ends, a_stepsOf, a_outsOf, a_shown, a_value)) :
    wpX_findNext post (nI N, f_known, f_reached, f_ending, f_secrets, f_dark, f_ran, a_op, a_first, a_second, a_next, a_common, a_nearest, a_below, a_knowing, a_ends, a_stepsOf, a_outsOf, a_shown, a_value) := ⟨N + 1, xfn hG hP K (N + 1) 0 a_next (by omega) (by omega) (fun j hj => by omega)⟩
/-! spread -/
theorem xs31 {post : Int32 → Prop} {J12 : Int32 → Int32 → Int32 → Prop} {x5 b w s0 : Int32} (hN : N ≤ 16) (hn : ∀ i, i < N → a_next i = f i) :
    ∀ n i : Nat, N < n + i → i ≤ N → J12 (spf f w N s0) b (x5 + 1) → wX_spread_31 post J12 w b x5 (nI N) f_known f_reached f_ending f_secrets f_dark f_ran a_op a_first a_second a_next a_common a_nearest a_below a_knowing a_ends a_stepsOf a_outsOf a_shown a_value n (spf f w i s0) (nI i) := by
  intro n
  induction n with
  | zero => intro i h1 h2; omega
  | succ n ih =>
    intro i h1 h2 hJ
    rw [wX_spread_31]
    by_cases e : N ≤ i
    · have ei : i = N := by omega
      rw [ei]
      exact br_t (nI_le (Nat.le_refl _) (by omega)) (nm_e hJ)
    · have c : (nI i).toNatClampNeg = i := nI_clamp (by omega)
      have K := ih (i + 1) (by omega) (by omega) hJ
      refine br_f (nI_ge (by omega) (by omega)) (sf_br (by omega) (fun hb => ?_) (fun hb => ?_))
      · refine ⟨vp_in_nI (by omega) (by omega), nm_r (e' := spf f w (i + 1) s0) ?_ (nm_r (nI_1 i) K)⟩
        rw [c, hn i (by omega), spf_t hb]
      · rw [spf_n hb] at K
        exact nm_r (nI_1 i) K
theorem xs12 {post : Int32 → Prop} {p w : Int32} (hN : N ≤ 16) (hn : ∀ i, i < N → a_next i = f i) (hp : ∀ j, bt p j = true → j ≤ N) (hf : ∀ i j, i < N → EB f i j → j ≤ N) (hq : ∀ s, RB N f p w s → post s) :
    ∀ (d rr n : Nat) (s b : Int32), rr + d = 18 → d < n → SI N f p w rr s b → wX_spread_12 post w (nI N) f_known f_reached f_ending f_secrets f_dark f_ran a_op a_first a_second a_next a_common a_nearest a_below a_knowing a_ends a_stepsOf a_outsOf a_shown a_value n s b (nI rr) := by
  intro d
  induction d with
  | zero =>
    intro rr n s b h1 h2 h
    obtain ⟨m, rfl⟩ : ∃ m, n = m + 1 := ⟨n - 1, by omega⟩
    have e : rr = 18 := by omega
    rw [e] at h ⊢
    rw [wX_spread_12]
    exact br_t (nI_lt (a := 17) (b := 18) (by decide) (by decide)) (hq s (SI_end h (SI_18 hN hp hf h)))
  | succ d ih =>
    intro rr n s b h1 h2 h
    obtain ⟨m, rfl⟩ : ∃ m, n = m + 1 := ⟨n - 1, by omega⟩
    rw [wX_spread_12]
    refine br_f (nI_nlt (a := 17) (b := rr) (by omega) (by decide)) (br_c (fun e => hq s (SI_end h e)) (fun e => ⟨N + 1, ?_⟩))
    refine xs31 (s0 := s) (f := f) hN hn (N + 1) 0 (by omega) (by omega) ?_
    rw [nI_1]
    exact ih (rr + 1) m _ _ (by omega) (by omega) (SI_step h e)
theorem xSp {post : Int32 → Prop} {p w : Int32} (hN : N ≤ 16) (hn : ∀ i, i < N → a_next i = f i) (hp : ∀ j, bt p j = true → j ≤ N) (hf : ∀ i j, i < N → EB f i j → j ≤ N) (hq : ∀ s, RB N f p w s → post s) :
    wpX_spread post (nI N, f_known, f_reached, f_ending, f_secrets, f_dark, f_ran, a_op, a_first, a_second, a_next, a_common, a_nearest, a_below, a_knowing, a_ends, a_stepsOf, a_outsOf, a_shown, a_value) p w := by
  refine nm_e ⟨19, ?_⟩
  refine xs12 (f := f) (p := p) hN hn hp hf hq 18 0 19 _ _ rfl (by decide) (SI_0 (fun e => ?_))
  have k : bt (p &&& (w ^^^ (-1))) 31 = true := by rw [e]; exact b_m1 31 (by decide)
  have := hp 31 (sf_an.mp k).1
  omega
/-! ending -/
theorem xe22 {post : Int32 → Prop} {J9 : Int32 → Int32 → Prop} {x2 : Int32} (hN : N ≤ 16) (hn : ∀ i, i < N → a_next i = f i) :
    ∀ (n k : Nat) (s : Int32), k < n → k ≤ N → J9 (ef f k s) (x2 + 1) → wX_findEnding_22 post J9 x2 (nI N) f_known f_reached f_ending f_secrets f_dark f_ran a_op a_first a_second a_next a_common a_nearest a_below a_knowing a_ends a_stepsOf a_outsOf a_shown a_value n s (nI k + (-1)) := by
  intro n
  induction n with
  | zero => intro k s h1; omega
  | succ n ih =>
    intro k s h1 h2 hJ
    rw [wX_findEnding_22]
    cases k with
    | zero => exact br_t (by decide) (nm_e hJ)
    | succ k =>
      rw [pk_m1 k]
      have c : (nI k).toNatClampNeg = k := nI_clamp (by omega)
      rw [ef_s] at hJ
      refine br_f (nI_pos (by omega)) ⟨vp_in_nI (by omega) (by omega), ?_⟩
      rw [c, hn k (by omega)]
      refine br_c (fun z => ?_) (fun z => ?_)
      · have e1 : et1 f k s = s := if_pos z
        rw [e1] at hJ
        exact nm_e (ih k s (by omega) (by omega) hJ)
      · have e1 : et1 f k s = s ||| b1 k := if_neg z
        rw [e1] at hJ
        exact nm_r (e' := s ||| b1 k) rfl (nm_e (ih k _ (by omega) (by omega) hJ))
theorem xe9 {post : Int32 → Prop} (hN : N ≤ 16) (hn : ∀ i, i < N → a_next i = f i) (hq : ∀ s, (∀ j, bt s j = true ↔ AV N (EB f) NW j) → post s) :
    ∀ (d rr n : Nat) (s : Int32), rr + d = 16 → d < n → EI N f rr s → wX_findEnding_9 post (nI N) f_known f_reached f_ending f_secrets f_dark f_ran a_op a_first a_second a_next a_common a_nearest a_below a_knowing a_ends a_stepsOf a_outsOf a_shown a_value n s (nI rr) := by
  intro d
  induction d with
  | zero =>
    intro rr n s h1 h2 h
    obtain ⟨m, rfl⟩ : ∃ m, n = m + 1 := ⟨n - 1, by omega⟩
    have e : rr = 16 := by omega
    rw [e] at h ⊢
    rw [wX_findEnding_9]
    exact br_t (nI_le (a := 16) (b := 16) (by decide) (by decide)) (hq s (EI_16 hN h))
  | succ d ih =>
    intro rr n s h1 h2 h
    obtain ⟨m, rfl⟩ : ∃ m, n = m + 1 := ⟨n - 1, by omega⟩
    rw [wX_findEnding_9]
    refine br_f (nI_ge (a := rr) (b := 16) (by omega) (by decide)) (nm_r (e' := nI N + (-1)) (Int32.sub_eq_add_neg _ _) ⟨N + 1, ?_⟩)
    refine xe22 (f := f) hN hn (N + 1) N s (by omega) (by omega) ?_
    rw [nI_1]
    exact ih (rr + 1) m _ (by omega) (by omega) (EI_s hN h)
theorem xEn {post : Int32 → Prop} (hN : N ≤ 16) (hn : ∀ i, i < N → a_next i = f i) (hq : ∀ s, (∀ j, bt s j = true ↔ AV N (EB f) NW j) → post s) : wpX_findEnding post (nI N, f_known, f_reached, f_ending, f_secrets, f_dark, f_ran, a_op, a_first, a_second, a_next, a_common, a_nearest, a_below, a_knowing, a_ends, a_stepsOf, a_outsOf, a_shown, a_value) :=
  nm_e ⟨17, xe9 (f := f) hN hn hq 16 0 17 _ rfl (by decide) (EI_0 hN)⟩
/-! common -/
theorem xcb13 {post : Int32 → Prop} {i : Nat} (hN : N ≤ 16) (hi : i < N) (hn : a_next i = f i)
    (K : ∀ s, (∀ q, bt s q = true ↔ q ≤ N ∧ ∀ j, j ≤ N → bt (f i) j = true → bt f_ending j = true → bt (a_common j) q = true) → post s) :
    ∀ (n k : Nat) (s : Int32), N + 1 < n + k → k ≤ N + 1 → (∀ q, bt s q = true ↔ q ≤ N ∧ ∀ j, j < k → bt (f i) j = true → bt f_ending j = true → bt (a_common j) q = true) →
    wX_commonBehind_13 post (nI i) (nI N) f_known f_reached f_ending f_secrets f_dark f_ran a_op a_first a_second a_next a_common a_nearest a_below a_knowing a_ends a_stepsOf a_outsOf a_shown a_value n s (nI k) := by
  intro n
  induction n with
  | zero => intro k s h1 h2; omega
  | succ n ih =>
    intro k s h1 h2 hs
    rw [wX_commonBehind_13]
    have c : (nI i).toNatClampNeg = i := nI_clamp (by omega)
    have c2 : (nI k).toNatClampNeg = k := nI_clamp (by omega)
    by_cases e : N < k
    · refine br_t (nI_lt e (by omega)) (K s (fun q => (hs q).trans ⟨fun z => ⟨z.1, fun j hj => z.2 j (by omega)⟩, fun z => ⟨z.1, fun j hj => z.2 j (by omega)⟩⟩))
    · have skip : (¬ (bt (f i) k = true ∧ bt f_ending k = true)) → ∀ y : Int32, y = nI k + 1 → wX_commonBehind_13 post (nI i) (nI N) f_known f_reached f_ending f_secrets f_dark f_ran a_op a_first a_second a_next a_common a_nearest a_below a_knowing a_ends a_stepsOf a_outsOf a_shown a_value n s y := by
        intro ns y ey
        rw [ey, nI_1]
        refine ih (k + 1) s (by omega) (by omega) (fun q => (hs q).trans ⟨fun z => ⟨z.1, fun j hj a b => ?_⟩, fun z => ⟨z.1, fun j hj => z.2 j (by omega)⟩⟩)
        by_cases ej : j = k
        · rw [ej] at a b
          exact absurd ⟨a, b⟩ ns
        · exact z.2 j (by omega) a b
      refine br_f (nI_nlt (by omega) (by omega)) ⟨vp_in_nI (by omega) (by omega), ?_⟩
      rw [c, hn]
      refine sf_br (by omega) (fun h1 => sf_br (by omega) (fun h2 => ⟨vp_in_nI (by omega) (by omega), ?_⟩) (fun h2 => skip (fun z => by rw [h2] at z; exact absurd z.2 (by decide)))) (fun h1 => skip (fun z => by rw [h1] at z; exact absurd z.1 (by decide)))
      rw [c2]
      refine nm_e (nm_r (nI_1 k) (ih (k + 1) _ (by omega) (by omega) (fun q => ?_)))
      rw [sf_and, hs q]
      constructor
      · intro z
        refine ⟨z.1.1, fun j hj a b => ?_⟩
        by_cases ej : j = k
        · rw [ej]; exact z.2
        · exact z.1.2 j (by omega) a b
      · intro z
        exact ⟨⟨z.1, fun j hj => z.2 j (by omega)⟩, z.2 k (by omega) h1 h2⟩
theorem xCB {post : Int32 → Prop} {i : Nat} (hN : N ≤ 16) (hi : i < N) (hn : a_next i = f i)
    (K : ∀ s, (∀ q, bt s q = true ↔ q ≤ N ∧ ∀ j, j ≤ N → bt (f i) j = true → bt f_ending j = true → bt (a_common j) q = true) → post s) : wpX_commonBehind post (nI N, f_known, f_reached, f_ending, f_secrets, f_dark, f_ran, a_op, a_first, a_second, a_next, a_common, a_nearest, a_below, a_knowing, a_ends, a_stepsOf, a_outsOf, a_shown, a_value) (nI i) := by
  refine nm_r (e' := b1 (N + 1) - 1) (by rw [nI_1]; rfl) ⟨N + 2, ?_⟩
  refine xcb13 (f := f) hN hi hn K (N + 2) 0 _ (by omega) (by omega) (fun q => ?_)
  rw [sf_mask (by omega)]
  exact ⟨fun z => ⟨by omega, fun j hj => by omega⟩, fun z => by have := z.1; omega⟩
abbrev T13 : Type := (Nat → Int32) → (Nat → Int32) → (Nat → Int32) → (Nat → Int32) → (Nat → Int32) → (Nat → Int32) → (Nat → Int32) → (Nat → Int32) → (Nat → Int32) → (Nat → Int32) → (Nat → Int32) → (Nat → Int32) → (Nat → Int32) → Prop
theorem xc95 {post : SX → Prop} {J49 : Int32 → T13} {J62 : Int32 → Int32 → T13} {z v : Int32} {k : Nat} (hk : k < 17) (h : J62 z (nI k + (-1)) a_op a_first a_second a_next (upd a_common k v) a_nearest a_below a_knowing a_ends a_stepsOf a_outsOf a_shown a_value) :
    wX_findCommon_95 post J49 J62 (nI k) v z (nI N) f_known f_reached f_ending f_secrets f_dark f_ran a_op a_first a_second a_next a_common a_nearest a_below a_knowing a_ends a_stepsOf a_outsOf a_shown a_value :=
  ⟨vp_in_nI hk (by omega), nm_r (by rw [nI_clamp (by omega)]) (nm_e h)⟩
/-- what one round over all places leaves -/
def FX (N : Nat) (f : Nat → Int32) (en : Int32) (co : Nat → Int32) (k : Nat) : Prop := ∀ i, k ≤ i → i < N → ∀ q, bt (co i) q = true → CF N f en co i q
theorem xc62 {post : SX → Prop} {J49 : Int32 → T13} {m : Nat} (hN : N ≤ 16) (hn : ∀ i, i < N → a_next i = f i) (hf : ∀ i j, i < N → EB f i j → j ≤ N)
    (J0 : ∀ co, CO N f f_ending co → FX N f f_ending co 0 → J49 0 a_op a_first a_second a_next co a_nearest a_below a_knowing a_ends a_stepsOf a_outsOf a_shown a_value) (J1 : ∀ co, CO N f f_ending co → sm co N < m → J49 1 a_op a_first a_second a_next co a_nearest a_below a_knowing a_ends a_stepsOf a_outsOf a_shown a_value) :
    ∀ (n k : Nat) (co : Nat → Int32) (y : Int32), k < n → k ≤ N → CO N f f_ending co → ((y = 0 ∧ FX N f f_ending co k ∧ sm co N ≤ m) ∨ (y = 1 ∧ sm co N < m)) →
    wX_findCommon_62 post J49 (nI N) f_known f_reached f_ending f_secrets f_dark f_ran n y (nI k + (-1)) a_op a_first a_second a_next co a_nearest a_below a_knowing a_ends a_stepsOf a_outsOf a_shown a_value := by
  intro n
  induction n with
  | zero => intro k co y h1; omega
  | succ n ih =>
    intro k co y h1 h2 hc hy
    rw [wX_findCommon_62]
    cases k with
    | zero =>
      refine br_t (by decide) ?_
      rcases hy with ⟨rfl, a, _⟩ | ⟨rfl, a⟩
      · exact J0 co hc a
      · exact J1 co hc a
    | succ k =>
      rw [pk_m1 k]
      have c : (nI k).toNatClampNeg = k := nI_clamp (by omega)
      refine br_f (nI_pos (by omega)) (xCB (f := f) hN (by omega) (hn k (by omega)) (fun s hs => nm_r (e' := s ||| b1 k) rfl ?_))
      have hv : ∀ q, bt (s ||| b1 k) q = true ↔ CF N f f_ending co k q := by
        intro q
        rw [sf_or, hs q, sf_1 (by omega)]
        constructor
        · intro z
          rcases z with z | z
          · exact ⟨z.1, Or.inr z.2⟩
          · exact ⟨by omega, Or.inl z⟩
        · intro z
          rcases z.2 with y | y
          · exact Or.inr y
          · exact Or.inl ⟨z.1, y⟩
      have sub : ∀ q, bt (s ||| b1 k) q = true → bt (co k) q = true := fun q hq => hc.2.2.2 k q (by omega) ((hv q).mp hq)
      have hc' := CO_upd hc (by omega) hf hv
      have ms := sm_upd (f := co) (k := k) (v := s ||| b1 k) N (by omega)
      have ml := cn_le sub
      rcases hy with ⟨rfl, a, b⟩ | ⟨rfl, a⟩
      · refine br_t rfl ⟨vp_in_nI (by omega) (by omega), ?_⟩
        rw [c]
        refine br_c (fun z => ?_) (fun z => ?_)
        · refine xc95 (by omega) (ih k _ 0 (by omega) (by omega) hc' (Or.inl ⟨rfl, ?_, by omega⟩))
          have eq : upd co k (s ||| b1 k) = co := by rw [z]; exact sf_upd_self
          rw [eq]
          intro i hi hi2 q hq
          by_cases e : i = k
          · rw [e] at hq ⊢
            rw [← z] at hq
            exact (hv q).mp hq
          · exact a i (by omega) hi2 q hq
        · have := cn_lt sub z
          exact xc95 (by omega) (ih k _ 1 (by omega) (by omega) hc' (Or.inr ⟨rfl, by omega⟩))
      · refine br_f (by decide) ?_
        exact xc95 (by omega) (ih k _ 1 (by omega) (by omega) hc' (Or.inr ⟨rfl, by omega⟩))
theorem xc49 {post : SX → Prop} (hN : N ≤ 16) (hn : ∀ i, i < N → a_next i = f i) (hf : ∀ i j, i < N → EB f i j → j ≤ N)
    (K : ∀ co, CO N f f_ending co → FX N f f_ending co 0 → post (nI N, f_known, f_reached, f_ending, f_secrets, f_dark, f_ran, a_op, a_first, a_second, a_next, co, a_nearest, a_below, a_knowing, a_ends, a_stepsOf, a_outsOf, a_shown, a_value)) : ∀ (n : Nat) (co : Nat → Int32), sm co N + 1 < n → CO N f f_ending co →
    wX_findCommon_49 post (nI N) f_known f_reached f_ending f_secrets f_dark f_ran n 1 a_op a_first a_second a_next co a_nearest a_below a_knowing a_ends a_stepsOf a_outsOf a_shown a_value := by
  intro n
  induction n with
  | zero => intro co h; omega
  | succ n ih =>
    intro co h hc
    rw [wX_findCommon_49]
    refine br_f (by decide) (nm_r (e' := nI N + (-1)) (Int32.sub_eq_add_neg _ _) ⟨N + 1, ?_⟩)
    refine xc62 (f := f) (m := sm co N) hN hn hf (fun co' h1 h2 => ?_) (fun co' h1 h2 => ih co' (by omega) h1) (N + 1) N co 0 (by omega) (by omega) hc (Or.inl ⟨rfl, fun i a b => by omega, Nat.le_refl _⟩)
    obtain ⟨m, rfl⟩ : ∃ m, n = m + 1 := ⟨n - 1, by omega⟩
    rw [wX_findCommon_49]
    exact br_t rfl (K co' h1 h2)
theorem xc2 {post : SX → Prop} (hN : N ≤ 16) (hn : ∀ i, i < N → a_next i = f i) (hf : ∀ i j, i < N → EB f i j → j ≤ N)
    (K : ∀ co, CO N f f_ending co → FX N f f_ending co 0 → post (nI N, f_known, f_reached, f_ending, f_secrets, f_dark, f_ran, a_op, a_first, a_second, a_next, co, a_nearest, a_below, a_knowing, a_ends, a_stepsOf, a_outsOf, a_shown, a_value)) : ∀ (n i : Nat) (co : Nat → Int32), N < n + i → i ≤ N → (∀ j, j < i → co j = b1 (N + 1) - 1) →
    wX_findCommon_2 post (nI N) f_known f_reached f_ending f_secrets f_dark f_ran n (nI i) a_op a_first a_second a_next co a_nearest a_below a_knowing a_ends a_stepsOf a_outsOf a_shown a_value := by
  intro n
  induction n with
  | zero => intro i co h1 h2; omega
  | succ n ih =>
    intro i co h1 h2 hc
    rw [wX_findCommon_2]
    by_cases e : N ≤ i
    · refine br_t (nI_le e (by omega)) ⟨vp_in_nI (by omega) (by omega), nm_r (e' := upd co N (b1 N)) (by rw [nI_clamp (by omega)]; rfl) ⟨sm (upd co N (b1 N)) N + 2, ?_⟩⟩
      refine xc49 (f := f) hN hn hf K _ _ (by omega) (CO_0 hN (fun j hj => ?_) pk_us)
      rw [pk_un (by omega)]
      exact hc j (by omega)
    · refine br_f (nI_ge (by omega) (by omega)) ⟨vp_in_nI (by omega) (by omega), nm_r (e' := upd co i (b1 (N + 1) - 1)) (by rw [nI_clamp (by omega), nI_1]; rfl) (nm_r (nI_1 i) (ih (i + 1) _ (by omega) (by omega) (fun j hj => ?_)))⟩
      by_cases ej : j = i
      · rw [ej, pk_us]
      · rw [pk_un ej]; exact hc j (by omega)
theorem xFC {post : SX → Prop} (hN : N ≤ 16) (hn : ∀ i, i < N → a_next i = f i) (hf : ∀ i j, i < N → EB f i j → j ≤ N) (he : ∀ j, bt f_ending j = true ↔ AV N (EB f) NW j)
    (K : ∀ co : Nat → Int32, (∀ i, i ≤ N → ∀ q, bt (co i) q = true ↔ q ≤ N ∧ ¬ AV N (EB f) (fun j => j = q) i) → post (nI N, f_known, f_reached, f_ending, f_secrets, f_dark, f_ran, a_op, a_first, a_second, a_next, co, a_nearest, a_below, a_knowing, a_ends, a_stepsOf, a_outsOf, a_shown, a_value)) : wpX_findCommon post (nI N, f_known, f_reached, f_ending, f_secrets, f_dark, f_ran, a_op, a_first, a_second, a_next, a_common, a_nearest, a_below, a_knowing, a_ends, a_stepsOf, a_outsOf, a_shown, a_value) :=
  ⟨N + 1, xc2 (f := f) hN hn hf (fun co h1 h2 => K co (CO_end hN h1 he (fun i hi => h2 i (Nat.zero_le _) hi))) (N + 1) 0 a_common (by omega) (by omega) (fun j hj => by omega)⟩
end
end
section
/-! X's walks: sizes, meeting places -/
section
variable {f_known f_reached f_ending f_secrets f_dark f_ran : Int32} {a_op a_first a_second a_next a_common a_nearest a_below a_knowing a_ends a_stepsOf a_outsOf a_shown a_value : Nat → Int32} {N : Nat} {o r x : Nat → Nat} {f : Nat → Int32}
theorem xz4 {post : Int32 → Prop} {s : Int32} (K : post (nI (cnk (bt s) 17))) : ∀ n k : Nat, 17 < n + k → k ≤ 17 → wX_sizeOf_4 post s (nI N) f_known f_reached f_ending f_secrets f_dark f_ran a_op a_first a_second a_next a_common a_nearest a_below a_knowing a_ends a_stepsOf a_outsOf a_shown a_value n (nI (cnk (bt s) k)) (nI k) := by
  intro n
  induction n with
  | zero => intro k h1 h2; omega
  | succ n ih =>
    intro k h1 h2
    rw [wX_sizeOf_4]
    by_cases e : 16 < k
    · have ek : k = 17 := by omega
      rw [ek]
      exact br_t (nI_lt (a := 16) (b := 17) (by decide) (by decide)) K
    · refine br_f (nI_nlt (a := 16) (b := k) (by omega) (by decide)) (nm_r (e' := nI (cnk (bt s) (k + 1))) ?_ (nm_r (nI_1 k) (ih (k + 1) (by omega) (by omega))))
      rw [sf_sh (by omega), cnk_s, ← nI_add]
      cases bt s k <;> rfl
theorem xSz {post : Int32 → Prop} {s : Int32} (K : post (nI (cnk (bt s) 17))) : wpX_sizeOf post (nI N, f_known, f_reached, f_ending, f_secrets, f_dark, f_ran, a_op, a_first, a_second, a_next, a_common, a_nearest, a_below, a_knowing, a_ends, a_stepsOf, a_outsOf, a_shown, a_value) s := ⟨18, xz4 K 18 0 (by decide) (by decide)⟩
/-- the nearest of b's meeting places has the most behind it -/
theorem sz_lt {E : Nat → Nat → Prop} {co : Nat → Int32} {b q q' : Nat} (hN : N ≤ 16) (hc : ∀ i, i ≤ N → ∀ q, bt (co i) q = true ↔ q ≤ N ∧ ¬ AV N E (fun j => j = q) i)
    (h : NR N E b q) (h' : MT N E b q') (ne : q ≠ q') : cnk (bt (co q')) 17 < cnk (bt (co q)) 17 := by
  have hq := h.1.2.1
  have hq' := h'.2.1
  refine cnk_lt (k := q) 17 (fun j _ z => ?_) (by omega) (fun z => ?_) ((hc q hq q).mpr ⟨hq, AV_self⟩)
  · have := (hc q' hq' j).mp z
    exact (hc q hq j).mpr ⟨this.1, NR_sub h h' this.2⟩
  · exact ((hc q' hq' q).mp z).2 (NR_str h h' ne)
def MI (N : Nat) (f co ne : Nat → Int32) (b k most : Nat) (nn : Nat → Int32) : Prop :=
  most ≤ 17 ∧ (∀ j, j ≠ b → nn j = ne j) ∧ ((¬ AV N (EB f) NW b ∧ nn b = -4) ∨ (AV N (EB f) NW b ∧ ∃ q, NR N (EB f) b q ∧
    ((k ≤ q ∧ most < cnk (bt (co q)) 17) ∨ (q < k ∧ most = cnk (bt (co q)) 17 ∧ nn b = nI q))))
theorem MI_skip {co ne nn : Nat → Int32} {b k most : Nat} (h : MI N f co ne b k most nn) (hk : ¬ MT N (EB f) b k) : MI N f co ne b (k + 1) most nn := by
  obtain ⟨h0, h1, h2⟩ := h
  refine ⟨h0, h1, ?_⟩
  rcases h2 with h2 | ⟨a, q, hq, h2⟩
  · exact Or.inl h2
  · refine Or.inr ⟨a, q, hq, ?_⟩
    rcases h2 with ⟨b1, b2⟩ | ⟨b1, b2⟩
    · by_cases e : k = q
      · rw [e] at hk
        exact absurd hq.1 hk
      · exact Or.inl ⟨by omega, b2⟩
    · exact Or.inr ⟨by omega, b2⟩
theorem MI_le {co ne nn : Nat → Int32} {b k most : Nat} (hN : N ≤ 16) (hc : ∀ i, i ≤ N → ∀ q, bt (co i) q = true ↔ q ≤ N ∧ ¬ AV N (EB f) (fun j => j = q) i)
    (h : MI N f co ne b k most nn) (hk : MT N (EB f) b k) (hl : cnk (bt (co k)) 17 ≤ most) : MI N f co ne b (k + 1) most nn := by
  obtain ⟨h0, h1, h2⟩ := h
  refine ⟨h0, h1, ?_⟩
  rcases h2 with h2 | ⟨a, q, hq, h2⟩
  · exact absurd hk.2.2.1 h2.1
  · refine Or.inr ⟨a, q, hq, ?_⟩
    rcases h2 with ⟨b1, b2⟩ | ⟨b1, b2⟩
    · by_cases e : q = k
      · rw [e] at b2; omega
      · exact Or.inl ⟨by omega, b2⟩
    · exact Or.inr ⟨by omega, b2⟩
theorem MI_gt {co ne nn : Nat → Int32} {b k most : Nat} (hN : N ≤ 16) (hc : ∀ i, i ≤ N → ∀ q, bt (co i) q = true ↔ q ≤ N ∧ ¬ AV N (EB f) (fun j => j = q) i)
    (h : MI N f co ne b k most nn) (hk : MT N (EB f) b k) (hl : most < cnk (bt (co k)) 17) : MI N f co ne b (k + 1) (cnk (bt (co k)) 17) (upd nn b (nI k)) := by
  obtain ⟨h0, h1, h2⟩ := h
  refine ⟨cnk_n _ _, fun j hj => by rw [pk_un hj]; exact h1 j hj, ?_⟩
  rcases h2 with h2 | ⟨a, q, hq, h2⟩
  · exact absurd hk.2.2.1 h2.1
  · refine Or.inr ⟨a, q, hq, ?_⟩
    rcases h2 with ⟨b1, b2⟩ | ⟨b1, b2, b3⟩
    · by_cases e : q = k
      · rw [e]
        exact Or.inr ⟨by omega, rfl, pk_us⟩
      · exact Or.inl ⟨by omega, sz_lt hN hc hq hk e⟩
    · have := sz_lt hN hc hq hk (by omega)
      omega
theorem MI_end {co ne nn : Nat → Int32} {b k most : Nat} (h : MI N f co ne b k most nn) (hk : N < k) : NA N f b (nn b) := by
  obtain ⟨h0, h1, h2⟩ := h
  rcases h2 with h2 | ⟨a, q, hq, h2⟩
  · exact Or.inl h2
  · have := hq.1.2.1
    rcases h2 with ⟨b1, b2⟩ | ⟨b1, b2, b3⟩
    · omega
    · exact Or.inr ⟨a, q, this, hq, b3⟩
theorem xm96 {post : SX → Prop} {J42 : Int32 → Int32 → T13} {M z : Int32} {b k most s : Nat} (hb : b < 16) (hs : s ≤ 17) (hm : most ≤ 17) (hk : k ≤ 16)
    (h1 : s ≤ most → J42 (nI most) (nI (k + 1)) a_op a_first a_second a_next a_common (upd a_nearest b z) a_below a_knowing a_ends a_stepsOf a_outsOf a_shown a_value) (h2 : most < s → J42 (nI s) (nI (k + 1)) a_op a_first a_second a_next a_common (upd a_nearest b z) a_below a_knowing a_ends a_stepsOf a_outsOf a_shown a_value) :
    wX_findMeeting_96 post J42 (nI b) M (nI most) (nI k) (nI s) z (nI b) (nI N) f_known f_reached f_ending f_secrets f_dark f_ran a_op a_first a_second a_next a_common a_nearest a_below a_knowing a_ends a_stepsOf a_outsOf a_shown a_value := by
  refine ⟨vp_in_nI hb (by omega), nm_r (e' := upd a_nearest b z) (by rw [nI_clamp (by omega)]) ?_⟩
  exact pk_le s most (fun h => nm_r (nI_1 k) (h1 h)) (fun h => nm_r (nI_1 k) (h2 h))
theorem xm42 {post : SX → Prop} {M : Int32} {b : Nat} {ne : Nat → Int32} (hN : N ≤ 16) (hb : b < N) (hn : ∀ i, i < N → a_next i = f i) (hf : ∀ i j, i < N → EB f i j → j ≤ N)
    (hc : ∀ i, i ≤ N → ∀ q, bt (a_common i) q = true ↔ q ≤ N ∧ ¬ AV N (EB f) (fun j => j = q) i) (hM : MB N f b M)
    (K : ∀ (nn : Nat → Int32) (u : Int32), (∀ j, j ≠ b → nn j = ne j) → NA N f b (nn b) → UB N f b u → post (nI N, f_known, f_reached, f_ending, f_secrets, f_dark, f_ran, a_op, a_first, a_second, a_next, a_common, nn, upd a_below b u, a_knowing, a_ends, a_stepsOf, a_outsOf, a_shown, a_value)) :
    ∀ (n k most : Nat) (nn : Nat → Int32), N + 1 < n + k → k ≤ N + 1 → MI N f a_common ne b k most nn →
    wX_findMeeting_42 post (nI b) M (nI N) f_known f_reached f_ending f_secrets f_dark f_ran n (nI most) (nI k) a_op a_first a_second a_next a_common nn a_below a_knowing a_ends a_stepsOf a_outsOf a_shown a_value := by
  intro n
  induction n with
  | zero => intro k most nn h1 h2; omega
  | succ n ih =>
    intro k most nn h1 h2 hi
    rw [wX_findMeeting_42]
    have cb : (nI b).toNatClampNeg = b := nI_clamp (by omega)
    have ck : (nI k).toNatClampNeg = k := nI_clamp (by omega)
    have vb : vp_in (nI b) 16 := vp_in_nI (by omega) (by omega)
    dsimp only
    rw [cb, ck]
    by_cases e : N < k
    · refine br_t (nI_lt e (by omega)) ⟨vb, ?_⟩
      rw [hn b hb]
      refine xSp (f := f) hN hn (fun j hj => hf b j hb hj) hf (fun s hs => ⟨vb, nm_e (K nn _ hi.2.1 (MI_end hi e) (fun j => ?_))⟩)
      show bt (s &&& (b1 N - 1)) j = true ↔ _
      rw [sf_and, sf_mask (by omega), RB_MB hM hs j]
      exact ⟨fun z => ⟨z.2, z.1⟩, fun z => ⟨z.2, z.1⟩⟩
    · have hm := hi.1
      have hs := cnk_n (bt (a_common k)) 17
      refine br_f (nI_nlt (by omega) (by omega)) (sf_br (by omega) (fun h => ⟨vp_in_nI (by omega) (by omega), xSz ?_⟩) (fun h => ?_))
      · have hk : MT N (EB f) b k := (hM k).mp h
        refine pk_le (cnk (bt (a_common k)) 17) most (fun hl => ⟨vb, ?_⟩) (fun hl => ?_)
        · refine xm96 (by omega) hs hm (by omega) (fun _ => ?_) (fun z => by omega)
          rw [sf_upd_self]
          exact ih (k + 1) most nn (by omega) (by omega) (MI_le hN hc hi hk hl)
        · refine xm96 (by omega) hs hm (by omega) (fun z => by omega) (fun _ => ?_)
          exact ih (k + 1) _ _ (by omega) (by omega) (MI_gt hN hc hi hk hl)
      · refine nm_r (nI_1 k) (ih (k + 1) most nn (by omega) (by omega) (MI_skip hi (fun z => ?_)))
        rw [(hM k).mpr z] at h
        exact absurd h (by decide)
theorem xM {post : SX → Prop} {b : Nat} (hN : N ≤ 16) (hb : b < N) (hn : ∀ i, i < N → a_next i = f i) (hf : ∀ i j, i < N → EB f i j → j ≤ N)
    (hc : ∀ i, i ≤ N → ∀ q, bt (a_common i) q = true ↔ q ≤ N ∧ ¬ AV N (EB f) (fun j => j = q) i) (he : ∀ j, bt f_ending j = true ↔ AV N (EB f) NW j)
    (K : ∀ (nn : Nat → Int32) (u : Int32), (∀ j, j ≠ b → nn j = a_nearest j) → NA N f b (nn b) → UB N f b u → post (nI N, f_known, f_reached, f_ending, f_secrets, f_dark, f_ran, a_op, a_first, a_second, a_next, a_common, nn, upd a_below b u, a_knowing, a_ends, a_stepsOf, a_outsOf, a_shown, a_value)) :
    wpX_findMeeting post (nI N, f_known, f_reached, f_ending, f_secrets, f_dark, f_ran, a_op, a_first, a_second, a_next, a_common, a_nearest, a_below, a_knowing, a_ends, a_stepsOf, a_outsOf, a_shown, a_value) (nI b) := by
  have cb : (nI b).toNatClampNeg = b := nI_clamp (by omega)
  have vb : vp_in (nI b) 16 := vp_in_nI (by omega) (by omega)
  have k0 : ∀ M : Int32, MB N f b M → wX_findMeeting_28 post (nI b) M (nI N) f_known f_reached f_ending f_secrets f_dark f_ran a_op a_first a_second a_next a_common a_nearest a_below a_knowing a_ends a_stepsOf a_outsOf a_shown a_value := by
    intro M hM
    refine ⟨vb, nm_r (e' := upd a_nearest b (-4)) (by rw [cb]) ⟨N + 2, ?_⟩⟩
    refine xm42 (f := f) (ne := a_nearest) hN hb hn hf hc hM K (N + 2) 0 0 _ (by omega) (by omega) ⟨by omega, fun j hj => pk_un hj, ?_⟩
    by_cases a : AV N (EB f) NW b
    · obtain ⟨q, hq⟩ := NR_ex hf hb a
      have hq2 := hq.1.2.1
      refine Or.inr ⟨a, q, hq, Or.inl ⟨by omega, ?_⟩⟩
      have : cnk (fun _ => false) 17 < cnk (bt (a_common q)) 17 := cnk_lt (k := q) 17 (fun j _ z => absurd z (by decide)) (by omega) (by decide) ((hc q hq2 q).mpr ⟨hq2, AV_self⟩)
      omega
    · exact Or.inl ⟨a, pk_us⟩
  refine sf_br (by omega) (fun h => ⟨vp_in_nI (by omega) (by omega), ?_⟩) (fun h => ?_)
  · rw [cb]
    refine k0 _ (fun q => ?_)
    show bt (a_common b &&& (b1 b ^^^ (-1))) q = true ↔ _
    rw [sf_an, sf_1 (by omega), hc b (by omega) q]
    exact ⟨fun z => ⟨z.2, z.1.1, (he b).mp h, z.1.2⟩, fun z => ⟨⟨z.2.1, z.2.2.2⟩, z.1⟩⟩
  · refine k0 0 (fun q => ⟨fun z => absurd z sf_0, fun z => ?_⟩)
    rw [(he b).mpr z.2.2.1] at h
    exact absurd h (by decide)
end
end
section
/-! X's walks: secrets, behind, handing on, knowing -/
section
variable {f_known f_reached f_ending f_secrets f_dark f_ran : Int32} {a_op a_first a_second a_next a_common a_nearest a_below a_knowing a_ends a_stepsOf a_outsOf a_shown a_value : Nat → Int32} {N : Nat} {o r x : Nat → Nat} {f : Nat → Int32} {K : Nat → Int32}
theorem sq_6 {re : Int32} {b : Nat} (h : o b ≠ 6) : sq o r re K b = false := by unfold sq; rw [decide_eq_false h]; rfl
theorem sq_r {re : Int32} {b : Nat} (h : bt re b = false) : sq o r re K b = false := by unfold sq; rw [h, Bool.false_and, Bool.and_false]
theorem sq_k {re : Int32} {b : Nat} (h : bt (K b) (r b) = false) : sq o r re K b = false := by unfold sq; rw [h, Bool.and_false, Bool.and_false]
theorem sq_t {re : Int32} {b : Nat} (h1 : o b = 6) (h2 : bt re b = true) (h3 : bt (K b) (r b) = true) : sq o r re K b = true := by unfold sq; rw [decide_eq_true h1, h2, h3]; rfl
theorem xk12 {post : SX → Prop} (hG : PG N o r x) (hP : prX N o r x a_op a_first a_second) (hK : ∀ j, j ≤ N → a_knowing j = K j)
    (C : post (nI N, f_known, f_reached, f_ending, scf (sq o r f_reached K) N, dkf (sq o r f_reached K) a_below N, f_ran, a_op, a_first, a_second, a_next, a_common, a_nearest, a_below, a_knowing, a_ends, a_stepsOf, a_outsOf, a_shown, a_value)) : ∀ n i : Nat, N < n + i → i ≤ N →
    wX_findSecrets_12 post (nI N) f_known f_reached f_ending f_ran a_op a_first a_second a_next a_common a_nearest a_below a_knowing a_ends a_stepsOf a_outsOf a_shown a_value n (nI i) (scf (sq o r f_reached K) i) (dkf (sq o r f_reached K) a_below i) := by
  intro n
  induction n with
  | zero => intro i h1 h2; omega
  | succ n ih =>
    intro i h1 h2
    have h16 := hG.2.1
    rw [wX_findSecrets_12]
    by_cases e : N ≤ i
    · have ei : i = N := by omega
      rw [ei]
      exact br_t (nI_le (Nat.le_refl _) (by omega)) C
    · have hi : i < N := by omega
      obtain ⟨g1, g2, g3, g4⟩ := hG.2.2 i hi
      obtain ⟨p1, p2, p3⟩ := hP i hi
      have c : (nI i).toNatClampNeg = i := nI_clamp (by omega)
      have v : vp_in (nI i) 16 := vp_in_nI (by omega) (by omega)
      have v17 : vp_in (nI i) 17 := vp_in_nI (by omega) (by omega)
      have go := ih (i + 1) (by omega) (by omega)
      have skip : sq o r f_reached K i = false → ∀ y : Int32, y = nI i + 1 → wX_findSecrets_12 post (nI N) f_known f_reached f_ending f_ran a_op a_first a_second a_next a_common a_nearest a_below a_knowing a_ends a_stepsOf a_outsOf a_shown a_value n y (scf (sq o r f_reached K) i) (dkf (sq o r f_reached K) a_below i) := by
        intro h y ey
        rw [scf_f h, dkf_f h] at go
        rw [ey, nI_1]
        exact go
      refine br_f (nI_ge hi (by omega)) ⟨v, ?_⟩
      rw [c, p1, p2, hK i (by omega)]
      refine pk_eq (o i) 6 (fun h6 => sf_br (by omega) (fun hr => ⟨v17, v, sf_br (by omega) (fun hk => ?_) (fun hk => skip (sq_k hk))⟩) (fun hr => skip (sq_r hr))) (fun h6 => skip (sq_6 h6))
      have h := sq_t h6 hr hk
      rw [scf_t h, dkf_t h] at go
      exact nm_r (e' := scf (sq o r f_reached K) i ||| b1 i) rfl ⟨v, nm_e (nm_r (nI_1 i) go)⟩
theorem xFS {post : SX → Prop} (hG : PG N o r x) (hP : prX N o r x a_op a_first a_second) (hK : ∀ j, j ≤ N → a_knowing j = K j)
    (C : post (nI N, f_known, f_reached, f_ending, scf (sq o r f_reached K) N, dkf (sq o r f_reached K) a_below N, f_ran, a_op, a_first, a_second, a_next, a_common, a_nearest, a_below, a_knowing, a_ends, a_stepsOf, a_outsOf, a_shown, a_value)) : wpX_findSecrets post (nI N, f_known, f_reached, f_ending, f_secrets, f_dark, f_ran, a_op, a_first, a_second, a_next, a_common, a_nearest, a_below, a_knowing, a_ends, a_stepsOf, a_outsOf, a_shown, a_value) :=
  ⟨N + 1, xk12 hG hP hK C (N + 1) 0 (by omega) (by omega)⟩
/-! behind -/
theorem xb97 {post : Int32 → Prop} {h rr : Int32} {a b c : Bool} (C : post (if (a || (b || c)) = true then h ||| rr else h &&& (rr ^^^ (-1)))) : wX_behind_97 post h rr (bI a) (bI b) (bI c) (nI N) f_known f_reached f_ending f_secrets f_dark f_ran a_op a_first a_second a_next a_common a_nearest a_below a_knowing a_ends a_stepsOf a_outsOf a_shown a_value := by
  refine bI_br (fun ea => bI_br (fun eb => bI_br (fun ec => ?_) (fun ec => ?_)) (fun eb => ?_)) (fun ea => ?_)
  · rw [ea, eb, ec] at C; exact C
  · rw [ea, eb, ec] at C; exact C
  · rw [ea, eb] at C; exact C
  · rw [ea] at C; exact C
theorem xb78 {post : Int32 → Prop} {h rr : Int32} {i : Nat} {a b : Bool} (hi : i < 32) (C : post (if (a || (b || bt f_dark i)) = true then h ||| rr else h &&& (rr ^^^ (-1)))) :
    wX_behind_78 post (nI i) h rr (bI a) (bI b) (nI N) f_known f_reached f_ending f_secrets f_dark f_ran a_op a_first a_second a_next a_common a_nearest a_below a_knowing a_ends a_stepsOf a_outsOf a_shown a_value :=
  sf_br hi (fun e => xb97 (c := true) (by rw [e] at C; exact C)) (fun e => xb97 (c := false) (by rw [e] at C; exact C))
theorem xb54 {post : Int32 → Prop} {h : Int32} {i oi ri : Nat} {a : Bool} (hi : i < 32) (ho : oi ≤ 3) (hr : ri < 32) (C : post (if (a || ((decide (2 ≤ oi) && bt h ri) || bt f_dark i)) = true then h ||| b1 ri else h &&& (b1 ri ^^^ (-1)))) :
    wX_behind_54 post (nI i) h (nI oi) (b1 ri) (bI a) (nI N) f_known f_reached f_ending f_secrets f_dark f_ran a_op a_first a_second a_next a_common a_nearest a_below a_knowing a_ends a_stepsOf a_outsOf a_shown a_value := by
  have k66 : 2 ≤ oi → wX_behind_66 post (nI i) h (b1 ri) (bI a) (nI N) f_known f_reached f_ending f_secrets f_dark f_ran a_op a_first a_second a_next a_common a_nearest a_below a_knowing a_ends a_stepsOf a_outsOf a_shown a_value := by
    intro h2
    rw [decide_eq_true h2, Bool.true_and] at C
    refine br_c (fun z => ?_) (fun z => ?_)
    · have e : bt h ri = false := by
        cases e : bt h ri
        · rfl
        · have : bt (h &&& b1 ri) ri = true := sf_and.mpr ⟨e, (sf_1 hr).mpr rfl⟩
          rw [z] at this
          exact absurd this sf_0
      rw [e] at C
      exact xb78 (b := false) hi C
    · have e : bt h ri = true := by
        obtain ⟨q, hq⟩ := sf_nz z
        rw [sf_and, sf_1 hr] at hq
        rw [← hq.2]
        exact hq.1
      rw [e] at C
      exact xb78 (b := true) hi C
  refine pk_eq oi 2 (fun e => k66 (by omega)) (fun e2 => pk_eq oi 3 (fun e => k66 (by omega)) (fun e3 => ?_))
  rw [decide_eq_false (by omega), Bool.false_and] at C
  exact xb78 (b := false) hi C
theorem bh_hi {dk : Int32} {i : Nat} (h : ¬ o i ≤ 3) : bh o r x K dk i = K i := if_neg h
theorem bh_lo {dk : Int32} {i : Nat} (h : o i ≤ 3) : bh o r x K dk i = if bs o r x K dk i = true then K i ||| b1 (r i) else K i &&& (b1 (r i) ^^^ (-1)) := if_pos h
theorem xBh {post : Int32 → Prop} {i : Nat} (hG : PG N o r x) (hP : prX N o r x a_op a_first a_second) (hK : a_knowing i = K i) (hi : i < N)
    (C : post (bh o r x K f_dark i)) : wpX_behind post (nI N, f_known, f_reached, f_ending, f_secrets, f_dark, f_ran, a_op, a_first, a_second, a_next, a_common, a_nearest, a_below, a_knowing, a_ends, a_stepsOf, a_outsOf, a_shown, a_value) (nI i) := by
  have h16 := hG.2.1
  obtain ⟨g1, g2, g3, g4⟩ := hG.2.2 i hi
  obtain ⟨p1, p2, p3⟩ := hP i hi
  have c : (nI i).toNatClampNeg = i := nI_clamp (by omega)
  have v : vp_in (nI i) 16 := vp_in_nI (by omega) (by omega)
  have v17 : vp_in (nI i) 17 := vp_in_nI (by omega) (by omega)
  refine ⟨v17, nm_r (e' := K i) (by rw [c, hK]) ⟨v, nm_r (e' := nI (o i)) (by rw [c, p1]) ?_⟩⟩
  refine pk_le (o i) 3 (fun h3 => ⟨v, nm_r (e' := b1 (r i)) (by rw [c, p2]; rfl) ?_⟩) (fun h3 => by rw [bh_hi (by omega)] at C; exact C)
  rw [bh_lo h3] at C
  unfold bs at C
  refine pk_eq (o i) 0 (fun h0 => ?_) (fun h0 => ⟨v, ?_⟩)
  · rw [decide_eq_false (show ¬ o i ≠ 0 by omega), Bool.false_and] at C
    exact xb54 (a := false) (by omega) h3 (by omega) C
  · rw [c, p3]
    rw [decide_eq_true h0, Bool.true_and] at C
    exact sf_br (by omega) (fun e => xb54 (a := true) (by omega) h3 (by omega) (by rw [e] at C; exact C)) (fun e => xb54 (a := false) (by omega) h3 (by omega) (by rw [e] at C; exact C))
/-! handing on -/
theorem hk_s {e s : Int32} {k j : Nat} (a : Nat → Int32) (ha : ∀ j, j ≤ N → a j = hk e s K k j) (hj : j ≤ N) (v : Int32) (hv : v = if bt e k = true then K k ||| s else K k) : upd a k v j = hk e s K (k + 1) j := by
  by_cases ej : j = k
  · rw [ej, pk_us, hv]
    by_cases z : bt e k = true
    · rw [if_pos z, hk_in (by omega) z]
    · rw [if_neg z, hk_out (fun y => z y.2)]
  · rw [pk_un ej, ha j hj]
    unfold hk
    by_cases z : j < k ∧ bt e j = true
    · rw [if_pos z, if_pos ⟨by omega, z.2⟩]
    · rw [if_neg z, if_neg (fun y => z ⟨by omega, y.2⟩)]
theorem xh92 {post : Int32 → SX → Prop} {J4 J21 : Int32 → Int32 → T13} {i k : Nat} {s : Int32} {g m : Bool} (hk : k < 17) (hKk : ∀ q, bt (K k) q = true → q < 4) (hs : ∀ q, bt s q = true → q < 4) (ha : a_knowing k = K k)
    (C : ∀ v : Int32, v = (if g = true then K k ||| s else K k) → J21 (bI m) (nI (k + 1)) a_op a_first a_second a_next a_common a_nearest a_below (upd a_knowing k v) a_ends a_stepsOf a_outsOf a_shown a_value) :
    wX_handOn_92 post J4 J21 (nI i) s (nI k) (bI g) (bI m) (nI N) f_known f_reached f_ending f_secrets f_dark f_ran a_op a_first a_second a_next a_common a_nearest a_below a_knowing a_ends a_stepsOf a_outsOf a_shown a_value := by
  have c : (nI k).toNatClampNeg = k := nI_clamp (by omega)
  have v : vp_in (nI k) 17 := vp_in_nI hk (by omega)
  refine bI_br (fun e => ⟨v, v, nm_r (e' := upd a_knowing k (K k)) ?_ (nm_r (nI_1 k) (C _ ?_))⟩) (fun e => ⟨v, v, nm_r (e' := upd a_knowing k (K k ||| s)) ?_ (nm_r (nI_1 k) (C _ ?_))⟩)
  · rw [c, ha, kn_byte hKk]
  · rw [e, if_neg (by decide)]
  · rw [c, ha, kn_byte (fun q hq => (sf_or.mp hq).elim (hKk q) (hs q))]
  · rw [e, if_pos rfl]
theorem xh62 {post : Int32 → SX → Prop} {J4 J21 : Int32 → Int32 → T13} {i k : Nat} {s : Int32} {g m : Bool} (hk : k < 17) (hKk : ∀ q, bt (K k) q = true → q < 4) (hs : ∀ q, bt s q = true → q < 4) (ha : a_knowing k = K k)
    (C : ∀ v : Int32, v = (if g = true then K k ||| s else K k) → J21 (bI (m || (g && !decide (s &&& (K k ^^^ (-1)) = 0)))) (nI (k + 1)) a_op a_first a_second a_next a_common a_nearest a_below (upd a_knowing k v) a_ends a_stepsOf a_outsOf a_shown a_value) :
    wX_handOn_62 post J4 J21 (bI m) (nI i) s (nI k) (bI g) (nI N) f_known f_reached f_ending f_secrets f_dark f_ran a_op a_first a_second a_next a_common a_nearest a_below a_knowing a_ends a_stepsOf a_outsOf a_shown a_value := by
  have c : (nI k).toNatClampNeg = k := nI_clamp (by omega)
  have v : vp_in (nI k) 17 := vp_in_nI hk (by omega)
  refine bI_br (fun em => bI_br (fun eg => ?_) (fun eg => ⟨v, ?_⟩)) (fun em => ?_)
  · rw [em, eg] at C
    rw [eg]
    exact xh92 (g := false) (m := false) hk hKk hs ha C
  · rw [em, eg] at C
    rw [c, ha]
    refine br_c (fun z => ?_) (fun z => ?_)
    · rw [decide_eq_true z] at C
      rw [eg]
      exact xh92 (g := true) (m := false) hk hKk hs ha C
    · rw [decide_eq_false z] at C
      rw [eg]
      exact xh92 (g := true) (m := true) hk hKk hs ha C
  · rw [em] at C
    exact xh92 (m := true) hk hKk hs ha C
theorem xh21 {post : Int32 → SX → Prop} {J4 : Int32 → Int32 → T13} {i : Nat} {s : Int32} {m : Bool} (hN : N ≤ 16) (hi : i < N) (hn : a_next i = f i) (hK : KR K) (hs : ∀ q, bt s q = true → q < 4) (hr : bt f_reached i = true)
    (C : ∀ a : Nat → Int32, (∀ j, j ≤ N → a j = hk (f i) s K (N + 1) j) → J4 (bI (m || hm (f i) s K (N + 1))) (nI (i + 1)) a_op a_first a_second a_next a_common a_nearest a_below a a_ends a_stepsOf a_outsOf a_shown a_value) :
    ∀ (n k : Nat) (a : Nat → Int32), N + 1 < n + k → k ≤ N + 1 → (∀ j, j ≤ N → a j = hk (f i) s K k j) →
    wX_handOn_21 post J4 (nI i) s (nI N) f_known f_reached f_ending f_secrets f_dark f_ran n (bI (m || hm (f i) s K k)) (nI k) a_op a_first a_second a_next a_common a_nearest a_below a a_ends a_stepsOf a_outsOf a_shown a_value := by
  intro n
  induction n with
  | zero => intro k a h1 h2; omega
  | succ n ih =>
    intro k a h1 h2 ha
    rw [wX_handOn_21]
    by_cases e : N < k
    · have ek : k = N + 1 := by omega
      rw [ek] at ha ⊢
      exact br_t (nI_lt (by omega) (by omega)) (nm_r (nI_1 i) (C a ha))
    · have c : (nI i).toNatClampNeg = i := nI_clamp (by omega)
      have v : vp_in (nI i) 16 := vp_in_nI (by omega) (by omega)
      have hak : a k = K k := by rw [ha k (by omega), hk_out (by omega)]
      refine br_f (nI_nlt (by omega) (by omega)) (br_t ((sf_t (by omega)).mpr hr) ⟨v, ?_⟩)
      rw [c, hn]
      have C' : ∀ v : Int32, v = (if bt (f i) k = true then K k ||| s else K k) → wX_handOn_21 post J4 (nI i) s (nI N) f_known f_reached f_ending f_secrets f_dark f_ran n (bI ((m || hm (f i) s K k) || (bt (f i) k && !decide (s &&& (K k ^^^ (-1)) = 0)))) (nI (k + 1)) a_op a_first a_second a_next a_common a_nearest a_below (upd a k v) a_ends a_stepsOf a_outsOf a_shown a_value := by
        intro v hv
        rw [Bool.or_assoc, ← hm_s]
        exact ih (k + 1) _ (by omega) (by omega) (fun j hj => hk_s a ha hj v hv)
      refine sf_br (by omega) (fun e => ?_) (fun e => ?_)
      · rw [e] at C'
        exact xh62 (g := true) (by omega) (hK k) hs hak C'
      · rw [e] at C'
        exact xh62 (g := false) (by omega) (hK k) hs hak C'
theorem xh4 {post : Int32 → SX → Prop} (hG : PG N o r x) (hP : prX N o r x a_op a_first a_second) (hn : ∀ i, i < N → a_next i = f i) (hK : KR K)
    (C : ∀ a : Nat → Int32, (∀ j, j ≤ N → a j = (ho N f o r x f_reached f_dark K N).2 j) → post (bI (ho N f o r x f_reached f_dark K N).1) (nI N, f_known, f_reached, f_ending, f_secrets, f_dark, f_ran, a_op, a_first, a_second, a_next, a_common, a_nearest, a_below, a, a_ends, a_stepsOf, a_outsOf, a_shown, a_value)) :
    ∀ (n i : Nat) (a : Nat → Int32), N < n + i → i ≤ N → (∀ j, j ≤ N → a j = (ho N f o r x f_reached f_dark K i).2 j) →
    wX_handOn_4 post (nI N) f_known f_reached f_ending f_secrets f_dark f_ran n (bI (ho N f o r x f_reached f_dark K i).1) (nI i) a_op a_first a_second a_next a_common a_nearest a_below a a_ends a_stepsOf a_outsOf a_shown a_value := by
  intro n
  induction n with
  | zero => intro i a h1 h2; omega
  | succ n ih =>
    intro i a h1 h2 ha
    have h16 := hG.2.1
    rw [wX_handOn_4]
    by_cases e : N ≤ i
    · have ei : i = N := by omega
      rw [ei] at ha ⊢
      refine br_t (nI_le (Nat.le_refl _) (by omega)) ⟨?_, C a ha⟩
      cases (ho N f o r x f_reached f_dark K N).1
      · exact narrow_b0
      · exact narrow_b1
    · have hi : i < N := by omega
      have hKi : KR (ho N f o r x f_reached f_dark K i).2 := ho_r N f o r x f_reached hK i (fun j hj => (hG.2.2 j (by omega)).2.1)
      refine br_f (nI_ge hi (by omega)) (xBh hG hP (ha i (by omega)) hi ⟨N + 2, ?_⟩)
      cases hr : bt f_reached i
      · rw [wX_handOn_21]
        refine br_f (nI_nlt (a := N) (b := 0) (by omega) (by omega)) (br_f (fun z => by rw [sf_t (by omega), hr] at z; exact absurd z (by decide)) (nm_r (nI_1 i) ?_))
        have K2 := ih (i + 1) a (by omega) (by omega)
        rw [ho_f N f o r x f_reached hr] at K2
        exact K2 ha
      · have K2 := ih (i + 1)
        rw [ho_t N f o r x f_reached hr] at K2
        have K3 := xh21 (post := post) (f_known := f_known) (f_ending := f_ending) (f_secrets := f_secrets) (f_dark := f_dark) (f_ran := f_ran) (J4 := wX_handOn_4 post (nI N) f_known f_reached f_ending f_secrets f_dark f_ran n) (m := (ho N f o r x f_reached f_dark K i).1) h16 hi (hn i hi) hKi (bh_r o r x hKi (hG.2.2 i hi).2.1) hr (fun a' ha' => K2 a' (by omega) (by omega) ha') (N + 2) 0 a (by omega) (by omega)
          (fun j hj => by rw [hk_out (by omega)]; exact ha j hj)
        rw [show hm (f i) (bh o r x (ho N f o r x f_reached f_dark K i).2 f_dark i) (ho N f o r x f_reached f_dark K i).2 0 = false from rfl, Bool.or_false] at K3
        exact K3
theorem xHO {post : Int32 → SX → Prop} (hG : PG N o r x) (hP : prX N o r x a_op a_first a_second) (hn : ∀ i, i < N → a_next i = f i) (hK : KR K) (hA : ∀ j, j ≤ N → a_knowing j = K j)
    (C : ∀ a : Nat → Int32, (∀ j, j ≤ N → a j = (ho N f o r x f_reached f_dark K N).2 j) → post (bI (ho N f o r x f_reached f_dark K N).1) (nI N, f_known, f_reached, f_ending, f_secrets, f_dark, f_ran, a_op, a_first, a_second, a_next, a_common, a_nearest, a_below, a, a_ends, a_stepsOf, a_outsOf, a_shown, a_value)) : wpX_handOn post (nI N, f_known, f_reached, f_ending, f_secrets, f_dark, f_ran, a_op, a_first, a_second, a_next, a_common, a_nearest, a_below, a_knowing, a_ends, a_stepsOf, a_outsOf, a_shown, a_value) :=
  ⟨N + 1, xh4 hG hP hn hK C (N + 1) 0 a_knowing (by omega) (by omega) hA⟩
/-! the rounds -/
theorem xk32 {post : SX → Prop} {T : Nat} (hG : PG N o r x) (hP : prX N o r x a_op a_first a_second) (hn : ∀ i, i < N → a_next i = f i) (hT : KD N f o r x f_reached a_below T)
    (C : ∀ a : Nat → Int32, (∀ j, j ≤ N → a j = ks N f o r x f_reached a_below (T + 1) j) →
      post (nI N, f_known, f_reached, f_ending, scf (sq o r f_reached (ks N f o r x f_reached a_below T)) N, dkf (sq o r f_reached (ks N f o r x f_reached a_below T)) a_below N, f_ran, a_op, a_first, a_second, a_next, a_common, a_nearest, a_below, a, a_ends, a_stepsOf, a_outsOf, a_shown, a_value)) :
    ∀ (d t n : Nat) (sec dk : Int32) (a : Nat → Int32), t + d = T → d + 1 < n → (∀ j, j ≤ N → a j = ks N f o r x f_reached a_below t j) →
    wX_findKnowing_32 post n 1 (nI N) f_known f_reached f_ending sec dk f_ran a_op a_first a_second a_next a_common a_nearest a_below a a_ends a_stepsOf a_outsOf a_shown a_value := by
  intro d
  induction d with
  | zero =>
    intro t n sec dk a h1 h2 ha
    obtain ⟨m, rfl⟩ : ∃ m, n = m + 1 := ⟨n - 1, by omega⟩
    obtain ⟨m', rfl⟩ : ∃ m', m = m' + 1 := ⟨m - 1, by omega⟩
    have et : t = T := by omega
    rw [et] at ha
    rw [wX_findKnowing_32]
    refine br_f (by decide) (xFS hG hP ha (xHO hG hP hn (ks_r N f o r x f_reached a_below (fun j hj => (hG.2.2 j hj).2.1) T) ha (fun a' ha' => ?_)))
    have e : (ho N f o r x f_reached (dkf (sq o r f_reached (ks N f o r x f_reached a_below T)) a_below N) (ks N f o r x f_reached a_below T) N).1 = false := hT.1
    rw [e]
    show wX_findKnowing_32 post (m' + 1) 0 _ _ _ _ _ _ _ _ _ _ _ _ _ _ _ _ _ _ _ _
    rw [wX_findKnowing_32]
    exact br_t rfl (C a' ha')
  | succ d ih =>
    intro t n sec dk a h1 h2 ha
    obtain ⟨m, rfl⟩ : ∃ m, n = m + 1 := ⟨n - 1, by omega⟩
    rw [wX_findKnowing_32]
    refine br_f (by decide) (xFS hG hP ha (xHO hG hP hn (ks_r N f o r x f_reached a_below (fun j hj => (hG.2.2 j hj).2.1) t) ha (fun a' ha' => ?_)))
    have e : (ho N f o r x f_reached (dkf (sq o r f_reached (ks N f o r x f_reached a_below t)) a_below N) (ks N f o r x f_reached a_below t) N).1 = true := hT.2 t (by omega)
    rw [e]
    exact ih (t + 1) m _ _ a' (by omega) (by omega) ha'
theorem xk2 {post : SX → Prop} {T : Nat} (hG : PG N o r x) (hP : prX N o r x a_op a_first a_second) (hn : ∀ i, i < N → a_next i = f i) (hT : KD N f o r x f_reached a_below T)
    (C : ∀ a : Nat → Int32, (∀ j, j ≤ N → a j = ks N f o r x f_reached a_below (T + 1) j) →
      post (nI N, f_known, f_reached, f_ending, scf (sq o r f_reached (ks N f o r x f_reached a_below T)) N, dkf (sq o r f_reached (ks N f o r x f_reached a_below T)) a_below N, f_ran, a_op, a_first, a_second, a_next, a_common, a_nearest, a_below, a, a_ends, a_stepsOf, a_outsOf, a_shown, a_value)) :
    ∀ (n i : Nat) (a : Nat → Int32), N + 1 < n + i → i ≤ N + 1 → (∀ j, j < i → a j = 0) → wX_findKnowing_2 post (nI N) f_known f_reached f_ending f_secrets f_dark f_ran n (nI i) a_op a_first a_second a_next a_common a_nearest a_below a a_ends a_stepsOf a_outsOf a_shown a_value := by
  intro n
  induction n with
  | zero => intro i a h1 h2; omega
  | succ n ih =>
    intro i a h1 h2 ha
    have h16 := hG.2.1
    rw [wX_findKnowing_2]
    by_cases e : N < i
    · refine br_t (nI_lt e (by omega)) (nm_r (e' := upd a 0 2) (by rw [show vp_nar .byte 2 = 2 by rw [vp_nar_byte]; decide]) ⟨T + 2, ?_⟩)
      refine xk32 hG hP hn hT C T 0 (T + 2) _ _ _ (by omega) (by omega) (fun j hj => ?_)
      show upd a 0 2 j = if j = 0 then 2 else 0
      by_cases ej : j = 0
      · rw [ej, pk_us, if_pos rfl]
      · rw [pk_un ej, if_neg ej]; exact ha j (by omega)
    · refine br_f (nI_nlt (by omega) (by omega)) ⟨vp_in_nI (by omega) (by omega), nm_r (e' := upd a i 0) (by rw [nI_clamp (by omega), show vp_nar .byte 0 = 0 by rw [vp_nar_byte]; decide]) (nm_r (nI_1 i) (ih (i + 1) _ (by omega) (by omega) (fun j hj => ?_)))⟩
      by_cases ej : j = i
      · rw [ej, pk_us]
      · rw [pk_un ej]; exact ha j (by omega)
theorem xFK {post : SX → Prop} {T : Nat} (hG : PG N o r x) (hP : prX N o r x a_op a_first a_second) (hn : ∀ i, i < N → a_next i = f i) (hT : KD N f o r x f_reached a_below T)
    (C : ∀ a : Nat → Int32, (∀ j, j ≤ N → a j = ks N f o r x f_reached a_below (T + 1) j) →
      post (nI N, f_known, f_reached, f_ending, scf (sq o r f_reached (ks N f o r x f_reached a_below T)) N, dkf (sq o r f_reached (ks N f o r x f_reached a_below T)) a_below N, f_ran, a_op, a_first, a_second, a_next, a_common, a_nearest, a_below, a, a_ends, a_stepsOf, a_outsOf, a_shown, a_value)) : wpX_findKnowing post (nI N, f_known, f_reached, f_ending, f_secrets, f_dark, f_ran, a_op, a_first, a_second, a_next, a_common, a_nearest, a_below, a_knowing, a_ends, a_stepsOf, a_outsOf, a_shown, a_value) :=
  ⟨N + 2, xk2 hG hP hn hT C (N + 2) 0 a_knowing (by omega) (by omega) (fun j hj => by omega)⟩
/-! find -/
/-- what find leaves -/
def FD (N : Nat) (o r x : Nat → Nat) (re sec dk : Int32) (ne bl kn : Nat → Int32) : Prop :=
  (∀ j, bt re j = true ↔ RR N (EB (nx N o x)) (fun j => j = 0) NW j) ∧ (∀ b, b < N → NA N (nx N o x) b (ne b)) ∧ (∀ b, b < N → UB N (nx N o x) b (bl b)) ∧
  ∃ T, KD N (nx N o x) o r x re bl T ∧ (∀ j, j ≤ N → kn j = ks N (nx N o x) o r x re bl (T + 1) j) ∧ sec = scf (sq o r re (ks N (nx N o x) o r x re bl T)) N ∧ dk = dkf (sq o r re (ks N (nx N o x) o r x re bl T)) bl N
theorem xf41 {post : SX → Prop} (hG : PG N o r x) (hP : prX N o r x a_op a_first a_second) (hn : ∀ i, i < N → a_next i = nx N o x i)
    (hc : ∀ i, i ≤ N → ∀ q, bt (a_common i) q = true ↔ q ≤ N ∧ ¬ AV N (EB (nx N o x)) (fun j => j = q) i) (he : ∀ j, bt f_ending j = true ↔ AV N (EB (nx N o x)) NW j)
    (hr : ∀ j, bt f_reached j = true ↔ RR N (EB (nx N o x)) (fun j => j = 0) NW j)
    (C : ∀ (sec dk : Int32) (ne bl kn : Nat → Int32), FD N o r x f_reached sec dk ne bl kn → post (nI N, f_known, f_reached, f_ending, sec, dk, f_ran, a_op, a_first, a_second, a_next, a_common, ne, bl, kn, a_ends, a_stepsOf, a_outsOf, a_shown, a_value)) :
    ∀ (n i : Nat) (ne bl : Nat → Int32), N < n + i → i ≤ N → (∀ b, b < i → NA N (nx N o x) b (ne b)) → (∀ b, b < i → UB N (nx N o x) b (bl b)) →
    wX_find_41 post n (nI i) (nI N) f_known f_reached f_ending f_secrets f_dark f_ran a_op a_first a_second a_next a_common ne bl a_knowing a_ends a_stepsOf a_outsOf a_shown a_value := by
  intro n
  induction n with
  | zero => intro i ne bl h1 h2; omega
  | succ n ih =>
    intro i ne bl h1 h2 hne hbl
    have h16 := hG.2.1
    rw [wX_find_41]
    by_cases e : N ≤ i
    · obtain ⟨T, hT⟩ := KD_ex N (nx N o x) o r x f_reached bl
      refine br_t (nI_le e (by omega)) (xFK (f := nx N o x) hG hP hn hT (fun a ha => ?_))
      exact C _ _ ne bl a ⟨hr, fun b hb => hne b (by omega), fun b hb => hbl b (by omega), T, hT, ha, rfl, rfl⟩
    · have hi : i < N := by omega
      refine br_f (nI_ge hi (by omega)) (xM (f := nx N o x) h16 hi hn (fun i j hi e => nx_le h16 hi e) hc he (fun nn u h1 h2 h3 => nm_r (nI_1 i) (ih (i + 1) nn _ (by omega) (by omega) (fun b hb => ?_) (fun b hb => ?_))))
      · by_cases eb : b = i
        · rw [eb]; exact h2
        · rw [h1 b eb]; exact hne b (by omega)
      · by_cases eb : b = i
        · rw [eb, pk_us]; exact h3
        · rw [pk_un eb]; exact hbl b (by omega)
theorem xFind {post : SX → Prop} (hG : PG N o r x) (hP : prX N o r x a_op a_first a_second) (hk : f_known = 0 ∨ FD N o r x f_reached f_secrets f_dark a_nearest a_below a_knowing)
    (C0 : FD N o r x f_reached f_secrets f_dark a_nearest a_below a_knowing → post (nI N, f_known, f_reached, f_ending, f_secrets, f_dark, f_ran, a_op, a_first, a_second, a_next, a_common, a_nearest, a_below, a_knowing, a_ends, a_stepsOf, a_outsOf, a_shown, a_value))
    (C : ∀ (re en sec dk : Int32) (nt co ne bl kn : Nat → Int32), FD N o r x re sec dk ne bl kn → post (nI N, 1, re, en, sec, dk, f_ran, a_op, a_first, a_second, nt, co, ne, bl, kn, a_ends, a_stepsOf, a_outsOf, a_shown, a_value)) :
    wpX_find post (nI N, f_known, f_reached, f_ending, f_secrets, f_dark, f_ran, a_op, a_first, a_second, a_next, a_common, a_nearest, a_below, a_knowing, a_ends, a_stepsOf, a_outsOf, a_shown, a_value) := by
  have h1 := hG.1
  have h16 := hG.2.1
  have hle : ∀ i j, i < N → EB (nx N o x) i j → j ≤ N := fun i j hi e => nx_le h16 hi e
  have b1e : ∀ j, bt 1 j = true ↔ j = 0 := by
    intro j
    rcases Nat.lt_or_ge j 32 with h | h
    · rw [sf_one j h]; simp
    · rw [b_big h]
      exact ⟨fun z => absurd z (by decide), fun z => by omega⟩
  refine br_c (fun z => ?_) (fun z => C0 (hk.resolve_left z))
  refine xFN hG hP (fun nt hn => ?_)
  refine xSp (f := nx N o x) h16 hn (fun j hj => by rw [b1e] at hj; omega) hle (fun re hre => ?_)
  refine xEn (f := nx N o x) h16 hn (fun en hen => ?_)
  refine xFC (f := nx N o x) h16 hn hle hen (fun co hco => ⟨N + 1, ?_⟩)
  refine xf41 hG hP hn hco hen (fun j => (hre j).trans ?_) (fun sec dk ne bl kn h => C re en sec dk nt co ne bl kn h) (N + 1) 0 _ _ (by omega) (by omega) (fun b hb => by omega) (fun b hb => by omega)
  constructor
  · intro h
    exact RR_m (fun j z => z.elim) (RR_c b1e h)
  · intro h
    exact RR_m (fun j z => absurd z sf_0) (RR_c (fun j => (b1e j).symm) h)
end
end
section
/-! X's walks: runs -/
section
variable {f_known f_reached f_ending f_secrets f_dark f_ran : Int32} {a_op a_first a_second a_next a_common a_nearest a_below a_knowing a_ends a_stepsOf a_outsOf a_shown a_value : Nat → Int32} {N : Nat} {o r x : Nat → Nat}
theorem rn_b128 : ∀ n, n < 128 → (nI n).toInt8.toInt32 = nI n := by decide +kernel
theorem rn_nb {n : Nat} (h : n < 128) : vp_nar .byte (nI n) = nI n := by rw [vp_nar_byte, rn_b128 n h]
theorem rn_nb2 {n : Nat} (h : n < 128) : vp_nar .byte (nI n).toInt8.toInt32 = nI n := by rw [rn_b128 n h, rn_nb h]
theorem rn_add : ∀ p, p < 4 → ∀ q, q < 4 → (nI p + nI q) &&& 3 = nI ((p + q) % 4) := by decide +kernel
theorem rn_sub : ∀ p, p < 4 → ∀ q, q < 4 → (nI p - nI q) &&& 3 = nI ((p + 4 - q) % 4) := by decide +kernel
theorem ng_0 {a : Nat} {g : Nat → Nat} (h : o a = 0) : ng o r x a g = uN1 g (r a) (x a) := if_pos h
theorem ng_1 {a : Nat} {g : Nat → Nat} (h : o a = 1) : ng o r x a g = uN1 g (r a) (g (x a)) := by unfold ng; rw [if_neg (by omega), if_pos h]
theorem ng_2 {a : Nat} {g : Nat → Nat} (h : o a = 2) : ng o r x a g = uN1 g (r a) ((g (r a) + g (x a)) % 4) := by unfold ng; rw [if_neg (by omega), if_neg (by omega), if_pos h]
theorem ng_3 {a : Nat} {g : Nat → Nat} (h : o a = 3) : ng o r x a g = uN1 g (r a) ((g (r a) + 4 - g (x a)) % 4) := by unfold ng; rw [if_neg (by omega), if_neg (by omega), if_neg (by omega), if_pos h]
theorem ng_o {a : Nat} {g : Nat → Nat} (h : 3 < o a) : ng o r x a g = g := by unfold ng; rw [if_neg (by omega), if_neg (by omega), if_neg (by omega), if_neg (by omega)]
theorem uv_s {vv : Nat → Int32} {g : Nat → Nat} {k v : Nat} (h : ∀ j, j < 4 → vv j = nI (g j)) : ∀ j, j < 4 → upd vv k (nI v) j = nI (uN1 g k v j) := by
  intro j hj
  by_cases e : j = k
  · rw [e, pk_us, uN1_s]
  · rw [pk_un e, uN1_n e]; exact h j hj
theorem xDn {post : SX → Prop} {a : Nat} {g : Nat → Nat} (hG : PG N o r x) (ha : a < N) (hv : ∀ j, j < 4 → a_value j = nI (g j)) (hg : ∀ j, j < 4 → g j < 4)
    (C : ∀ vv : Nat → Int32, (∀ j, j < 4 → vv j = nI (ng o r x a g j)) → post (nI N, f_known, f_reached, f_ending, f_secrets, f_dark, f_ran, a_op, a_first, a_second, a_next, a_common, a_nearest, a_below, a_knowing, a_ends, a_stepsOf, a_outsOf, a_shown, vv)) : wpX_done post (nI N, f_known, f_reached, f_ending, f_secrets, f_dark, f_ran, a_op, a_first, a_second, a_next, a_common, a_nearest, a_below, a_knowing, a_ends, a_stepsOf, a_outsOf, a_shown, a_value) (nI (o a)) (nI (r a)) (nI (x a)) := by
  obtain ⟨g1, g2, g3, g4⟩ := hG.2.2 a ha
  have cr : (nI (r a)).toNatClampNeg = r a := nI_clamp (by omega)
  have cx : (nI (x a)).toNatClampNeg = x a := nI_clamp (by omega)
  have vr : vp_in (nI (r a)) 4 := vp_in_nI g2 (by omega)
  have hgr := hg (r a) g2
  refine pk_eq (o a) 0 (fun h => ?_) (fun h0 => pk_eq (o a) 1 (fun h => ?_) (fun h1 => pk_eq (o a) 2 (fun h => ?_) (fun h2 => pk_eq (o a) 3 (fun h => ?_) (fun h3 => ?_))))
  · have hx := g4 (by omega)
    refine ⟨vr, nm_r (e' := upd a_value (r a) (nI (x a))) (by rw [cr, rn_nb2 (by omega)]) (C _ ?_)⟩
    rw [ng_0 h]; exact uv_s hv
  · have hx := g4 (by omega)
    have hgx := hg (x a) hx
    refine ⟨vp_in_nI hx (by omega), vr, nm_r (e' := upd a_value (r a) (nI (g (x a)))) (by rw [cr, cx, hv (x a) hx, rn_nb (by omega)]) (C _ ?_)⟩
    rw [ng_1 h]; exact uv_s hv
  · have hx := g4 (by omega)
    have hgx := hg (x a) hx
    refine ⟨vr, vp_in_nI hx (by omega), vr, nm_r (e' := upd a_value (r a) (nI ((g (r a) + g (x a)) % 4))) (by rw [cr, cx, hv (x a) hx, hv (r a) g2, rn_add _ hgr _ hgx, rn_nb2 (by omega)]) (C _ ?_)⟩
    rw [ng_2 h]; exact uv_s hv
  · have hx := g4 (by omega)
    have hgx := hg (x a) hx
    refine ⟨vr, vp_in_nI hx (by omega), vr, nm_r (e' := upd a_value (r a) (nI ((g (r a) + 4 - g (x a)) % 4))) (by rw [cr, cx, hv (x a) hx, hv (r a) g2, rn_sub _ hgr _ hgx, rn_nb2 (by omega)]) (C _ ?_)⟩
    rw [ng_3 h]; exact uv_s hv
  · refine C _ ?_
    rw [ng_o (by omega)]; exact hv
theorem xGo {post : Int32 → Prop} {a : Nat} {g : Nat → Nat} (hG : PG N o r x) (hP : prX N o r x a_op a_first a_second) (ha : a < N) (hv : ∀ j, j < 4 → a_value j = nI (g j)) (hg : ∀ j, j < 4 → g j < 4)
    (C : post (nI (na N o r x a g))) : wpX_goOn post (nI N, f_known, f_reached, f_ending, f_secrets, f_dark, f_ran, a_op, a_first, a_second, a_next, a_common, a_nearest, a_below, a_knowing, a_ends, a_stepsOf, a_outsOf, a_shown, a_value) (nI a) := by
  have h16 := hG.2.1
  obtain ⟨g1, g2, g3, g4⟩ := hG.2.2 a ha
  obtain ⟨p1, p2, p3⟩ := hP a ha
  have c : (nI a).toNatClampNeg = a := nI_clamp (by omega)
  have cr : (nI (r a)).toNatClampNeg = r a := nI_clamp (by omega)
  have v : vp_in (nI a) 16 := vp_in_nI (by omega) (by omega)
  have vr : vp_in (nI (r a)) 4 := vp_in_nI g2 (by omega)
  have hgr := hg (r a) g2
  have k51 : na N o r x a g = tg N x a → wX_goOn_51 post (nI a) (nI N) f_known f_reached f_ending f_secrets f_dark f_ran a_op a_first a_second a_next a_common a_nearest a_below a_knowing a_ends a_stepsOf a_outsOf a_shown a_value := by
    intro e
    rw [e] at C
    exact xTg hG hP ha C
  refine ⟨v, ?_⟩
  rw [c, p1, p2, cr, hv (r a) g2]
  refine pk_eq (o a) 7 (fun h => ?_) (fun h7 => ⟨v, pk_eq (o a) 5 (fun h => k51 ?_) (fun h5 => ⟨v, pk_eq (o a) 6 (fun h6 => ⟨v, vr, pk_eq (g (r a)) 0 (fun h => k51 ?_) (fun h => ?_)⟩) (fun h6 => ?_)⟩)⟩)
  · unfold na at C; rw [if_pos h] at C; exact C
  · unfold na; rw [if_neg (by omega), if_pos h]
  · unfold na; rw [if_neg h7, if_neg h5, if_pos h6, if_pos h]
  · unfold na at C; rw [if_neg h7, if_neg h5, if_pos h6, if_neg h] at C; rw [nI_1]; exact C
  · unfold na at C; rw [if_neg h7, if_neg h5, if_neg h6] at C; rw [nI_1]; exact C
theorem na_ng {a : Nat} {g : Nat → Nat} : na N o r x a (ng o r x a g) = na N o r x a g := by
  by_cases h : o a = 6
  · rw [ng_o (by omega)]
  · unfold na
    rw [if_neg h, if_neg h]
theorem xr125 {post : SX → Prop} {k a t c : Nat} (hk : k < 16) (ha : a ≤ N) (hN : N ≤ 16) (ht : t ≤ 60) (hc : c ≤ 60)
    (C : post (nI N, f_known, f_reached, f_ending, f_secrets, f_dark, f_ran, a_op, a_first, a_second, a_next, a_common, a_nearest, a_below, a_knowing, upd a_ends k (bI (!decide (a = N))), upd a_stepsOf k (nI t), upd a_outsOf k (nI c), a_shown, a_value)) : wX_runOne_125 post (nI k) (nI a) (nI t) (nI c) (nI N) f_known f_reached f_ending f_secrets f_dark f_ran a_op a_first a_second a_next a_common a_nearest a_below a_knowing a_ends a_stepsOf a_outsOf a_shown a_value := by
  have ck : (nI k).toNatClampNeg = k := nI_clamp (by omega)
  have v : vp_in (nI k) 16 := vp_in_nI hk (by omega)
  refine pk_eq a N (fun h => ?_) (fun h => ?_)
  · rw [decide_eq_true h] at C
    exact ⟨v, nm_r (by rw [ck]; exact congrArg (upd a_ends k) (rn_nb2 (n := 0) (by omega))) ⟨v, nm_r (by rw [ck, rn_nb2 (by omega)]) ⟨v, nm_r (by rw [ck, rn_nb2 (by omega)]) C⟩⟩⟩
  · rw [decide_eq_false h] at C
    exact ⟨v, nm_r (by rw [ck]; exact congrArg (upd a_ends k) (rn_nb2 (n := 1) (by omega))) ⟨v, nm_r (by rw [ck, rn_nb2 (by omega)]) ⟨v, nm_r (by rw [ck, rn_nb2 (by omega)]) C⟩⟩⟩
theorem sh_s {sh : Nat → Int32} {w : Nat → Nat} {b c v : Nat} (h : ∀ i, i < c → sh (b + i) = nI (w i)) : ∀ i, i < c + 1 → upd sh (b + c) (nI v) (b + i) = nI (uN1 w c v i) := by
  intro i hi
  by_cases e : i = c
  · rw [e, pk_us, uN1_s]
  · rw [pk_un (by omega), uN1_n e]; exact h i (by omega)
theorem xr41 {post : SX → Prop} {k : Nat} {sh0 : Nat → Int32} (hG : PG N o r x) (hP : prX N o r x a_op a_first a_second) (hk : k < 16) :
    ∀ (d t a c n : Nat) (g w : Nat → Nat) (vv sh : Nat → Int32), t + d = 60 → d < n → a ≤ N → c ≤ t → (∀ j, j < 4 → vv j = nI (g j)) → (∀ j, j < 4 → g j < 4) → (∀ i, i < c → sh (60 * k + i) = nI (w i)) → (∀ q, q < 60 * k → sh q = sh0 q) →
    (∀ vv sh : Nat → Int32, (∀ i, i < (rn N o r x d t a g c w).2.2.1 → sh (60 * k + i) = nI ((rn N o r x d t a g c w).2.2.2 i)) → (∀ q, q < 60 * k → sh q = sh0 q) →
      post (nI N, f_known, f_reached, f_ending, f_secrets, f_dark, f_ran, a_op, a_first, a_second, a_next, a_common, a_nearest, a_below, a_knowing, upd a_ends k (bI (!decide ((rn N o r x d t a g c w).2.1 = N))), upd a_stepsOf k (nI (rn N o r x d t a g c w).1), upd a_outsOf k (nI (rn N o r x d t a g c w).2.2.1), sh, vv)) →
    wX_runOne_41 post (nI k) n (nI a) (nI t) (nI c) (nI N) f_known f_reached f_ending f_secrets f_dark f_ran a_op a_first a_second a_next a_common a_nearest a_below a_knowing a_ends a_stepsOf a_outsOf sh vv := by
  have h16 := hG.2.1
  intro d
  induction d with
  | zero =>
    intro t a c n g w vv sh h1 h2 ha hc hv hg hs hq C
    obtain ⟨m, rfl⟩ : ∃ m, n = m + 1 := ⟨n - 1, by omega⟩
    have et : t = 60 := by omega
    rw [wX_runOne_41]
    refine br_t (nI_le (a := 60) (b := t) (by omega) (by omega)) (xr125 hk ha h16 (by omega) (by omega) (C vv sh hs hq))
  | succ d ih =>
    intro t a c n g w vv sh h1 h2 ha hc hv hg hs hq C
    obtain ⟨m, rfl⟩ : ∃ m, n = m + 1 := ⟨n - 1, by omega⟩
    rw [wX_runOne_41]
    refine br_f (nI_ge (a := t) (b := 60) (by omega) (by decide)) ?_
    by_cases e : a < N
    · rw [rn_go N o r x e] at C
      obtain ⟨g1, g2, g3, g4⟩ := hG.2.2 a e
      obtain ⟨p1, p2, p3⟩ := hP a e
      have ca : (nI a).toNatClampNeg = a := nI_clamp (by omega)
      have cr : (nI (r a)).toNatClampNeg = r a := nI_clamp (by omega)
      have v : vp_in (nI a) 16 := vp_in_nI (by omega) (by omega)
      have vr : vp_in (nI (r a)) 4 := vp_in_nI g2 (by omega)
      refine br_f (nI_ge e (by omega)) ⟨v, v, v, ?_⟩
      rw [ca, p1, p2, p3]
      refine xDn hG e hv hg (fun vv' hv' => ⟨v, ?_⟩)
      rw [p1]
      refine pk_eq (o a) 4 (fun h4 => ⟨v, ?_⟩) (fun h4 => ?_)
      · have e60 : (60 : Int32) * nI k + nI c = nI (60 * k + c) := by rw [show (60 : Int32) = nI 60 from rfl, pk_mul, nI_add]
        have c60 : (nI (60 * k + c)).toNatClampNeg = 60 * k + c := nI_clamp (by omega)
        have hgr := hg (r a) g2
        have hv2 := hv' (r a) g2
        rw [ng_o (by omega)] at hv2
        rw [p2, cr, hv2, e60, c60]
        have en : nc o a c = c + 1 := if_pos h4
        have ew : nw o r a c g w = uN1 w c (g (r a)) := if_pos h4
        rw [en, ew] at C
        refine ⟨vr, vp_in_nI (by omega) (by omega), nm_r (e' := upd sh (60 * k + c) (nI (g (r a)))) (by rw [rn_nb (by omega)]) (nm_r (nI_1 c) ?_)⟩
        refine xGo hG hP e hv' (ng_4 o r x hg g4) ?_
        rw [na_ng]
        exact nm_r (nI_1 t) (ih (t + 1) _ (c + 1) m _ _ vv' _ (by omega) (by omega) (na_le N o r x e) (by omega) hv' (ng_4 o r x hg g4) (sh_s hs) (fun q hq' => by rw [pk_un (by omega)]; exact hq q hq') C)
      · have en : nc o a c = c := if_neg h4
        have ew : nw o r a c g w = w := if_neg h4
        rw [en, ew] at C
        refine xGo hG hP e hv' (ng_4 o r x hg g4) ?_
        rw [na_ng]
        exact nm_r (nI_1 t) (ih (t + 1) _ c m _ _ vv' _ (by omega) (by omega) (na_le N o r x e) (by omega) hv' (ng_4 o r x hg g4) hs hq C)
    · rw [rn_st N o r x e] at C
      exact br_t (nI_le (by omega) (by omega)) (xr125 hk ha h16 (by omega) (by omega) (C vv sh hs hq))
theorem g0_v {a : Nat → Int32} {p s : Nat} (h0 : a 0 = nI p) (h1 : a 1 = nI s) (h2 : a 2 = 0) (h3 : a 3 = 0) : ∀ j, j < 4 → a j = nI (g0 p s j) := by
  intro j hj
  rcases (by omega : j = 0 ∨ j = 1 ∨ j = 2 ∨ j = 3) with e | e | e | e <;> subst e
  · exact h0
  · exact h1
  · exact h2
  · exact h3
theorem g0_4 {p s : Nat} (hp : p < 4) (hs : s < 4) : ∀ j, j < 4 → g0 p s j < 4 := by
  intro j _
  unfold g0
  split
  · exact hp
  · split
    · exact hs
    · decide
theorem xR1 {post : SX → Prop} {k : Nat} (hG : PG N o r x) (hP : prX N o r x a_op a_first a_second) (hk : k < 16)
    (C : ∀ vv sh : Nat → Int32, (∀ i, i < (RU N o r x k).2.2.1 → sh (60 * k + i) = nI ((RU N o r x k).2.2.2 i)) → (∀ q, q < 60 * k → sh q = a_shown q) →
      post (nI N, f_known, f_reached, f_ending, f_secrets, f_dark, f_ran, a_op, a_first, a_second, a_next, a_common, a_nearest, a_below, a_knowing, upd a_ends k (bI (!rD N o r x k)), upd a_stepsOf k (nI (RU N o r x k).1), upd a_outsOf k (nI (RU N o r x k).2.2.1), sh, vv)) :
    wpX_runOne post (nI N, f_known, f_reached, f_ending, f_secrets, f_dark, f_ran, a_op, a_first, a_second, a_next, a_common, a_nearest, a_below, a_knowing, a_ends, a_stepsOf, a_outsOf, a_shown, a_value) (nI k) := by
  have ed : nI k / 4 = nI (k / 4) := pk_div (d := 4) (by omega) (by decide) (by decide)
  have em : nI k - nI k / 4 * 4 = nI (k % 4) := pk_rem (d := 4) (by omega) (by decide) (by decide)
  have n4 : ¬ (4 : Int32) = 0 := by decide
  have z0 : vp_nar .byte 0 = 0 := by rw [vp_nar_byte]; decide
  refine ⟨n4, nm_r (e' := upd a_value 0 (nI (k / 4))) (by rw [ed, rn_nb2 (by omega)]) ⟨n4, nm_r (e' := upd (upd a_value 0 (nI (k / 4))) 1 (nI (k % 4))) (by rw [em, rn_nb2 (by omega)]) (nm_r (e' := upd (upd (upd a_value 0 (nI (k / 4))) 1 (nI (k % 4))) 2 0) (by rw [z0]) (nm_r (e' := upd (upd (upd (upd a_value 0 (nI (k / 4))) 1 (nI (k % 4))) 2 0) 3 0) (by rw [z0]) ⟨61, ?_⟩))⟩⟩
  refine xr41 (sh0 := a_shown) hG hP hk 60 0 0 0 61 (g0 (k / 4) (k % 4)) (fun _ => 0) _ a_shown rfl (by decide) (Nat.zero_le _) (Nat.le_refl _) (g0_v ?_ ?_ ?_ ?_) (g0_4 (by omega) (by omega)) (fun i hi => by omega) (fun q _ => rfl) C
  · rw [pk_un (by decide), pk_un (by decide), pk_un (by decide), pk_us]
  · rw [pk_un (by decide), pk_un (by decide), pk_us]
  · rw [pk_un (by decide), pk_us]
  · rw [pk_us]
/-- what the first m runs have left -/
def RD (N : Nat) (o r x : Nat → Nat) (m : Nat) (en st ou sh : Nat → Int32) : Prop := ∀ k, k < m → en k = bI (!rD N o r x k) ∧ st k = nI (RU N o r x k).1 ∧ ou k = nI (RU N o r x k).2.2.1 ∧
  ∀ i, i < (RU N o r x k).2.2.1 → sh (60 * k + i) = nI ((RU N o r x k).2.2.2 i)
theorem xra15 {post : SX → Prop} (hG : PG N o r x) (hP : prX N o r x a_op a_first a_second)
    (C : ∀ en st ou sh vv : Nat → Int32, RD N o r x 16 en st ou sh → post (nI N, f_known, f_reached, f_ending, f_secrets, f_dark, f_ran, a_op, a_first, a_second, a_next, a_common, a_nearest, a_below, a_knowing, en, st, ou, sh, vv)) :
    ∀ (n k : Nat) (en st ou sh vv : Nat → Int32), 16 < n + k → k ≤ 16 → RD N o r x k en st ou sh → wX_runAll_15 post n (nI k) (nI N) f_known f_reached f_ending f_secrets f_dark f_ran a_op a_first a_second a_next a_common a_nearest a_below a_knowing en st ou sh vv := by
  intro n
  induction n with
  | zero => intro k en st ou sh vv h1 h2; omega
  | succ n ih =>
    intro k en st ou sh vv h1 h2 h
    rw [wX_runAll_15]
    by_cases e : 16 ≤ k
    · have ek : k = 16 := by omega
      rw [ek] at h ⊢
      exact br_t (nI_le (a := 16) (b := 16) (by decide) (by decide)) (C en st ou sh vv h)
    · refine br_f (nI_ge (a := k) (b := 16) (by omega) (by decide)) (xR1 hG hP (by omega) (fun vv' sh' hs hq => nm_r (nI_1 k) (ih (k + 1) _ _ _ sh' vv' (by omega) (by omega) (fun l hl => ?_))))
      by_cases el : l = k
      · rw [el, pk_us, pk_us, pk_us]
        exact ⟨rfl, rfl, rfl, hs⟩
      · rw [pk_un el, pk_un el, pk_un el]
        obtain ⟨a1, a2, a3, a4⟩ := h l (by omega)
        have := (RU_b N o r x l).2.2
        exact ⟨a1, a2, a3, fun i hi => by rw [hq _ (by omega)]; exact a4 i hi⟩
theorem xRA {post : SX → Prop} (hG : PG N o r x) (hP : prX N o r x a_op a_first a_second) (hk : f_ran = 0 ∨ RD N o r x 16 a_ends a_stepsOf a_outsOf a_shown)
    (C0 : RD N o r x 16 a_ends a_stepsOf a_outsOf a_shown → post (nI N, f_known, f_reached, f_ending, f_secrets, f_dark, f_ran, a_op, a_first, a_second, a_next, a_common, a_nearest, a_below, a_knowing, a_ends, a_stepsOf, a_outsOf, a_shown, a_value))
    (C : ∀ en st ou sh vv : Nat → Int32, RD N o r x 16 en st ou sh → post (nI N, f_known, f_reached, f_ending, f_secrets, f_dark, 1, a_op, a_first, a_second, a_next, a_common, a_nearest, a_below, a_knowing, en, st, ou, sh, vv)) : wpX_runAll post (nI N, f_known, f_reached, f_ending, f_secrets, f_dark, f_ran, a_op, a_first, a_second, a_next, a_common, a_nearest, a_below, a_knowing, a_ends, a_stepsOf, a_outsOf, a_shown, a_value) :=
  br_c (fun _ => ⟨17, xra15 hG hP C 17 0 _ _ _ _ _ (by decide) (by decide) (fun k hk => by omega)⟩) (fun z => C0 (hk.resolve_left z))
/-! outputs told apart -/
theorem xs24z {post : Int32 → Prop} {k l i n c : Nat} (hk : k < 16) (ho : a_outsOf k = nI c) (C : post 0) : wX_sameOutput_24 post (nI k) (nI l) (nI N) f_known f_reached f_ending f_secrets f_dark f_ran a_op a_first a_second a_next a_common a_nearest a_below a_knowing a_ends a_stepsOf a_outsOf a_shown a_value (n + 1) 0 (nI i) := by
  rw [wX_sameOutput_24]
  exact ⟨vp_in_nI hk (by omega), br_c (fun _ => ⟨narrow_b0, C⟩) (fun _ => br_t rfl ⟨narrow_b0, C⟩)⟩
theorem xs24 {post : Int32 → Prop} {k l c : Nat} {w w' : Nat → Nat} (hk : k < 16) (hl : l < 16) (hc : c ≤ 60) (ho : a_outsOf k = nI c) (hw : ∀ i, i < c → a_shown (60 * k + i) = nI (w i)) (hw' : ∀ i, i < c → a_shown (60 * l + i) = nI (w' i))
    (C : post (bI (rq w w' c))) : ∀ n i : Nat, c + 1 < n + i → i ≤ c → rq w w' i = true → wX_sameOutput_24 post (nI k) (nI l) (nI N) f_known f_reached f_ending f_secrets f_dark f_ran a_op a_first a_second a_next a_common a_nearest a_below a_knowing a_ends a_stepsOf a_outsOf a_shown a_value n 1 (nI i) := by
  intro n
  induction n with
  | zero => intro i h1 h2; omega
  | succ n ih =>
    intro i h1 h2 hi
    rw [wX_sameOutput_24]
    have ck : (nI k).toNatClampNeg = k := nI_clamp (by omega)
    refine ⟨vp_in_nI hk (by omega), ?_⟩
    rw [ck, ho]
    refine pk_le c i (fun h => ⟨narrow_b1, ?_⟩) (fun h => br_f (by decide) ?_)
    · have ei : i = c := by omega
      rw [ei] at hi
      rw [hi] at C
      exact C
    · have e1 : (60 : Int32) * nI k + nI i = nI (60 * k + i) := by rw [show (60 : Int32) = nI 60 from rfl, pk_mul, nI_add]
      have e2 : (60 : Int32) * nI l + nI i = nI (60 * l + i) := by rw [show (60 : Int32) = nI 60 from rfl, pk_mul, nI_add]
      rw [e1, e2, nI_clamp (n := 60 * k + i) (by omega), nI_clamp (n := 60 * l + i) (by omega), hw i h, hw' i h]
      refine ⟨vp_in_nI (by omega) (by omega), vp_in_nI (by omega) (by omega), br_c (fun z => nm_r (nI_1 i) (ih (i + 1) (by omega) (by omega) ?_)) (fun z => nm_r (nI_1 i) ?_)⟩
      · rw [rq_s, hi, decide_eq_true z]; rfl
      · have hf : rq w w' (i + 1) = false := by rw [rq_s, hi, decide_eq_false z]; rfl
        rw [rq_fl hf (by omega)] at C
        obtain ⟨m, rfl⟩ : ∃ m, n = m + 1 := ⟨n - 1, by omega⟩
        exact xs24z hk ho C
theorem xSm {post : Int32 → Prop} {k l : Nat} (hk : k < 16) (hl : l < 16) (hR : RD N o r x 16 a_ends a_stepsOf a_outsOf a_shown) (C : post (bI (rS N o r x k l))) : wpX_sameOutput post (nI N, f_known, f_reached, f_ending, f_secrets, f_dark, f_ran, a_op, a_first, a_second, a_next, a_common, a_nearest, a_below, a_knowing, a_ends, a_stepsOf, a_outsOf, a_shown, a_value) (nI k) (nI l) := by
  obtain ⟨a1, a2, a3, a4⟩ := hR k hk
  obtain ⟨b1, b2, b3, b4⟩ := hR l hl
  have ck : (nI k).toNatClampNeg = k := nI_clamp (by omega)
  have cl : (nI l).toNatClampNeg = l := nI_clamp (by omega)
  have u1 := (RU_b N o r x k).2.2
  have u2 := (RU_b N o r x l).2.2
  unfold rS at C
  refine ⟨vp_in_nI hk (by omega), vp_in_nI hl (by omega), ?_⟩
  rw [ck, cl, a3, b3]
  refine pk_eq (RU N o r x k).2.2.1 (RU N o r x l).2.2.1 (fun h => ⟨(RU N o r x k).2.2.1 + 2, ?_⟩) (fun h => ⟨1, ?_⟩)
  · rw [decide_eq_true h, Bool.true_and] at C
    rw [← h] at b4
    exact xs24 hk hl u1 a3 a4 b4 C _ 0 (by omega) (by omega) rfl
  · rw [decide_eq_false h, Bool.false_and] at C
    exact xs24z (i := 0) hk a3 C
theorem xd80 {post : Int32 → Prop} {J6 : Int32 → Int32 → Prop} {x1 : Int32} {c k : Nat} {b : Bool} (hf : b = false → J6 (nI c) (nI (k + 1))) (ht : b = true → J6 (nI (c + 1)) (nI (k + 1))) : wX_differentOutputs_80 post J6 x1 (nI c) (nI k) (bI b) (nI N) f_known f_reached f_ending f_secrets f_dark f_ran a_op a_first a_second a_next a_common a_nearest a_below a_knowing a_ends a_stepsOf a_outsOf a_shown a_value :=
  bI_br (fun e => nm_r (nI_1 k) (hf e)) (fun e => nm_r (nI_1 c) (nm_r (nI_1 k) (ht e)))
theorem xd36 {post : Int32 → Prop} {J6 : Int32 → Int32 → Prop} {x1 : Int32} {p s c : Nat} (hp : p < 4) (hs : s < 4) (hR : RD N o r x 16 a_ends a_stepsOf a_outsOf a_shown)
    (hf : fr N o r x p s s = false → J6 (nI c) (nI (4 * p + s + 1))) (ht : fr N o r x p s s = true → J6 (nI (c + 1)) (nI (4 * p + s + 1))) :
    ∀ n t : Nat, s < n + t → t ≤ s → wX_differentOutputs_36 post J6 x1 (nI c) (nI (4 * p + s)) (nI N) f_known f_reached f_ending f_secrets f_dark f_ran a_op a_first a_second a_next a_common a_nearest a_below a_knowing a_ends a_stepsOf a_outsOf a_shown a_value n (bI (fr N o r x p s t)) (nI (4 * p + t)) := by
  intro n
  induction n with
  | zero => intro t h1 h2; omega
  | succ n ih =>
    intro t h1 h2
    rw [wX_differentOutputs_36]
    by_cases e : s ≤ t
    · have et : t = s := by omega
      rw [et]
      exact br_t (nI_le (Nat.le_refl _) (by omega)) (xd80 hf ht)
    · have ct : (nI (4 * p + t)).toNatClampNeg = 4 * p + t := nI_clamp (by omega)
      refine br_f (nI_ge (by omega) (by omega)) (bI_br (fun h => ?_) (fun h => ⟨vp_in_nI (by omega) (by omega), ?_⟩))
      · rw [h]
        have h' := fr_fl N o r x h (show t ≤ s by omega)
        rw [h'] at hf ht
        exact xd80 (b := false) hf ht
      · have K := ih (t + 1) (by omega) (by omega)
        rw [fr_s, h, Bool.true_and] at K
        rw [ct, (hR (4 * p + t) (by omega)).1]
        refine bI_br (fun hd => ?_) (fun hd => ?_)
        · have hd' : rD N o r x (4 * p + t) = true := by
            cases z : rD N o r x (4 * p + t)
            · rw [z] at hd; exact absurd hd (by decide)
            · rfl
          rw [hd', Bool.true_and] at K
          refine xSm (by omega) (by omega) hR (bI_br (fun hS => nm_r (nI_1 _) ?_) (fun hS => nm_r (nI_1 _) ?_))
          · rw [hS] at K; exact K
          · rw [hS] at K; exact K
        · have hd' : rD N o r x (4 * p + t) = false := by
            cases z : rD N o r x (4 * p + t)
            · rfl
            · rw [z] at hd; exact absurd hd (by decide)
          rw [hd', Bool.false_and] at K
          exact nm_r (nI_1 _) K
theorem xd6 {post : Int32 → Prop} {p : Nat} (hp : p < 4) (hR : RD N o r x 16 a_ends a_stepsOf a_outsOf a_shown) (C : post (nI (nsh N o r x p 4))) :
    ∀ n s : Nat, 4 < n + s → s ≤ 4 → wX_differentOutputs_6 post (nI p) (nI N) f_known f_reached f_ending f_secrets f_dark f_ran a_op a_first a_second a_next a_common a_nearest a_below a_knowing a_ends a_stepsOf a_outsOf a_shown a_value n (nI (nsh N o r x p s)) (nI (4 * p + s)) := by
  intro n
  induction n with
  | zero => intro s h1 h2; omega
  | succ n ih =>
    intro s h1 h2
    rw [wX_differentOutputs_6]
    have e4 : (4 : Int32) * nI p = nI (4 * p) := by rw [show (4 : Int32) = nI 4 from rfl, pk_mul]
    have e44 : nI (4 * p) + (4 : Int32) = nI (4 * p + 4) := by rw [show (4 : Int32) = nI 4 from rfl, nI_add]
    dsimp only
    rw [e4, e44]
    by_cases e : 4 ≤ s
    · have es : s = 4 := by omega
      rw [es]
      exact br_t (nI_le (Nat.le_refl _) (by omega)) C
    · have ck : (nI (4 * p + s)).toNatClampNeg = 4 * p + s := nI_clamp (by omega)
      have K := ih (s + 1) (by omega) (by omega)
      have k36 := xd36 (post := post) (f_known := f_known) (f_reached := f_reached) (f_ending := f_ending) (f_secrets := f_secrets) (f_dark := f_dark) (f_ran := f_ran) (a_op := a_op) (a_first := a_first) (a_second := a_second) (a_next := a_next) (a_common := a_common) (a_nearest := a_nearest) (a_below := a_below) (a_knowing := a_knowing) (a_value := a_value) (J6 := wX_differentOutputs_6 post (nI p) (nI N) f_known f_reached f_ending f_secrets f_dark f_ran a_op a_first a_second a_next a_common a_nearest a_below a_knowing a_ends a_stepsOf a_outsOf a_shown a_value n) (x1 := nI p) (c := nsh N o r x p s) hp (show s < 4 by omega) hR (fun h => by rw [nsh_f N o r x h] at K; exact K) (fun h => by rw [nsh_t N o r x h] at K; exact K) (s + 1) 0 (by omega) (by omega)
      refine br_f (nI_ge (by omega) (by omega)) ⟨vp_in_nI (by omega) (by omega), ?_⟩
      rw [ck, (hR (4 * p + s) (by omega)).1]
      refine bI_br (fun hd => nm_e ⟨s + 1, ?_⟩) (fun hd => nm_e ⟨s + 1, ?_⟩)
      · have hd' : fr N o r x p s 0 = true := by
          show rD N o r x (4 * p + s) = true
          cases z : rD N o r x (4 * p + s)
          · rw [z] at hd; exact absurd hd (by decide)
          · rfl
        rw [hd'] at k36
        exact k36
      · have hd' : fr N o r x p s 0 = false := by
          show rD N o r x (4 * p + s) = false
          cases z : rD N o r x (4 * p + s)
          · rfl
          · rw [z] at hd; exact absurd hd (by decide)
        rw [hd'] at k36
        exact k36
theorem xDO {post : Int32 → Prop} {p : Nat} (hp : p < 4) (hR : RD N o r x 16 a_ends a_stepsOf a_outsOf a_shown) (C : post (nI (nsh N o r x p 4))) : wpX_differentOutputs post (nI N, f_known, f_reached, f_ending, f_secrets, f_dark, f_ran, a_op, a_first, a_second, a_next, a_common, a_nearest, a_below, a_knowing, a_ends, a_stepsOf, a_outsOf, a_shown, a_value) (nI p) :=
  nm_r (e' := nI (4 * p)) (by rw [show (4 : Int32) = nI 4 from rfl, pk_mul]) ⟨5, xd6 hp hR C 5 0 (by decide) (by decide)⟩
theorem xl8 {post : Int32 → SX → Prop} (hR : RD N o r x 16 a_ends a_stepsOf a_outsOf a_shown) (C : post (bI (lk N o r x 4)) (nI N, f_known, f_reached, f_ending, f_secrets, f_dark, f_ran, a_op, a_first, a_second, a_next, a_common, a_nearest, a_below, a_knowing, a_ends, a_stepsOf, a_outsOf, a_shown, a_value)) :
    ∀ n p : Nat, 4 < n + p → p ≤ 4 → wX_leaks_8 post (nI N) f_known f_reached f_ending f_secrets f_dark f_ran a_op a_first a_second a_next a_common a_nearest a_below a_knowing a_ends a_stepsOf a_outsOf a_shown a_value n (bI (lk N o r x p)) (nI p) := by
  intro n
  induction n with
  | zero => intro p h1 h2; omega
  | succ n ih =>
    intro p h1 h2
    rw [wX_leaks_8]
    by_cases e : 4 ≤ p
    · have ep : p = 4 := by omega
      rw [ep]
      refine br_t (nI_le (a := 4) (b := 4) (by decide) (by decide)) (bI_br (fun h => ?_) (fun h => ?_))
      · rw [h] at C; exact C
      · rw [h] at C; exact C
    · have K := ih (p + 1) (by omega) (by omega)
      have hb := nsh_le N o r x p 4
      rw [lk_s] at K
      refine br_f (nI_ge (a := p) (b := 4) (by omega) (by decide)) (xDO (by omega) hR (bI_br (fun h => pk_le (nsh N o r x p 4) 1 (fun hl => nm_r (nI_1 p) ?_) (fun hl => nm_r (nI_1 p) ?_)) (fun h => nm_r (nI_1 p) ?_)))
      · rw [h, decide_eq_false (by omega)] at K; exact K
      · rw [h, decide_eq_true (by omega)] at K; exact K
      · rw [h, Bool.true_or] at K; exact K
end
end
section
/-! Y's walks: next places, reach, meeting places -/
section
variable {g_end g_steps g_outs : Int32} {q_ops q_rs q_xs q_known q_regs q_row q_rows q_lengths : Nat → Int32} {N : Nat} {o r x : Nat → Nat}
theorem yTg {post : Int32 → Prop} {i : Nat} (hG : PG N o r x) (hP : prY N o r x q_ops q_rs q_xs) (hi : i < N) (h56 : o i = 5 ∨ o i = 6) (k : post (nI (tg N x i))) : wpY_target post (nI N, g_end, g_steps, g_outs, q_ops, q_rs, q_xs, q_known, q_regs, q_row, q_rows, q_lengths) (nI i) := by
  obtain ⟨h1, h16, hg⟩ := hG
  obtain ⟨g1, g2, g3, g4⟩ := hg i hi
  have c : (nI i).toNatClampNeg = i := nI_clamp (by omega)
  have v : vp_in (nI i) 16 := vp_in_nI (by omega) (by omega)
  have e := (hP i hi).2.2 (by omega)
  refine ⟨v, ?_⟩
  rw [c, e]
  refine pk_le N (x i) (fun h => ?_) (fun h => ⟨v, ?_⟩)
  · have : tg N x i = N := by unfold tg; split <;> omega
    rw [this] at k; exact k
  · rw [tg, if_pos (by omega)] at k; exact k
theorem yNx {post : Int32 → Prop} {i : Nat} (hG : PG N o r x) (hP : prY N o r x q_ops q_rs q_xs) (hi : i < N) (k : post (nx N o x i)) : wpY_nexts post (nI N, g_end, g_steps, g_outs, q_ops, q_rs, q_xs, q_known, q_regs, q_row, q_rows, q_lengths) (nI i) := by
  have h16 := hG.2.1
  have go := (hG.2.2 i hi).1
  have c : (nI i).toNatClampNeg = i := nI_clamp (by omega)
  have v : vp_in (nI i) 16 := vp_in_nI (by omega) (by omega)
  have e := (hP i hi).1
  refine ⟨v, ?_⟩
  rw [c, e]
  refine pk_eq (o i) 7 (fun h => ?_) (fun h7 => ⟨v, pk_eq (o i) 5 (fun h => ?_) (fun h5 => nm_r (e' := b1 (i + 1)) (by rw [nI_1]; rfl) ⟨v, pk_eq (o i) 6 (fun h => ?_) (fun h6 => ?_)⟩)⟩)
  · rw [nx_7 h] at k; exact k
  · rw [nx_5 h] at k
    exact yTg hG hP hi (Or.inl h) k
  · rw [nx_6 h] at k
    exact yTg hG hP hi (Or.inr h) k
  · rw [nx_o h5 h6 h7] at k; exact k
theorem yr35 {post : Int32 → Prop} {J23 : Int32 → Int32 → Prop} {b w s0 : Int32} (hG : PG N o r x) (hP : prY N o r x q_ops q_rs q_xs) :
    ∀ n i : Nat, N < n + i → i ≤ N → J23 (spf (nx N o x) w N s0) b → wY_reach_35 post J23 w b (nI N) g_end g_steps g_outs q_ops q_rs q_xs q_known q_regs q_row q_rows q_lengths n (spf (nx N o x) w i s0) (nI i) := by
  intro n
  induction n with
  | zero => intro i h1 h2; omega
  | succ n ih =>
    intro i h1 h2 hJ
    have h16 := hG.2.1
    rw [wY_reach_35]
    by_cases e : N ≤ i
    · have ei : i = N := by omega
      rw [ei]
      exact br_t (nI_le (Nat.le_refl _) (by omega)) hJ
    · have K := ih (i + 1) (by omega) (by omega) hJ
      refine br_f (nI_ge (by omega) (by omega)) (sf_br (by omega) (fun hb => ?_) (fun hb => ?_))
      · refine yNx hG hP (by omega) (nm_r (e' := spf (nx N o x) w (i + 1) s0) ?_ (nm_r (nI_1 i) K))
        rw [spf_t hb]
      · rw [spf_n hb] at K
        exact nm_r (nI_1 i) K
theorem yr23 {post : Int32 → Prop} {p w : Int32} (hG : PG N o r x) (hP : prY N o r x q_ops q_rs q_xs) (hp : ∀ j, bt p j = true → j ≤ N) (hq : ∀ s, RB N (nx N o x) p w s → post s) :
    ∀ (d rr n : Nat) (s b : Int32), rr + d = 18 → d < n → SI N (nx N o x) p w rr s b → wY_reach_23 post w (nI N) g_end g_steps g_outs q_ops q_rs q_xs q_known q_regs q_row q_rows q_lengths n s b := by
  have h16 := hG.2.1
  intro d
  induction d with
  | zero =>
    intro rr n s b h1 h2 h
    obtain ⟨m, rfl⟩ : ∃ m, n = m + 1 := ⟨n - 1, by omega⟩
    have e : rr = 18 := by omega
    rw [e] at h
    rw [wY_reach_23]
    have eq := SI_18 h16 hp (fun i j hi e => nx_le h16 hi e) h
    exact br_t eq (hq s (SI_end h eq))
  | succ d ih =>
    intro rr n s b h1 h2 h
    obtain ⟨m, rfl⟩ : ∃ m, n = m + 1 := ⟨n - 1, by omega⟩
    rw [wY_reach_23]
    refine br_c (fun e => hq s (SI_end h e)) (fun e => ⟨N + 1, ?_⟩)
    exact yr35 (s0 := s) hG hP (N + 1) 0 (by omega) (by omega) (ih (rr + 1) m _ _ (by omega) (by omega) (SI_step h e))
theorem yR {post : Int32 → Prop} {w : Int32} {b : Nat} (hG : PG N o r x) (hP : prY N o r x q_ops q_rs q_xs) (hb : b < N) (hq : ∀ s, RB N (nx N o x) (nx N o x b) w s → post s) : wpY_reach post (nI N, g_end, g_steps, g_outs, q_ops, q_rs, q_xs, q_known, q_regs, q_row, q_rows, q_lengths) (nI b) w := by
  have h16 := hG.2.1
  refine br_f (fun z => by rw [nI_eq (by omega) (by omega)] at z; omega) (yNx hG hP hb (nm_e ⟨19, ?_⟩))
  exact yr23 (p := nx N o x b) hG hP (fun j hj => nx_le h16 hb hj) hq 18 0 19 _ _ rfl (by decide) (SI_0 (fun e => e))
theorem yAC {post : Int32 → Prop} (hG : PG N o r x) (hP : prY N o r x q_ops q_rs q_xs) (hq : ∀ s, (∀ j, bt s j = true ↔ RR N (EB (nx N o x)) (fun j => j = 0) NW j) → post s) : wpY_allComeTo post (nI N, g_end, g_steps, g_outs, q_ops, q_rs, q_xs, q_known, q_regs, q_row, q_rows, q_lengths) := by
  have h1 := hG.1
  have b1e : ∀ j, bt 1 j = true ↔ j = 0 := by
    intro j
    rcases Nat.lt_or_ge j 32 with h | h
    · rw [sf_one j h]; simp
    · rw [b_big h]
      exact ⟨fun z => absurd z (by decide), fun z => by omega⟩
  unfold wpY_allComeTo
  dsimp only
  refine yR (b := 0) hG hP (by omega) (fun s hs => hq _ (fun j => ?_))
  rw [sf_or, b1e, hs j]
  constructor
  · intro h
    rcases h with h | h
    · exact h (fun j => RR N (EB (nx N o x)) (fun j => j = 0) NW j) (fun j e _ => RR_s (by omega) (RR_b rfl (fun z => z)) e (fun z => z)) (fun i j hi s e _ => RR_s hi s e (fun z => z))
    · exact RR_b h (fun z => z)
  · intro h
    exact h (fun j => RR N (EB (nx N o x)) (fun j => bt (nx N o x 0) j = true) (fun j => bt 0 j = true) j ∨ j = 0) (fun j e _ => Or.inr e)
      (fun i j hi s e _ => Or.inl (s.elim (fun z => RR_s hi z e sf_0) (fun z => RR_b (by rw [z] at e; exact e) sf_0)))
/-- a place is left out -/
theorem RB_out {f : Nat → Int32} {w s : Int32} {b : Nat} {W : Nat → Prop} (hb : b < N) (hw : ∀ j, bt w j = true ↔ W j) (wb : ¬ W b) (wN : ¬ W N) (h : RB N f (f b) w s) : bt s N = true ↔ AV N (EB f) W b := by
  rw [h N]
  have k : RR N (EB f) (EB f b) (fun j => bt w j = true) N ↔ AV N (EB f) (fun j => bt w j = true) b := RR_AV hb (fun z => wb ((hw b).mp z)) (fun z => wN ((hw N).mp z))
  exact k.trans ⟨fun z => AV_m (fun j y => (hw j).mpr y) z, fun z => AV_m (fun j y => (hw j).mp y) z⟩
theorem ym30 {post : Int32 → Prop} {b : Nat} (hG : PG N o r x) (hP : prY N o r x q_ops q_rs q_xs) (hb : b < N) (ha : AV N (EB (nx N o x)) NW b) (hq : ∀ m, MB N (nx N o x) b m → post m) :
    ∀ (n k : Nat) (m : Int32), N < n + k → k ≤ N → (∀ j, bt m j = true ↔ j = N ∨ (j < k ∧ MT N (EB (nx N o x)) b j)) → wY_meetings_30 post (nI b) (nI N) g_end g_steps g_outs q_ops q_rs q_xs q_known q_regs q_row q_rows q_lengths n m (nI k) := by
  intro n
  induction n with
  | zero => intro k m h1 h2; omega
  | succ n ih =>
    intro k m h1 h2 hm
    have h16 := hG.2.1
    rw [wY_meetings_30]
    by_cases e : N ≤ k
    · refine br_t (nI_le e (by omega)) (hq m (fun j => (hm j).trans ⟨fun z => ?_, fun z => ?_⟩))
      · rcases z with z | z
        · rw [z]; exact MT_N hb ha
        · exact z.2
      · have := z.2.1
        by_cases ej : j = N
        · exact Or.inl ej
        · exact Or.inr ⟨by omega, z⟩
    · have skip : (¬ MT N (EB (nx N o x)) b k) → ∀ y : Int32, y = nI k + 1 → wY_meetings_30 post (nI b) (nI N) g_end g_steps g_outs q_ops q_rs q_xs q_known q_regs q_row q_rows q_lengths n m y := by
        intro nk y ey
        rw [ey, nI_1]
        refine ih (k + 1) m (by omega) (by omega) (fun j => (hm j).trans ⟨fun z => z.imp id (fun y => ⟨by omega, y.2⟩), fun z => z.imp id (fun y => ⟨?_, y.2⟩)⟩)
        by_cases ej : j = k
        · rw [ej] at y; exact absurd y.2 nk
        · omega
      refine br_f (nI_ge (by omega) (by omega)) (yR (w := b1 k) hG hP hb (fun s hs => pk_eq k b (fun h => skip (fun z => z.1 h)) (fun h => ?_)))
      have key := RB_out (W := fun j => j = k) hb (fun j => sf_1 (by omega)) (fun z => h (Eq.symm z)) (fun z => e (by omega)) hs
      refine sf_br0 (by omega) (fun h0 => nm_r (e' := m ||| b1 k) rfl (nm_r (nI_1 k) (ih (k + 1) _ (by omega) (by omega) (fun j => ?_)))) (fun h0 => skip (fun z => z.2.2.2 (key.mp h0)))
      have mk : MT N (EB (nx N o x)) b k := ⟨h, by omega, ha, fun z => by rw [key.mpr z] at h0; exact absurd h0 (by decide)⟩
      rw [sf_or, hm j, sf_1 (by omega)]
      constructor
      · intro z
        rcases z with (z | z) | z
        · exact Or.inl z
        · exact Or.inr ⟨by omega, z.2⟩
        · exact Or.inr ⟨by omega, by rw [z]; exact mk⟩
      · intro z
        rcases z with z | z
        · exact Or.inl (Or.inl z)
        · by_cases ej : j = k
          · exact Or.inr ej
          · exact Or.inl (Or.inr ⟨by omega, z.2⟩)
theorem yM {post : Int32 → Prop} {b : Nat} (hG : PG N o r x) (hP : prY N o r x q_ops q_rs q_xs) (hb : b < N) (hq : ∀ m, MB N (nx N o x) b m → post m) : wpY_meetings post (nI N, g_end, g_steps, g_outs, q_ops, q_rs, q_xs, q_known, q_regs, q_row, q_rows, q_lengths) (nI b) := by
  have h16 := hG.2.1
  unfold wpY_meetings
  dsimp only
  refine yR (w := 0) hG hP hb (fun s hs => ?_)
  have key := RB_out (W := NW) hb (fun j => ⟨fun z => absurd z sf_0, fun z => z.elim⟩) (fun z => z) (fun z => z) hs
  refine sf_br0 (by omega) (fun h0 => hq 0 (fun j => ⟨fun z => absurd z sf_0, fun z => ?_⟩)) (fun h0 => nm_r (e' := b1 N) rfl ⟨N + 1, ?_⟩)
  · rw [key.mpr z.2.2.1] at h0
    exact absurd h0 (by decide)
  · refine ym30 hG hP hb (key.mp h0) hq (N + 1) 0 (b1 N) (by omega) (by omega) (fun j => ?_)
    rw [sf_1 (by omega)]
    exact ⟨Or.inl, fun z => z.elim id (fun y => by omega)⟩
theorem yt18 {post : Int32 → Prop} {b : Nat} {m : Int32} (hG : PG N o r x) (hP : prY N o r x q_ops q_rs q_xs) (hb : b < N) (hm : MB N (nx N o x) b m) (hq : ∀ v, NA N (nx N o x) b v → post v) :
    ∀ n k : Nat, N + 1 < n + k → k ≤ N + 1 → (∀ q, q < k → ¬ NR N (EB (nx N o x)) b q) → wY_meeting_18 post (nI b) m (nI N) g_end g_steps g_outs q_ops q_rs q_xs q_known q_regs q_row q_rows q_lengths n (nI k) := by
  intro n
  induction n with
  | zero => intro k h1 h2; omega
  | succ n ih =>
    intro k h1 h2 hk
    have h16 := hG.2.1
    rw [wY_meeting_18]
    by_cases e : N < k
    · refine br_t (nI_lt e (by omega)) (hq _ (Or.inl ⟨fun a => ?_, rfl⟩))
      obtain ⟨q, h⟩ := NR_ex (fun i j hi e => nx_le h16 hi e) hb a
      have := h.1.2.1
      exact hk q (by omega) h
    · have skip : (¬ NR N (EB (nx N o x)) b k) → ∀ y : Int32, y = nI k + 1 → wY_meeting_18 post (nI b) m (nI N) g_end g_steps g_outs q_ops q_rs q_xs q_known q_regs q_row q_rows q_lengths n y := by
        intro nk y ey
        rw [ey, nI_1]
        exact ih (k + 1) (by omega) (by omega) (lt_s hk nk)
      refine br_f (nI_nlt (by omega) (by omega)) (yR (w := m &&& (b1 k ^^^ (-1))) hG hP hb (fun s hs => ?_))
      have hw : ∀ j, bt (m &&& (b1 k ^^^ (-1))) j = true ↔ MT N (EB (nx N o x)) b j ∧ j ≠ k := fun j => by rw [sf_an, sf_1 (by omega), hm j]
      have key : bt s k = true ↔ RR N (EB (nx N o x)) (EB (nx N o x) b) (fun j => MT N (EB (nx N o x)) b j ∧ j ≠ k) k :=
        (hs k).trans ⟨fun z => RR_m (fun j y => (hw j).mpr y) z, fun z => RR_m (fun j y => (hw j).mp y) z⟩
      refine sf_br (by omega) (fun h1 => sf_br (by omega) (fun h2 => ?_) (fun h2 => skip (fun z => ?_))) (fun h1 => skip (fun z => ?_))
      · have nk : NR N (EB (nx N o x)) b k := ⟨(hm k).mp h1, key.mp h2⟩
        exact hq _ (Or.inr ⟨nk.1.2.2.1, k, by omega, nk, rfl⟩)
      · rw [key.mpr z.2] at h2
        exact absurd h2 (by decide)
      · rw [(hm k).mpr z.1] at h1
        exact absurd h1 (by decide)
theorem yMt {post : Int32 → Prop} {b : Nat} (hG : PG N o r x) (hP : prY N o r x q_ops q_rs q_xs) (hb : b < N) (hq : ∀ v, NA N (nx N o x) b v → post v) : wpY_meeting post (nI N, g_end, g_steps, g_outs, q_ops, q_rs, q_xs, q_known, q_regs, q_row, q_rows, q_lengths) (nI b) := by
  have h16 := hG.2.1
  have e : wpY_noPlace (fun r_1 => (((r_1 = 0 → (wpY_meetings (fun r_15 => (∃ n18 : Nat, wY_meeting_18 post (nI b) r_15 (nI N) g_end g_steps g_outs q_ops q_rs q_xs q_known q_regs q_row q_rows q_lengths n18 0)) (nI N, g_end, g_steps, g_outs, q_ops, q_rs, q_xs, q_known, q_regs, q_row, q_rows, q_lengths) (nI b))) ∧ (¬ r_1 = 0 → (post (-1)))))) (nI N, g_end, g_steps, g_outs, q_ops, q_rs, q_xs, q_known, q_regs, q_row, q_rows, q_lengths) (nI b) :=
    br_f (nI_pos (by omega)) (br_t (nI_lt hb (by omega)) (br_t rfl (yM hG hP hb (fun m hm => ⟨N + 2, yt18 hG hP hb hm hq (N + 2) 0 (by omega) (by omega) (fun q hq => by omega)⟩))))
  exact e
theorem yU {post : Int32 → Prop} {b : Nat} (hG : PG N o r x) (hP : prY N o r x q_ops q_rs q_xs) (hb : b < N) (hq : ∀ u, UB N (nx N o x) b u → post u) : wpY_allUnder post (nI N, g_end, g_steps, g_outs, q_ops, q_rs, q_xs, q_known, q_regs, q_row, q_rows, q_lengths) (nI b) := by
  have h16 := hG.2.1
  unfold wpY_allUnder
  dsimp only
  refine yM hG hP hb (fun m hm => yR hG hP hb (fun s hs => hq _ (fun j => ?_)))
  show bt (s &&& (b1 N ^^^ (-1))) j = true ↔ _
  rw [sf_an, sf_1 (by omega), RB_MB hm hs j]
  refine ⟨fun z => ⟨?_, z.1⟩, fun z => ⟨z.2, by omega⟩⟩
  have := RR_le (fun j e => nx_le h16 hb e) (fun i j hi e => nx_le h16 hi e) z.1
  have := z.2
  omega
end
end
section
/-! Y's walks: secrets, behind, knowing -/
section
variable {g_end g_steps g_outs : Int32} {q_ops q_rs q_xs q_known q_regs q_row q_rows q_lengths : Nat → Int32} {N : Nat} {o r x : Nat → Nat} {K : Nat → Int32}
theorem bI_br1 {b : Bool} {A B : Prop} (f : b = true → A) (g : b = false → B) : (bI b = 1 → A) ∧ (¬ bI b = 1 → B) := by
  cases b
  · exact br_f (by decide) (g rfl)
  · exact br_t rfl (f rfl)
theorem sf_bI {s : Int32} {j : Nat} (hj : j < 32) : ((s >>> (nI j &&& 31)) &&& 1) = bI (bt s j) := sf_sh hj
theorem yIS {post : Int32 → Prop} {re : Int32} {b : Nat} (hG : PG N o r x) (hP : prY N o r x q_ops q_rs q_xs) (hb : b < N) (hK : q_known b = K b) (C : post (bI (sq o r re K b))) : wpY_isSecret post (nI N, g_end, g_steps, g_outs, q_ops, q_rs, q_xs, q_known, q_regs, q_row, q_rows, q_lengths) (nI b) re := by
  have h16 := hG.2.1
  obtain ⟨g1, g2, g3, g4⟩ := hG.2.2 b hb
  obtain ⟨p1, p2, p3⟩ := hP b hb
  have c : (nI b).toNatClampNeg = b := nI_clamp (by omega)
  have v : vp_in (nI b) 16 := vp_in_nI (by omega) (by omega)
  have v17 : vp_in (nI b) 17 := vp_in_nI (by omega) (by omega)
  refine sf_br (by omega) (fun hr => ⟨v, ?_⟩) (fun hr => by rw [sq_r hr] at C; exact C)
  rw [c, p1, hK]
  refine pk_eq (o b) 6 (fun h6 => ⟨v17, v, ?_⟩) (fun h6 => by rw [sq_6 h6] at C; exact C)
  rw [p2 (Or.inr h6)]
  exact sf_br (by omega) (fun hk => by rw [sq_t h6 hr hk] at C; exact C) (fun hk => by rw [sq_k hk] at C; exact C)
theorem yu4 {post : Int32 → Prop} {re : Int32} {bl : Nat → Int32} (hG : PG N o r x) (hP : prY N o r x q_ops q_rs q_xs) (hK : ∀ j, j ≤ N → q_known j = K j) (hU : ∀ b, b < N → UB N (nx N o x) b (bl b)) (C : post (dkf (sq o r re K) bl N)) :
    ∀ n i : Nat, N < n + i → i ≤ N → wY_underSecrets_4 post re (nI N) g_end g_steps g_outs q_ops q_rs q_xs q_known q_regs q_row q_rows q_lengths n (dkf (sq o r re K) bl i) (nI i) := by
  intro n
  induction n with
  | zero => intro i h1 h2; omega
  | succ n ih =>
    intro i h1 h2
    have h16 := hG.2.1
    rw [wY_underSecrets_4]
    by_cases e : N ≤ i
    · have ei : i = N := by omega
      rw [ei]
      exact br_t (nI_le (Nat.le_refl _) (by omega)) C
    · have hi : i < N := by omega
      have go := ih (i + 1) (by omega) (by omega)
      refine br_f (nI_ge hi (by omega)) (yIS hG hP hi (hK i (by omega)) (bI_br (fun h => nm_r (nI_1 i) ?_) (fun h => yU hG hP hi (fun u hu => ?_))))
      · rw [dkf_f h] at go; exact go
      · rw [dkf_t h] at go
        have eu : u = bl i := UB_u hu (hU i hi)
        rw [eu]
        exact nm_e (nm_r (nI_1 i) go)
theorem yUS {post : Int32 → Prop} {re : Int32} {bl : Nat → Int32} (hG : PG N o r x) (hP : prY N o r x q_ops q_rs q_xs) (hK : ∀ j, j ≤ N → q_known j = K j) (hU : ∀ b, b < N → UB N (nx N o x) b (bl b)) (C : post (dkf (sq o r re K) bl N)) :
    wpY_underSecrets post (nI N, g_end, g_steps, g_outs, q_ops, q_rs, q_xs, q_known, q_regs, q_row, q_rows, q_lengths) re := ⟨N + 1, yu4 hG hP hK hU C (N + 1) 0 (by omega) (by omega)⟩
/-! behind -/
theorem yb81 {post : Int32 → Prop} {h rr : Int32} {u a k : Bool} (C : post (if (a || (k || u)) = true then h ||| rr else h &&& (rr ^^^ (-1)))) : wY_behind_81 post (bI u) rr h (bI a) (bI k) (nI N) g_end g_steps g_outs q_ops q_rs q_xs q_known q_regs q_row q_rows q_lengths := by
  have k99 : (a || (k || u)) = true → wY_behind_99 post rr h (nI N) g_end g_steps g_outs q_ops q_rs q_xs q_known q_regs q_row q_rows q_lengths := by
    intro e
    rw [if_pos e] at C
    exact br_f (by decide) C
  refine bI_br (fun eu => bI_br1 (fun ea => k99 (by rw [ea]; rfl)) (fun ea => bI_br1 (fun ek => k99 (by rw [ek]; cases a <;> rfl)) (fun ek => ?_))) (fun eu => k99 (by rw [eu]; cases a <;> cases k <;> rfl))
  rw [eu, ea, ek] at C
  exact br_t rfl C
theorem yb54 {post : Int32 → Prop} {h : Int32} {i : Nat} {u a : Bool} (hG : PG N o r x) (hP : prY N o r x q_ops q_rs q_xs) (hi : i < N) (ho : o i ≤ 3)
    (C : post (if (a || ((decide (2 ≤ o i) && bt h (r i)) || u)) = true then h ||| b1 (r i) else h &&& (b1 (r i) ^^^ (-1)))) : wY_behind_54 post (nI i) (bI u) (b1 (r i)) h (bI a) (nI N) g_end g_steps g_outs q_ops q_rs q_xs q_known q_regs q_row q_rows q_lengths := by
  have h16 := hG.2.1
  obtain ⟨g1, g2, g3, g4⟩ := hG.2.2 i hi
  obtain ⟨p1, p2, p3⟩ := hP i hi
  have c : (nI i).toNatClampNeg = i := nI_clamp (by omega)
  have v : vp_in (nI i) 16 := vp_in_nI (by omega) (by omega)
  refine ⟨v, ?_⟩
  rw [c, p1, p2 (by omega), sf_bI (by omega)]
  refine pk_le (o i) 1 (fun h1 => ?_) (fun h1 => ⟨v, ?_⟩)
  · rw [decide_eq_false (by omega), Bool.false_and] at C
    exact yb81 (k := false) C
  · rw [decide_eq_true (by omega), Bool.true_and] at C
    exact yb81 C
theorem yBh {post : Int32 → Prop} {i : Nat} {dk : Int32} (hG : PG N o r x) (hP : prY N o r x q_ops q_rs q_xs) (hi : i < N) (hK : q_known i = K i) (C : post (bh o r x K dk i)) : wpY_behind post (nI N, g_end, g_steps, g_outs, q_ops, q_rs, q_xs, q_known, q_regs, q_row, q_rows, q_lengths) (nI i) (bI (bt dk i)) := by
  have h16 := hG.2.1
  obtain ⟨g1, g2, g3, g4⟩ := hG.2.2 i hi
  obtain ⟨p1, p2, p3⟩ := hP i hi
  have c : (nI i).toNatClampNeg = i := nI_clamp (by omega)
  have v : vp_in (nI i) 16 := vp_in_nI (by omega) (by omega)
  have v17 : vp_in (nI i) 17 := vp_in_nI (by omega) (by omega)
  refine ⟨v, fun x3 ex3 => ⟨v17, nm_r (e' := K i) (by rw [c, hK]) ⟨v, ?_⟩⟩⟩
  rw [c, p1]
  refine pk_le (o i) 3 (fun h3 => ⟨v, ?_⟩) (fun h3 => by rw [bh_hi (by omega)] at C; exact C)
  rw [c, p2 (by omega)] at ex3
  have ex : x3 = b1 (r i) := ex3
  rw [ex]
  rw [bh_lo h3] at C
  unfold bs at C
  refine pk_eq (o i) 0 (fun h0 => ?_) (fun h0 => ⟨v, ?_⟩)
  · rw [decide_eq_false (show ¬ o i ≠ 0 by omega), Bool.false_and] at C
    exact yb54 (a := false) hG hP hi h3 C
  · rw [decide_eq_true h0, Bool.true_and] at C
    rw [p3 (by omega), sf_bI (by omega)]
    exact yb54 hG hP hi h3 C
/-! the rounds -/
abbrev T8 : Type := (Nat → Int32) → (Nat → Int32) → (Nat → Int32) → (Nat → Int32) → (Nat → Int32) → (Nat → Int32) → (Nat → Int32) → (Nat → Int32) → Prop
theorem yk95 {post : SY → Prop} {J37 : Int32 → T8} {J52 : Int32 → Int32 → T8} {re x3 s e : Int32} {i : Nat} {m : Bool} (hN : N ≤ 16) (hi : i < N) (hr : bt re i = true)
    (C : ∀ a : Nat → Int32, (∀ j, j ≤ N → a j = hk e s K (N + 1) j) → J52 (bI (m || hm e s K (N + 1))) (nI (i + 1)) q_ops q_rs q_xs a q_regs q_row q_rows q_lengths) :
    ∀ (n k : Nat) (a : Nat → Int32), N + 1 < n + k → k ≤ N + 1 → (∀ j, j ≤ N → a j = hk e s K k j) →
    wY_findKnowing_95 post J37 J52 re x3 (nI i) s e (nI N) g_end g_steps g_outs n (bI (m || hm e s K k)) (nI k) q_ops q_rs q_xs a q_regs q_row q_rows q_lengths := by
  intro n
  induction n with
  | zero => intro k a h1 h2; omega
  | succ n ih =>
    intro k a h1 h2 ha
    rw [wY_findKnowing_95]
    by_cases ek : N < k
    · have ek : k = N + 1 := by omega
      rw [ek] at ha ⊢
      exact br_t (nI_lt (by omega) (by omega)) (nm_r (nI_1 i) (C a ha))
    · have c : (nI k).toNatClampNeg = k := nI_clamp (by omega)
      have v : vp_in (nI k) 17 := vp_in_nI (by omega) (by omega)
      have hak : a k = K k := by rw [ha k (by omega), hk_out (by omega)]
      have G := ih (k + 1)
      rw [hm_s] at G
      have keep : a k = (if bt e k = true then K k ||| s else K k) → ∀ j, j ≤ N → a j = hk e s K (k + 1) j := fun hv j hj => by
        have z := hk_s a ha hj (a k) hv
        rw [sf_upd_self] at z
        exact z
      refine br_f (nI_nlt (by omega) (by omega)) (br_t ((sf_t (by omega)).mpr hr) (sf_br (by omega) (fun he => ⟨v, ?_⟩) (fun he => ?_)))
      · rw [c, hak]
        refine br_c (fun z => ?_) (fun z => ⟨v, v, nm_r (e' := upd a k (K k ||| s)) rfl ?_⟩)
        · rw [he, decide_eq_true z] at G
          have G2 := G a (by omega) (by omega) (keep (by rw [he, if_pos rfl, kn_same z]; exact hak))
          rw [show (true && !true) = false from rfl, Bool.or_false] at G2
          exact nm_r (nI_1 k) G2
        · rw [he, decide_eq_false z] at G
          have G2 := G (upd a k (K k ||| s)) (by omega) (by omega) (fun j hj => hk_s a ha hj _ (by rw [he, if_pos rfl]))
          rw [show (true && !false) = true from rfl, Bool.or_true, Bool.or_true] at G2
          exact nm_r (nI_1 k) G2
      · rw [he] at G
        have G2 := G a (by omega) (by omega) (keep (by rw [he, if_neg (by decide)]; exact hak))
        rw [Bool.false_and, Bool.or_false] at G2
        exact nm_r (nI_1 k) G2
theorem yk52 {post : SY → Prop} {J37 : Int32 → T8} {re dk : Int32} (hG : PG N o r x) (hP : prY N o r x q_ops q_rs q_xs)
    (C : ∀ a : Nat → Int32, (∀ j, j ≤ N → a j = (ho N (nx N o x) o r x re dk K N).2 j) → J37 (bI (ho N (nx N o x) o r x re dk K N).1) q_ops q_rs q_xs a q_regs q_row q_rows q_lengths) :
    ∀ (n i : Nat) (a : Nat → Int32), N < n + i → i ≤ N → (∀ j, j ≤ N → a j = (ho N (nx N o x) o r x re dk K i).2 j) →
    wY_findKnowing_52 post J37 re dk (nI N) g_end g_steps g_outs n (bI (ho N (nx N o x) o r x re dk K i).1) (nI i) q_ops q_rs q_xs a q_regs q_row q_rows q_lengths := by
  intro n
  induction n with
  | zero => intro i a h1 h2; omega
  | succ n ih =>
    intro i a h1 h2 ha
    have h16 := hG.2.1
    rw [wY_findKnowing_52]
    by_cases e : N ≤ i
    · have ei : i = N := by omega
      rw [ei] at ha ⊢
      exact br_t (nI_le (Nat.le_refl _) (by omega)) (C a ha)
    · have hi : i < N := by omega
      have k79 : wY_findKnowing_79 post J37 (wY_findKnowing_52 post J37 re dk (nI N) g_end g_steps g_outs n) re (bI (ho N (nx N o x) o r x re dk K i).1) dk (nI i) (bI (bt dk i)) (nI i) (nI N) g_end g_steps g_outs q_ops q_rs q_xs a q_regs q_row q_rows q_lengths := by
        refine yBh hG hP hi (ha i (by omega)) (yNx hG hP hi ⟨N + 2, ?_⟩)
        cases hr : bt re i
        · rw [wY_findKnowing_95]
          refine br_f (nI_nlt (a := N) (b := 0) (by omega) (by omega)) (br_f (fun z => by rw [sf_t (by omega), hr] at z; exact absurd z (by decide)) (nm_r (nI_1 i) ?_))
          have K2 := ih (i + 1) a (by omega) (by omega)
          rw [ho_f N (nx N o x) o r x re hr] at K2
          exact K2 ha
        · have K2 := ih (i + 1)
          rw [ho_t N (nx N o x) o r x re hr] at K2
          have K3 := yk95 (post := post) (g_end := g_end) (g_steps := g_steps) (g_outs := g_outs) (J37 := J37) (J52 := wY_findKnowing_52 post J37 re dk (nI N) g_end g_steps g_outs n) (x3 := dk) (m := (ho N (nx N o x) o r x re dk K i).1) (K := (ho N (nx N o x) o r x re dk K i).2)
            (s := bh o r x (ho N (nx N o x) o r x re dk K i).2 dk i) (e := nx N o x i) h16 hi hr (fun a' ha' => K2 a' (by omega) (by omega) ha') (N + 2) 0 a (by omega) (by omega)
            (fun j hj => by rw [hk_out (by omega)]; exact ha j hj)
          rw [show hm (nx N o x i) (bh o r x (ho N (nx N o x) o r x re dk K i).2 dk i) (ho N (nx N o x) o r x re dk K i).2 0 = false from rfl, Bool.or_false] at K3
          exact K3
      refine br_f (nI_ge hi (by omega)) (sf_br (by omega) (fun h => ?_) (fun h => ?_))
      · rw [h] at k79; exact k79
      · rw [h] at k79; exact k79
theorem yk37 {post : SY → Prop} {T : Nat} {re : Int32} {bl : Nat → Int32} (hG : PG N o r x) (hP : prY N o r x q_ops q_rs q_xs) (hU : ∀ b, b < N → UB N (nx N o x) b (bl b)) (hT : KD N (nx N o x) o r x re bl T)
    (C : ∀ a : Nat → Int32, (∀ j, j ≤ N → a j = ks N (nx N o x) o r x re bl (T + 1) j) → post (nI N, g_end, g_steps, g_outs, q_ops, q_rs, q_xs, a, q_regs, q_row, q_rows, q_lengths)) :
    ∀ (d t n : Nat) (a : Nat → Int32), t + d = T → d + 1 < n → (∀ j, j ≤ N → a j = ks N (nx N o x) o r x re bl t j) → wY_findKnowing_37 post re (nI N) g_end g_steps g_outs n 1 q_ops q_rs q_xs a q_regs q_row q_rows q_lengths := by
  have h16 := hG.2.1
  intro d
  induction d with
  | zero =>
    intro t n a h1 h2 ha
    obtain ⟨m, rfl⟩ : ∃ m, n = m + 1 := ⟨n - 1, by omega⟩
    obtain ⟨m', rfl⟩ : ∃ m', m = m' + 1 := ⟨m - 1, by omega⟩
    have et : t = T := by omega
    rw [et] at ha
    rw [wY_findKnowing_37]
    refine br_f (by decide) (yUS hG hP ha hU ⟨N + 1, ?_⟩)
    refine yk52 hG hP (fun a' ha' => ?_) (N + 1) 0 a (by omega) (by omega) ha
    have e : (ho N (nx N o x) o r x re (dkf (sq o r re (ks N (nx N o x) o r x re bl T)) bl N) (ks N (nx N o x) o r x re bl T) N).1 = false := hT.1
    rw [e]
    show wY_findKnowing_37 post re _ _ _ _ (m' + 1) 0 _ _ _ _ _ _ _ _
    rw [wY_findKnowing_37]
    exact br_t rfl (C a' ha')
  | succ d ih =>
    intro t n a h1 h2 ha
    obtain ⟨m, rfl⟩ : ∃ m, n = m + 1 := ⟨n - 1, by omega⟩
    rw [wY_findKnowing_37]
    refine br_f (by decide) (yUS hG hP ha hU ⟨N + 1, ?_⟩)
    refine yk52 hG hP (fun a' ha' => ?_) (N + 1) 0 a (by omega) (by omega) ha
    have e : (ho N (nx N o x) o r x re (dkf (sq o r re (ks N (nx N o x) o r x re bl t)) bl N) (ks N (nx N o x) o r x re bl t) N).1 = true := hT.2 t (by omega)
    rw [e]
    exact ih (t + 1) m a' (by omega) (by omega) ha'
theorem yk7 {post : SY → Prop} {T : Nat} {re : Int32} {bl : Nat → Int32} (hG : PG N o r x) (hP : prY N o r x q_ops q_rs q_xs) (hU : ∀ b, b < N → UB N (nx N o x) b (bl b)) (hT : KD N (nx N o x) o r x re bl T)
    (C : ∀ a : Nat → Int32, (∀ j, j ≤ N → a j = ks N (nx N o x) o r x re bl (T + 1) j) → post (nI N, g_end, g_steps, g_outs, q_ops, q_rs, q_xs, a, q_regs, q_row, q_rows, q_lengths)) :
    ∀ (n i : Nat) (a : Nat → Int32), N + 1 < n + i → i ≤ N + 1 → (∀ j, j < i → a j = 0) → wY_findKnowing_7 post re (nI N) g_end g_steps g_outs n (nI i) q_ops q_rs q_xs a q_regs q_row q_rows q_lengths := by
  intro n
  induction n with
  | zero => intro i a h1 h2; omega
  | succ n ih =>
    intro i a h1 h2 ha
    have h16 := hG.2.1
    rw [wY_findKnowing_7]
    by_cases e : N < i
    · refine br_t (nI_lt e (by omega)) (nm_e ⟨T + 2, ?_⟩)
      refine yk37 hG hP hU hT C T 0 (T + 2) _ (by omega) (by omega) (fun j hj => ?_)
      show upd a 0 2 j = if j = 0 then 2 else 0
      by_cases ej : j = 0
      · rw [ej, pk_us, if_pos rfl]
      · rw [pk_un ej, if_neg ej]; exact ha j (by omega)
    · refine br_f (nI_nlt (by omega) (by omega)) ⟨vp_in_nI (by omega) (by omega), nm_r (e' := upd a i 0) (by rw [nI_clamp (by omega)]) (nm_r (nI_1 i) (ih (i + 1) _ (by omega) (by omega) (fun j hj => ?_)))⟩
      by_cases ej : j = i
      · rw [ej, pk_us]
      · rw [pk_un ej]; exact ha j (by omega)
theorem yFK {post : SY → Prop} {T : Nat} {re : Int32} {bl : Nat → Int32} (hG : PG N o r x) (hP : prY N o r x q_ops q_rs q_xs) (hre : ∀ j, bt re j = true ↔ RR N (EB (nx N o x)) (fun j => j = 0) NW j)
    (hU : ∀ b, b < N → UB N (nx N o x) b (bl b)) (hT : KD N (nx N o x) o r x re bl T)
    (C : ∀ a : Nat → Int32, (∀ j, j ≤ N → a j = ks N (nx N o x) o r x re bl (T + 1) j) → post (nI N, g_end, g_steps, g_outs, q_ops, q_rs, q_xs, a, q_regs, q_row, q_rows, q_lengths)) : wpY_findKnowing post (nI N, g_end, g_steps, g_outs, q_ops, q_rs, q_xs, q_known, q_regs, q_row, q_rows, q_lengths) := by
  unfold wpY_findKnowing
  dsimp only
  refine yAC hG hP (fun s hs => ⟨N + 2, ?_⟩)
  have es : s = re := sf_eqb (fun j => (hs j).trans (hre j).symm)
  rw [es]
  exact yk7 hG hP hU hT C (N + 2) 0 q_known (by omega) (by omega) (fun j hj => by omega)
theorem yACr {post : Int32 → Prop} {re : Int32} (hG : PG N o r x) (hP : prY N o r x q_ops q_rs q_xs) (hre : ∀ j, bt re j = true ↔ RR N (EB (nx N o x)) (fun j => j = 0) NW j) (C : post re) : wpY_allComeTo post (nI N, g_end, g_steps, g_outs, q_ops, q_rs, q_xs, q_known, q_regs, q_row, q_rows, q_lengths) := by
  refine yAC hG hP (fun s hs => ?_)
  have es : s = re := sf_eqb (fun j => (hs j).trans (hre j).symm)
  rw [es]
  exact C
end
end
section
/-! Y's walks: runs, outputs -/
section
variable {g_end g_steps g_outs : Int32} {q_ops q_rs q_xs q_known q_regs q_row q_rows q_lengths : Nat → Int32} {N : Nat} {o r x : Nat → Nat}
theorem ry_sub : ∀ p, p < 4 → ∀ q, q < 4 → ((nI p - nI q) + 4) - ((nI p - nI q) + 4) / 4 * 4 = nI ((p + 4 - q) % 4) := by decide +kernel
theorem ry_add {p q : Nat} (hp : p < 4) (hq : q < 4) : (nI p + nI q) - (nI p + nI q) / 4 * 4 = nI ((p + q) % 4) := by
  rw [nI_add]
  exact pk_rem (d := 4) (by omega) (by decide) (by decide)
theorem na_s {a : Nat} {g : Nat → Nat} (h5 : o a ≠ 5) (h6 : o a ≠ 6) (h7 : o a ≠ 7) : na N o r x a g = a + 1 := by unfold na; rw [if_neg h7, if_neg h5, if_neg h6]
theorem nc_n {a c : Nat} (h : o a ≠ 4) : nc o a c = c := if_neg h
theorem nw_n {a c : Nat} {g w : Nat → Nat} (h : o a ≠ 4) : nw o r a c g w = w := if_neg h
theorem yDO {post : Int32 → SY → Prop} {a c : Nat} {g w : Nat → Nat} (hG : PG N o r x) (hP : prY N o r x q_ops q_rs q_xs) (ha : a < N) (hc : c < 60) (hv : ∀ j, j < 4 → q_regs j = nI (g j)) (hg : ∀ j, j < 4 → g j < 4) (hw : ∀ i, i < c → q_row i = nI (w i))
    (C : ∀ vv rw' : Nat → Int32, (∀ j, j < 4 → vv j = nI (ng o r x a g j)) → (∀ i, i < nc o a c → rw' i = nI (nw o r a c g w i)) → post (nI (na N o r x a g)) (nI N, g_end, g_steps, nI (nc o a c), q_ops, q_rs, q_xs, q_known, vv, rw', q_rows, q_lengths)) :
    wpY_doOne post (nI N, g_end, g_steps, nI c, q_ops, q_rs, q_xs, q_known, q_regs, q_row, q_rows, q_lengths) (nI a) := by
  have h16 := hG.2.1
  obtain ⟨g1, g2, g3, g4⟩ := hG.2.2 a ha
  obtain ⟨p1, p2, p3⟩ := hP a ha
  have ca : (nI a).toNatClampNeg = a := nI_clamp (by omega)
  have cc : (nI c).toNatClampNeg = c := nI_clamp (by omega)
  have cr : (nI (r a)).toNatClampNeg = r a := nI_clamp (by omega)
  have v : vp_in (nI a) 16 := vp_in_nI (by omega) (by omega)
  have vr : vp_in (nI (r a)) 4 := vp_in_nI g2 (by omega)
  have n4 : ¬ (4 : Int32) = 0 := by decide
  have hgr := hg (r a) g2
  have reg : ∀ k : Nat, o a ≤ 3 → ng o r x a g = uN1 g (r a) k → post (nI a + 1) (nI N, g_end, g_steps, nI c, q_ops, q_rs, q_xs, q_known, upd q_regs (r a) (nI k), q_row, q_rows, q_lengths) := by
    intro k h3 e
    have K := C (upd q_regs (r a) (nI k)) q_row (by rw [e]; exact uv_s hv) (by rw [nc_n (by omega), nw_n (by omega)]; exact hw)
    rw [nc_n (by omega), na_s (by omega) (by omega) (by omega)] at K
    rw [nI_1]
    exact K
  have jmp : 4 < o a → ∀ y : Int32, y = nI (na N o r x a g) → post y (nI N, g_end, g_steps, nI c, q_ops, q_rs, q_xs, q_known, q_regs, q_row, q_rows, q_lengths) := by
    intro h4 y ey
    have K := C q_regs q_row (by rw [ng_o (by omega)]; exact hv) (by rw [nc_n (by omega), nw_n (by omega)]; exact hw)
    rw [nc_n (by omega)] at K
    rw [ey]
    exact K
  refine ⟨v, fun x2 e2 => ⟨v, fun x3 e3 => ⟨v, ?_⟩⟩⟩
  rw [ca] at e2 e3
  rw [ca, p1]
  have er : (o a ≤ 4 ∨ o a = 6) → x2 = nI (r a) := fun h => e2.trans (p2 h)
  have ex : (o a ≤ 3 ∨ o a = 5 ∨ o a = 6) → x3 = nI (x a) := fun h => e3.trans (p3 h)
  refine pk_eq (o a) 0 (fun h => ?_) (fun h0 => ⟨v, pk_eq (o a) 1 (fun h => ?_) (fun h1 => ⟨v, pk_eq (o a) 2 (fun h => ?_) (fun h2 => ⟨v, pk_eq (o a) 3 (fun h => ?_) (fun h3 => ⟨v, pk_eq (o a) 4 (fun h => ?_) (fun h4 => ⟨v, pk_eq (o a) 5 (fun h => ?_) (fun h5 => ⟨v, pk_eq (o a) 6 (fun h => ?_) (fun h6 => ?_)⟩)⟩)⟩)⟩)⟩)⟩)
  · rw [er (by omega), ex (by omega), cr]
    exact ⟨vr, nm_e (reg (x a) (by omega) (ng_0 h))⟩
  · have hx := g4 (by omega)
    have cx : (nI (x a)).toNatClampNeg = x a := nI_clamp (by omega)
    rw [er (by omega), ex (by omega), cr, cx, hv (x a) hx]
    exact ⟨vp_in_nI hx (by omega), vr, nm_e (reg (g (x a)) (by omega) (ng_1 h))⟩
  · have hx := g4 (by omega)
    have cx : (nI (x a)).toNatClampNeg = x a := nI_clamp (by omega)
    rw [er (by omega), ex (by omega), cr, cx, hv (x a) hx, hv (r a) g2, ry_add hgr (hg (x a) hx)]
    exact ⟨vr, vp_in_nI hx (by omega), n4, vr, nm_e (reg _ (by omega) (ng_2 h))⟩
  · have hx := g4 (by omega)
    have cx : (nI (x a)).toNatClampNeg = x a := nI_clamp (by omega)
    rw [er (by omega), ex (by omega), cr, cx, hv (x a) hx, hv (r a) g2, ry_sub _ hgr _ (hg (x a) hx)]
    exact ⟨vr, vp_in_nI hx (by omega), n4, vr, nm_e (reg _ (by omega) (ng_3 h))⟩
  · rw [er (by omega), cr, hv (r a) g2, cc]
    have en : nc o a c = c + 1 := if_pos h
    have ew : nw o r a c g w = uN1 w c (g (r a)) := if_pos h
    have K := C q_regs (upd q_row c (nI (g (r a)))) (by rw [ng_o (by omega)]; exact hv) (by
      rw [en, ew]
      intro i hi
      by_cases e : i = c
      · rw [e, pk_us, uN1_s]
      · rw [pk_un e, uN1_n e]; exact hw i (by omega))
    rw [en, na_s (by omega) (by omega) (by omega)] at K
    refine ⟨vr, vp_in_nI hc (by omega), nm_e (nm_r (nI_1 c) ?_)⟩
    rw [nI_1]
    exact K
  · exact yTg hG hP ha (Or.inl h) (jmp (by omega) _ (by unfold na; rw [if_neg (by omega), if_pos h]))
  · rw [er (by omega), cr, hv (r a) g2]
    refine ⟨vr, pk_eq (g (r a)) 0 (fun hz => yTg hG hP ha (Or.inr h) (jmp (by omega) _ ?_)) (fun hz => jmp (by omega) _ ?_)⟩
    · unfold na; rw [if_neg (by omega), if_neg (by omega), if_pos h, if_pos hz]
    · unfold na; rw [if_neg (by omega), if_neg (by omega), if_pos h, if_neg hz, nI_1]
  · exact jmp (by omega) _ (by unfold na; rw [if_pos (by omega)])
theorem yd76 {post : SY → Prop} {a : Nat} (ha : a ≤ N) (hN : N ≤ 16) (C : post (nI N, bI (!decide (a = N)), g_steps, g_outs, q_ops, q_rs, q_xs, q_known, q_regs, q_row, q_rows, q_lengths)) : wY_doRun_76 post (nI a) (nI N) g_end g_steps g_outs q_ops q_rs q_xs q_known q_regs q_row q_rows q_lengths :=
  pk_eq a N (fun h => by rw [decide_eq_true h] at C; exact C) (fun h => by rw [decide_eq_false h] at C; exact C)
theorem yd40 {post : SY → Prop} (hG : PG N o r x) (hP : prY N o r x q_ops q_rs q_xs) :
    ∀ (d t a c n : Nat) (g w : Nat → Nat) (vv rw' : Nat → Int32), t + d = 60 → d < n → a ≤ N → c ≤ t → (∀ j, j < 4 → vv j = nI (g j)) → (∀ j, j < 4 → g j < 4) → (∀ i, i < c → rw' i = nI (w i)) →
    (∀ vv rw' : Nat → Int32, (∀ i, i < (rn N o r x d t a g c w).2.2.1 → rw' i = nI ((rn N o r x d t a g c w).2.2.2 i)) →
      post (nI N, bI (!decide ((rn N o r x d t a g c w).2.1 = N)), nI (rn N o r x d t a g c w).1, nI (rn N o r x d t a g c w).2.2.1, q_ops, q_rs, q_xs, q_known, vv, rw', q_rows, q_lengths)) →
    wY_doRun_40 post n (nI a) (nI N) g_end (nI t) (nI c) q_ops q_rs q_xs q_known vv rw' q_rows q_lengths := by
  have h16 := hG.2.1
  intro d
  induction d with
  | zero =>
    intro t a c n g w vv rw' h1 h2 ha hc hv hg hs C
    obtain ⟨m, rfl⟩ : ∃ m, n = m + 1 := ⟨n - 1, by omega⟩
    have et : t = 60 := by omega
    rw [wY_doRun_40]
    have K := yd76 (g_end := g_end) ha h16 (C vv rw' hs)
    exact br_c (fun _ => K) (fun _ => br_t (nI_le (a := 60) (b := t) (by omega) (by omega)) K)
  | succ d ih =>
    intro t a c n g w vv rw' h1 h2 ha hc hv hg hs C
    obtain ⟨m, rfl⟩ : ∃ m, n = m + 1 := ⟨n - 1, by omega⟩
    rw [wY_doRun_40]
    by_cases e : a < N
    · rw [rn_go N o r x e] at C
      have g4 := (hG.2.2 a e).2.2.2
      refine br_f (nI_ge e (by omega)) (br_f (nI_ge (a := t) (b := 60) (by omega) (by decide)) (nm_r (nI_1 t) (yDO hG hP e (by omega) hv hg hs (fun vv' rw'' hv' hs' => ?_))))
      exact ih (t + 1) _ _ m _ _ vv' rw'' (by omega) (by omega) (na_le N o r x e) (nc_le o hc) hv' (ng_4 o r x hg g4) hs' C
    · rw [rn_st N o r x e] at C
      exact br_t (nI_le (by omega) (by omega)) (yd76 ha h16 (C vv rw' hs))
theorem yDR {post : SY → Prop} {p s : Nat} (hG : PG N o r x) (hP : prY N o r x q_ops q_rs q_xs) (hp : p < 4) (hs : s < 4)
    (C : ∀ vv rw' : Nat → Int32, (∀ i, i < (RU N o r x (4 * p + s)).2.2.1 → rw' i = nI ((RU N o r x (4 * p + s)).2.2.2 i)) →
      post (nI N, bI (!rD N o r x (4 * p + s)), nI (RU N o r x (4 * p + s)).1, nI (RU N o r x (4 * p + s)).2.2.1, q_ops, q_rs, q_xs, q_known, vv, rw', q_rows, q_lengths)) : wpY_doRun post (nI N, g_end, g_steps, g_outs, q_ops, q_rs, q_xs, q_known, q_regs, q_row, q_rows, q_lengths) (nI p) (nI s) := by
  have e1 : (4 * p + s) / 4 = p := by omega
  have e2 : (4 * p + s) % 4 = s := by omega
  unfold rD RU at C
  rw [e1, e2] at C
  refine nm_e (nm_e (nm_e (nm_e ⟨61, ?_⟩)))
  refine yd40 hG hP 60 0 0 0 61 (g0 p s) (fun _ => 0) _ q_row rfl (by decide) (Nat.zero_le _) (Nat.le_refl _) (g0_v ?_ ?_ ?_ ?_) (g0_4 hp hs) (fun i hi => by omega) C
  · rw [pk_un (by decide), pk_un (by decide), pk_un (by decide), pk_us]
  · rw [pk_un (by decide), pk_un (by decide), pk_us]
  · rw [pk_un (by decide), pk_us]
  · rw [pk_us]
/-! outputs told apart: what the first m runs of p have left -/
def YS (N : Nat) (o r x : Nat → Nat) (p m : Nat) (le ro : Nat → Int32) : Prop := ∀ t, t < m → le t = (if rD N o r x (4 * p + t) = true then nI (RU N o r x (4 * p + t)).2.2.1 else -1) ∧
  ∀ i, i < (RU N o r x (4 * p + t)).2.2.1 → ro (60 * t + i) = nI ((RU N o r x (4 * p + t)).2.2.2 i)
theorem ys19 {post : Int32 → Prop} {s t c : Nat} {w w' : Nat → Nat} (hs : s < 4) (ht : t < 4) (hc : c ≤ 60) (ho : q_lengths s = nI c) (hw : ∀ i, i < c → q_rows (60 * s + i) = nI (w i)) (hw' : ∀ i, i < c → q_rows (60 * t + i) = nI (w' i))
    (C : post (bI (rq w w' c))) : ∀ n i : Nat, c < n + i → i ≤ c → rq w w' i = true → wY_same_19 post (nI s) (nI t) (nI N) g_end g_steps g_outs q_ops q_rs q_xs q_known q_regs q_row q_rows q_lengths n (nI i) := by
  intro n
  induction n with
  | zero => intro i h1 h2; omega
  | succ n ih =>
    intro i h1 h2 hi
    rw [wY_same_19]
    have cs : (nI s).toNatClampNeg = s := nI_clamp (by omega)
    refine ⟨vp_in_nI hs (by omega), ?_⟩
    rw [cs, ho]
    refine pk_le c i (fun h => ?_) (fun h => ?_)
    · have ei : i = c := by omega
      rw [ei] at hi
      rw [hi] at C
      exact C
    · have e1 : (60 : Int32) * nI s + nI i = nI (60 * s + i) := by rw [show (60 : Int32) = nI 60 from rfl, pk_mul, nI_add]
      have e2 : (60 : Int32) * nI t + nI i = nI (60 * t + i) := by rw [show (60 : Int32) = nI 60 from rfl, pk_mul, nI_add]
      rw [e1, e2, nI_clamp (n := 60 * s + i) (by omega), nI_clamp (n := 60 * t + i) (by omega), hw i h, hw' i h]
      refine ⟨vp_in_nI (by omega) (by omega), vp_in_nI (by omega) (by omega), br_c (fun z => nm_r (nI_1 i) (ih (i + 1) (by omega) (by omega) ?_)) (fun z => ?_)⟩
      · rw [rq_s, hi, decide_eq_true z]; rfl
      · have hf : rq w w' (i + 1) = false := by rw [rq_s, hi, decide_eq_false z]; rfl
        rw [rq_fl hf (by omega)] at C
        exact C
theorem nI_m1 {n : Nat} (h : n < 2 ^ 31) : ¬ nI n = -1 := by
  intro e
  have h1 : (nI n).toInt = (-1 : Int32).toInt := by rw [e]
  rw [nI_toInt h, show (-1 : Int32).toInt = -1 from by decide] at h1
  omega
theorem ySm {post : Int32 → Prop} {p m s t : Nat} (hm : m ≤ 4) (hs : s < m) (ht : t < m) (hY : YS N o r x p m q_lengths q_rows) (hD : rD N o r x (4 * p + s) = true)
    (C : post (bI (rD N o r x (4 * p + t) && rS N o r x (4 * p + s) (4 * p + t)))) : wpY_same post (nI N, g_end, g_steps, g_outs, q_ops, q_rs, q_xs, q_known, q_regs, q_row, q_rows, q_lengths) (nI s) (nI t) := by
  obtain ⟨a1, a2⟩ := hY s hs
  obtain ⟨b1, b2⟩ := hY t ht
  have cs : (nI s).toNatClampNeg = s := nI_clamp (by omega)
  have ct : (nI t).toNatClampNeg = t := nI_clamp (by omega)
  have u1 := (RU_b N o r x (4 * p + s)).2.2
  have u2 := (RU_b N o r x (4 * p + t)).2.2
  rw [if_pos hD] at a1
  refine ⟨vp_in_nI (by omega) (by omega), vp_in_nI (by omega) (by omega), ?_⟩
  rw [cs, ct, a1, b1]
  cases e : rD N o r x (4 * p + t)
  · rw [if_neg (by decide)]
    rw [e, Bool.false_and] at C
    exact br_f (nI_m1 (by omega)) C
  · rw [if_pos rfl]
    rw [e, Bool.true_and] at C
    unfold rS at C
    refine pk_eq (RU N o r x (4 * p + s)).2.2.1 (RU N o r x (4 * p + t)).2.2.1 (fun h => ⟨(RU N o r x (4 * p + s)).2.2.1 + 1, ?_⟩) (fun h => ?_)
    · rw [decide_eq_true h, Bool.true_and] at C
      rw [← h] at b2
      exact ys19 (by omega) (by omega) u1 a1 a2 b2 C _ 0 (by omega) (by omega) rfl
    · rw [decide_eq_false h, Bool.false_and] at C
      exact C
abbrev TJ4 : Type := Int32 → Int32 → Int32 → Int32 → Int32 → Int32 → T8
theorem yw90 {post : Int32 → SY → Prop} {J4 : TJ4} {x1 : Int32} {p s c : Nat} (hs : s < 4) (hY : YS N o r x p (s + 1) q_lengths q_rows)
    (hf : fr N o r x p s s = false → J4 (nI c) (nI (s + 1)) (nI N) g_end g_steps g_outs q_ops q_rs q_xs q_known q_regs q_row q_rows q_lengths) (ht : fr N o r x p s s = true → J4 (nI (c + 1)) (nI (s + 1)) (nI N) g_end g_steps g_outs q_ops q_rs q_xs q_known q_regs q_row q_rows q_lengths) :
    ∀ n t : Nat, s < n + t → t ≤ s → wY_showsWith_90 post J4 x1 (nI c) (nI s) (nI N) g_end g_steps g_outs q_ops q_rs q_xs q_known q_regs q_row q_rows q_lengths n (bI (fr N o r x p s t)) (nI t) := by
  intro n
  induction n with
  | zero => intro t h1 h2; omega
  | succ n ih =>
    intro t h1 h2
    rw [wY_showsWith_90]
    by_cases e : s ≤ t
    · have et : t = s := by omega
      rw [et]
      exact br_t (nI_le (Nat.le_refl _) (by omega)) (bI_br (fun h => nm_r (nI_1 s) (hf h)) (fun h => nm_r (nI_1 c) (nm_r (nI_1 s) (ht h))))
    · have K := ih (t + 1) (by omega) (by omega)
      rw [fr_s] at K
      refine br_f (nI_ge (by omega) (by omega)) (bI_br (fun h => ?_) (fun h => ?_))
      · rw [h, Bool.false_and] at K
        exact nm_r (nI_1 t) K
      · rw [h, Bool.true_and] at K
        refine ySm (by omega) (by omega) (by omega) hY (fr_D N o r x t h) (bI_br (fun z => nm_r (nI_1 t) ?_) (fun z => nm_r (nI_1 t) ?_))
        · rw [z] at K; exact K
        · rw [z] at K; exact K
theorem yw39 {post : Int32 → SY → Prop} {J4 : TJ4} {x1 : Int32} {p s c : Nat} (hs : s < 4) (hL : ∀ t, t < s + 1 → q_lengths t = (if rD N o r x (4 * p + t) = true then nI (RU N o r x (4 * p + t)).2.2.1 else -1))
    (hR : ∀ i, i < (RU N o r x (4 * p + s)).2.2.1 → q_row i = nI ((RU N o r x (4 * p + s)).2.2.2 i))
    (hf : ∀ ro, YS N o r x p (s + 1) q_lengths ro → fr N o r x p s s = false → J4 (nI c) (nI (s + 1)) (nI N) (bI (!rD N o r x (4 * p + s))) g_steps (nI (RU N o r x (4 * p + s)).2.2.1) q_ops q_rs q_xs q_known q_regs q_row ro q_lengths)
    (ht : ∀ ro, YS N o r x p (s + 1) q_lengths ro → fr N o r x p s s = true → J4 (nI (c + 1)) (nI (s + 1)) (nI N) (bI (!rD N o r x (4 * p + s))) g_steps (nI (RU N o r x (4 * p + s)).2.2.1) q_ops q_rs q_xs q_known q_regs q_row ro q_lengths) :
    ∀ (n k : Nat) (ro : Nat → Int32), (RU N o r x (4 * p + s)).2.2.1 < n + k → k ≤ (RU N o r x (4 * p + s)).2.2.1 → (∀ i, i < k → ro (60 * s + i) = nI ((RU N o r x (4 * p + s)).2.2.2 i)) →
    (∀ t, t < s → ∀ i, i < (RU N o r x (4 * p + t)).2.2.1 → ro (60 * t + i) = nI ((RU N o r x (4 * p + t)).2.2.2 i)) →
    wY_showsWith_39 post J4 x1 (nI c) (nI s) (nI N) (bI (!rD N o r x (4 * p + s))) g_steps (nI (RU N o r x (4 * p + s)).2.2.1) n (nI k) q_ops q_rs q_xs q_known q_regs q_row ro q_lengths := by
  have u1 := (RU_b N o r x (4 * p + s)).2.2
  intro n
  induction n with
  | zero => intro k ro h1 h2; omega
  | succ n ih =>
    intro k ro h1 h2 h3 h4
    rw [wY_showsWith_39]
    refine pk_le (RU N o r x (4 * p + s)).2.2.1 k (fun h => ?_) (fun h => ?_)
    · have hY : YS N o r x p (s + 1) q_lengths ro := fun t hlt => ⟨hL t hlt, by
        by_cases et : t = s
        · rw [et]; exact fun i hi => h3 i (by omega)
        · exact h4 t (by omega)⟩
      have K := yw90 (post := post) (J4 := J4) (x1 := x1) (c := c) hs hY (hf ro hY) (ht ro hY) (s + 1) 0 (by omega) (by omega)
      refine bI_br (fun hd => ⟨s + 1, ?_⟩) (fun hd => ⟨s + 1, ?_⟩)
      · have hd' : fr N o r x p s 0 = true := by
          show rD N o r x (4 * p + s) = true
          cases z : rD N o r x (4 * p + s)
          · rw [z] at hd; exact absurd hd (by decide)
          · rfl
        rw [hd'] at K
        exact K
      · have hd' : fr N o r x p s 0 = false := by
          show rD N o r x (4 * p + s) = false
          cases z : rD N o r x (4 * p + s)
          · rfl
          · rw [z] at hd; exact absurd hd (by decide)
        rw [hd'] at K
        exact K
    · have e1 : (60 : Int32) * nI s + nI k = nI (60 * s + k) := by rw [show (60 : Int32) = nI 60 from rfl, pk_mul, nI_add]
      rw [e1, nI_clamp (n := 60 * s + k) (by omega), nI_clamp (n := k) (by omega), hR k h]
      refine ⟨vp_in_nI (by omega) (by omega), vp_in_nI (by omega) (by omega), nm_e (nm_r (nI_1 k) (ih (k + 1) _ (by omega) (by omega) (fun i hi => ?_) (fun t hlt i hi => ?_)))⟩
      · by_cases ei : i = k
        · rw [ei, pk_us]
        · rw [pk_un (by omega)]; exact h3 i (by omega)
      · have u2 := (RU_b N o r x (4 * p + t)).2.2
        rw [pk_un (by omega)]
        exact h4 t hlt i hi
theorem yw4 {post : Int32 → SY → Prop} {p : Nat} (hG : PG N o r x) (hP : prY N o r x q_ops q_rs q_xs) (hp : p < 4)
    (C : ∀ (e1 e2 e3 : Int32) (vv rw' ro le : Nat → Int32), post (nI (nsh N o r x p 4)) (nI N, e1, e2, e3, q_ops, q_rs, q_xs, q_known, vv, rw', ro, le)) :
    ∀ (n s : Nat) (e1 e2 e3 : Int32) (vv rw' ro le : Nat → Int32), 4 < n + s → s ≤ 4 → YS N o r x p s le ro →
    wY_showsWith_4 post (nI p) n (nI (nsh N o r x p s)) (nI s) (nI N) e1 e2 e3 q_ops q_rs q_xs q_known vv rw' ro le := by
  intro n
  induction n with
  | zero => intro s e1 e2 e3 vv rw' ro le h1 h2; omega
  | succ n ih =>
    intro s e1 e2 e3 vv rw' ro le h1 h2 hY
    rw [wY_showsWith_4]
    by_cases e : 4 ≤ s
    · have es : s = 4 := by omega
      rw [es]
      exact br_t (nI_le (a := 4) (b := 4) (by decide) (by decide)) (C e1 e2 e3 vv rw' ro le)
    · have hs : s < 4 := by omega
      have cs : (nI s).toNatClampNeg = s := nI_clamp (by omega)
      have vs : vp_in (nI s) 4 := vp_in_nI hs (by omega)
      refine br_f (nI_ge (a := s) (b := 4) (by omega) (by decide)) (yDR hG hP hp hs (fun vv' rw'' hR => ?_))
      have go : ∀ le' : Nat → Int32, le' = upd le s (if rD N o r x (4 * p + s) = true then nI (RU N o r x (4 * p + s)).2.2.1 else -1) → ∃ n39 : Nat, wY_showsWith_39 post (wY_showsWith_4 post (nI p) n) (nI p) (nI (nsh N o r x p s)) (nI s)
          (nI N) (bI (!rD N o r x (4 * p + s))) (nI (RU N o r x (4 * p + s)).1) (nI (RU N o r x (4 * p + s)).2.2.1) n39 0 q_ops q_rs q_xs q_known vv' rw'' ro le' := by
        intro le' el
        refine ⟨(RU N o r x (4 * p + s)).2.2.1 + 1, ?_⟩
        refine yw39 (c := nsh N o r x p s) hs (fun t hlt => ?_) hR (fun ro' h h0 => ?_) (fun ro' h h0 => ?_) _ 0 ro (by omega) (by omega) (fun i hi => by omega) (fun t hlt => (hY t hlt).2)
        · rw [el]
          by_cases et : t = s
          · rw [et, pk_us]
          · rw [pk_un et]; exact (hY t (by omega)).1
        · have K := ih (s + 1) (bI (!rD N o r x (4 * p + s))) (nI (RU N o r x (4 * p + s)).1) (nI (RU N o r x (4 * p + s)).2.2.1) vv' rw'' ro' le' (by omega) (by omega) h
          rw [nsh_f N o r x h0] at K
          exact K
        · have K := ih (s + 1) (bI (!rD N o r x (4 * p + s))) (nI (RU N o r x (4 * p + s)).1) (nI (RU N o r x (4 * p + s)).2.2.1) vv' rw'' ro' le' (by omega) (by omega) h
          rw [nsh_t N o r x h0] at K
          exact K
      refine bI_br (fun hd => ⟨vs, fun le' el => go le' ?_⟩) (fun hd => ⟨vs, fun le' el => go le' ?_⟩)
      · have hd' : rD N o r x (4 * p + s) = true := by
          cases z : rD N o r x (4 * p + s)
          · rw [z] at hd; exact absurd hd (by decide)
          · rfl
        rw [el, cs, if_pos hd']
      · have hd' : ¬ rD N o r x (4 * p + s) = true := by
          intro z
          rw [z] at hd
          exact absurd hd (by decide)
        rw [el, cs, if_neg hd']
theorem ySW {post : Int32 → SY → Prop} {p : Nat} (hG : PG N o r x) (hP : prY N o r x q_ops q_rs q_xs) (hp : p < 4)
    (C : ∀ (e1 e2 e3 : Int32) (vv rw' ro le : Nat → Int32), post (nI (nsh N o r x p 4)) (nI N, e1, e2, e3, q_ops, q_rs, q_xs, q_known, vv, rw', ro, le)) : wpY_showsWith post (nI N, g_end, g_steps, g_outs, q_ops, q_rs, q_xs, q_known, q_regs, q_row, q_rows, q_lengths) (nI p) :=
  ⟨5, yw4 hG hP hp C 5 0 _ _ _ _ _ _ _ (by decide) (by decide) (fun t ht => by omega)⟩
theorem yl2 {post : Int32 → SY → Prop} (hG : PG N o r x) (hP : prY N o r x q_ops q_rs q_xs)
    (C : ∀ (e1 e2 e3 : Int32) (vv rw' ro le : Nat → Int32), post (bI (lk N o r x 4)) (nI N, e1, e2, e3, q_ops, q_rs, q_xs, q_known, vv, rw', ro, le)) :
    ∀ (n p : Nat) (e1 e2 e3 : Int32) (vv rw' ro le : Nat → Int32), 4 < n + p → p ≤ 4 → lk N o r x p = false →
    wY_leaks_2 post n (nI p) (nI N) e1 e2 e3 q_ops q_rs q_xs q_known vv rw' ro le := by
  intro n
  induction n with
  | zero => intro p e1 e2 e3 vv rw' ro le h1 h2; omega
  | succ n ih =>
    intro p e1 e2 e3 vv rw' ro le h1 h2 hl
    rw [wY_leaks_2]
    by_cases e : 4 ≤ p
    · have ep : p = 4 := by omega
      rw [ep] at hl ⊢
      rw [hl] at C
      exact br_t (nI_le (a := 4) (b := 4) (by decide) (by decide)) (C e1 e2 e3 vv rw' ro le)
    · have hb := nsh_le N o r x p 4
      refine br_f (nI_ge (a := p) (b := 4) (by omega) (by decide)) (ySW hG hP (by omega) (fun e1 e2 e3 vv rw' ro le => pk_le (nsh N o r x p 4) 1 (fun h => nm_r (nI_1 p) (ih (p + 1) e1 e2 e3 vv rw' ro le (by omega) (by omega) ?_)) (fun h => ?_)))
      · rw [lk_s, hl, decide_eq_false (by omega)]; rfl
      · have ht : lk N o r x (p + 1) = true := by rw [lk_s, decide_eq_true h, Bool.or_true]
        rw [lk_tl N o r x ht (show p + 1 ≤ 4 by omega)] at C
        exact C e1 e2 e3 vv rw' ro le
end
end
section
/-! arguments: bad numbers, bad places, bad instructions; writes -/
def S4 (v : Int32) : Prop := ∃ b, b < 4 ∧ v = nI b
def S16 (v : Int32) : Prop := ∃ b, b ≤ 16 ∧ v = nI b
def INN (N : Nat) (v : Int32) : Prop := ∃ i, i < N ∧ v = nI i
theorem s4_iff {v : Int32} : S4 v ↔ ¬ v < 0 ∧ v ≤ 3 := by
  constructor
  · rintro ⟨b, hb, rfl⟩
    exact ⟨nI_pos (by omega), nI_le (a := b) (b := 3) (by omega) (by decide)⟩
  · intro h
    obtain ⟨j, hj, e⟩ := nI_of2 (n := 3) (M := 3) (by decide) h.1 h.2
    exact ⟨j, by omega, e⟩
theorem s16_iff {v : Int32} : S16 v ↔ ¬ v < 0 ∧ v ≤ 16 := by
  constructor
  · rintro ⟨b, hb, rfl⟩
    exact ⟨nI_pos (by omega), nI_le (a := b) (b := 16) (by omega) (by decide)⟩
  · intro h
    obtain ⟨j, hj, e⟩ := nI_of2 (n := 16) (M := 16) (by decide) h.1 h.2
    exact ⟨j, hj, e⟩
theorem in_iff {N : Nat} {v : Int32} (hN : N ≤ 16) : INN N v ↔ ¬ v < 0 ∧ v < nI N := by
  constructor
  · rintro ⟨b, hb, rfl⟩
    exact ⟨nI_pos (by omega), nI_lt hb (by omega)⟩
  · intro h
    obtain ⟨j, hj, rfl⟩ := nI_of h.1
    have h2 := h.2
    rw [nI_ltI hj (by omega)] at h2
    exact ⟨j, h2, rfl⟩
/-- an instruction that is taken -/
def GD (v1 v2 v3 : Int32) : Prop := ∃ a, a ≤ 7 ∧ v1 = nI a ∧ (a ≤ 4 ∨ a = 6 → S4 v2) ∧ (a ≤ 3 → S4 v3) ∧ (a = 5 ∨ a = 6 → S16 v3)
theorem gd_pick {v1 v2 v3 : Int32} (h : GD v1 v2 v3) : ∃ a b c, v1 = nI a ∧ a ≤ 7 ∧ b < 4 ∧ c ≤ 16 ∧ (a ≤ 3 → c < 4) ∧ (a ≤ 4 ∨ a = 6 → v2 = nI b) ∧ (¬ (a ≤ 4 ∨ a = 6) → b = 0) ∧ (a ≤ 3 ∨ a = 5 ∨ a = 6 → v3 = nI c) ∧ (¬ (a ≤ 3 ∨ a = 5 ∨ a = 6) → c = 0) := by
  obtain ⟨a, h1, h2, h3, h4, h5⟩ := h
  have hb : ∃ b, b < 4 ∧ (a ≤ 4 ∨ a = 6 → v2 = nI b) ∧ (¬ (a ≤ 4 ∨ a = 6) → b = 0) := by
    by_cases z : a ≤ 4 ∨ a = 6
    · obtain ⟨b, e1, e2⟩ := h3 z
      exact ⟨b, e1, fun _ => e2, fun y => absurd z y⟩
    · exact ⟨0, by omega, fun y => absurd y z, fun _ => rfl⟩
  have hc : ∃ c, c ≤ 16 ∧ (a ≤ 3 → c < 4) ∧ (a ≤ 3 ∨ a = 5 ∨ a = 6 → v3 = nI c) ∧ (¬ (a ≤ 3 ∨ a = 5 ∨ a = 6) → c = 0) := by
    by_cases z : a ≤ 3
    · obtain ⟨c, e1, e2⟩ := h4 z
      exact ⟨c, by omega, fun _ => e1, fun _ => e2, fun y => absurd (Or.inl z) y⟩
    · by_cases z2 : a = 5 ∨ a = 6
      · obtain ⟨c, e1, e2⟩ := h5 z2
        exact ⟨c, e1, fun y => absurd y z, fun _ => e2, fun y => absurd (Or.inr z2) y⟩
      · exact ⟨0, by omega, fun y => absurd y z, fun y => y.elim (fun q => absurd q z) (fun q => absurd q z2), fun _ => rfl⟩
  obtain ⟨b, b1, b2, b3⟩ := hb
  obtain ⟨c, c1, c2, c3, c4⟩ := hc
  exact ⟨a, b, c, h2, h1, b1, c1, c2, b2, b3, c3, c4⟩
section
variable {f_n f_known f_reached f_ending f_secrets f_dark f_ran : Int32} {a_op a_first a_second a_next a_common a_nearest a_below a_knowing a_ends a_stepsOf a_outsOf a_shown a_value : Nat → Int32} {N : Nat} {o r x : Nat → Nat}
theorem xBN {post : Int32 → Prop} {v : Int32} (h0 : S4 v → post 0) (h1 : ¬ S4 v → post 1) : wpX_badNumber post (f_n, f_known, f_reached, f_ending, f_secrets, f_dark, f_ran, a_op, a_first, a_second, a_next, a_common, a_nearest, a_below, a_knowing, a_ends, a_stepsOf, a_outsOf, a_shown, a_value) v :=
  br_c (fun h => h1 (fun z => (s4_iff.mp z).1 h)) (fun h => br_c (fun h3 => h0 (s4_iff.mpr ⟨h, h3⟩)) (fun h3 => h1 (fun z => h3 (s4_iff.mp z).2)))
theorem xBP {post : Int32 → Prop} {v : Int32} (hN : N ≤ 16) (h0 : INN N v → post 0) (h1 : ¬ INN N v → post 1) : wpX_badPlace post (nI N, f_known, f_reached, f_ending, f_secrets, f_dark, f_ran, a_op, a_first, a_second, a_next, a_common, a_nearest, a_below, a_knowing, a_ends, a_stepsOf, a_outsOf, a_shown, a_value) v :=
  br_c (fun h => h1 (fun z => ((in_iff hN).mp z).1 h)) (fun h => br_c (fun h3 => h0 ((in_iff hN).mpr ⟨h, h3⟩)) (fun h3 => h1 (fun z => h3 ((in_iff hN).mp z).2)))
theorem xB84 {post : Int32 → Prop} {v : Int32} {t : Bool} (h0 : (t = true → S16 v) → post 0) (h1 : ¬ (t = true → S16 v) → post 1) : wX_badInstruction_84 post v (bI t) f_n f_known f_reached f_ending f_secrets f_dark f_ran a_op a_first a_second a_next a_common a_nearest a_below a_knowing a_ends a_stepsOf a_outsOf a_shown a_value :=
  bI_br (fun e => h0 (fun z => by rw [e] at z; exact absurd z (by decide)))
    (fun e => br_c (fun h => h1 (fun z => (s16_iff.mp (z e)).1 h)) (fun h => br_c (fun h3 => h0 (fun _ => s16_iff.mpr ⟨h, h3⟩)) (fun h3 => h1 (fun z => h3 (s16_iff.mp (z e)).2))))
theorem xB71 {post : Int32 → Prop} {v : Int32} {d t : Bool} (h0 : (d = true → S4 v) → (t = true → S16 v) → post 0) (h1 : ¬ ((d = true → S4 v) ∧ (t = true → S16 v)) → post 1) : wX_badInstruction_71 post v (bI d) (bI t) f_n f_known f_reached f_ending f_secrets f_dark f_ran a_op a_first a_second a_next a_common a_nearest a_below a_knowing a_ends a_stepsOf a_outsOf a_shown a_value := by
  refine bI_br (fun e => ?_) (fun e => ?_)
  · have z : d = true → S4 v := fun z => by rw [e] at z; exact absurd z (by decide)
    exact xB84 (fun k => h0 z k) (fun k => h1 (fun y => k y.2))
  · exact xBN (fun z => br_t rfl (xB84 (fun k => h0 (fun _ => z) k) (fun k => h1 (fun y => k y.2)))) (fun z => br_f (by decide) (h1 (fun y => z (y.1 e))))
theorem xB46 {post : Int32 → Prop} {a : Nat} {v2 v3 : Int32} {n d t : Bool} (ha : a ≤ 7) (h0 : (n = true → S4 v2) → (d = true → S4 v3) → (t = true → S16 v3) → post 0) (h1 : ¬ ((n = true → S4 v2) ∧ (d = true → S4 v3) ∧ (t = true → S16 v3)) → post 1) :
    wX_badInstruction_46 post (nI a) v2 v3 (bI n) (bI d) (bI t) f_n f_known f_reached f_ending f_secrets f_dark f_ran a_op a_first a_second a_next a_common a_nearest a_below a_knowing a_ends a_stepsOf a_outsOf a_shown a_value := by
  refine br_f (nI_pos (by omega)) (br_f (nI_nlt (a := 7) (b := a) (by omega) (by decide)) (bI_br (fun e => ?_) (fun e => ?_)))
  · have z : n = true → S4 v2 := fun z => by rw [e] at z; exact absurd z (by decide)
    exact xB71 (fun k l => h0 z k l) (fun k => h1 (fun y => k y.2))
  · exact xBN (fun z => br_t rfl (xB71 (fun k l => h0 (fun _ => z) k l) (fun k => h1 (fun y => k y.2)))) (fun z => br_f (by decide) (h1 (fun y => z (y.1 e))))
theorem xBI {post : Int32 → Prop} {v1 v2 v3 : Int32} (h0 : GD v1 v2 v3 → post 0) (h1 : ¬ GD v1 v2 v3 → post 1) : wpX_badInstruction post (f_n, f_known, f_reached, f_ending, f_secrets, f_dark, f_ran, a_op, a_first, a_second, a_next, a_common, a_nearest, a_below, a_knowing, a_ends, a_stepsOf, a_outsOf, a_shown, a_value) v1 v2 v3 := by
  have k0 : (∀ n d t : Int32, wX_badInstruction_46 post v1 v2 v3 n d t f_n f_known f_reached f_ending f_secrets f_dark f_ran a_op a_first a_second a_next a_common a_nearest a_below a_knowing a_ends a_stepsOf a_outsOf a_shown a_value) → wpX_badInstruction post (f_n, f_known, f_reached, f_ending, f_secrets, f_dark, f_ran, a_op, a_first, a_second, a_next, a_common, a_nearest, a_below, a_knowing, a_ends, a_stepsOf, a_outsOf, a_shown, a_value) v1 v2 v3 := fun H =>
    br_c (fun _ => br_c (fun _ => br_c (fun _ => H _ _ _) (fun _ => br_c (fun _ => H _ _ _) (fun _ => H _ _ _))) (fun _ => br_c (fun _ => H _ _ _) (fun _ => br_c (fun _ => H _ _ _) (fun _ => H _ _ _))))
      (fun _ => br_c (fun _ => br_c (fun _ => br_c (fun _ => H _ _ _) (fun _ => br_c (fun _ => H _ _ _) (fun _ => H _ _ _))) (fun _ => br_c (fun _ => H _ _ _) (fun _ => br_c (fun _ => H _ _ _) (fun _ => H _ _ _))))
        (fun _ => br_c (fun _ => br_c (fun _ => H _ _ _) (fun _ => br_c (fun _ => H _ _ _) (fun _ => H _ _ _))) (fun _ => br_c (fun _ => H _ _ _) (fun _ => br_c (fun _ => H _ _ _) (fun _ => H _ _ _)))))
  by_cases hneg : v1 < 0
  · refine k0 (fun n d t => br_t hneg (h1 (fun z => ?_)))
    obtain ⟨a, ha, e, _⟩ := z
    rw [e] at hneg
    exact nI_pos (by omega) hneg
  · obtain ⟨a, ha, rfl⟩ := nI_of hneg
    by_cases h7 : 7 < a
    · refine k0 (fun n d t => br_f hneg (br_t (nI_lt (a := 7) (b := a) h7 ha) (h1 (fun z => ?_))))
      obtain ⟨a', ha', e, _⟩ := z
      rw [nI_eq ha (by omega)] at e
      omega
    · have key : ∀ n d t : Bool, (n = true ↔ a ≤ 4 ∨ a = 6) → (d = true ↔ a ≤ 3) → (t = true ↔ a = 5 ∨ a = 6) → wX_badInstruction_46 post (nI a) v2 v3 (bI n) (bI d) (bI t) f_n f_known f_reached f_ending f_secrets f_dark f_ran a_op a_first a_second a_next a_common a_nearest a_below a_knowing a_ends a_stepsOf a_outsOf a_shown a_value := by
        intro n d t en ed et
        refine xB46 (by omega) (fun p q s => h0 ⟨a, by omega, rfl, fun z => p (en.mpr z), fun z => q (ed.mpr z), fun z => s (et.mpr z)⟩) (fun w => h1 (fun z => w ?_))
        obtain ⟨a', ha', e, z1, z2, z3⟩ := z
        rw [nI_eq ha (by omega)] at e
        subst e
        exact ⟨fun y => z1 (en.mp y), fun y => z2 (ed.mp y), fun y => z3 (et.mp y)⟩
      have t16 : ∀ n : Bool, (n = true ↔ a ≤ 4 ∨ a = 6) → wX_badInstruction_16 post (nI a) v2 v3 (bI n) f_n f_known f_reached f_ending f_secrets f_dark f_ran a_op a_first a_second a_next a_common a_nearest a_below a_knowing a_ends a_stepsOf a_outsOf a_shown a_value := by
        intro n en
        have t28 : ∀ d : Bool, (d = true ↔ a ≤ 3) → wX_badInstruction_28 post (nI a) v2 v3 (bI n) (bI d) f_n f_known f_reached f_ending f_secrets f_dark f_ran a_op a_first a_second a_next a_common a_nearest a_below a_knowing a_ends a_stepsOf a_outsOf a_shown a_value := by
          intro d ed
          exact pk_eq a 5 (fun h => key n d true en ed ⟨fun _ => Or.inl h, fun _ => rfl⟩) (fun h5 => pk_eq a 6 (fun h => key n d true en ed ⟨fun _ => Or.inr h, fun _ => rfl⟩)
            (fun h6 => key n d false en ed ⟨fun z => absurd z (by decide), fun z => z.elim (fun y => absurd y h5) (fun y => absurd y h6)⟩))
        exact pk_lt 3 a (fun h => t28 false ⟨fun z => absurd z (by decide), fun z => by omega⟩) (fun h => t28 true ⟨fun _ => h, fun _ => rfl⟩)
      exact pk_le a 4 (fun h => t16 true ⟨fun _ => Or.inl h, fun _ => rfl⟩) (fun h4 => pk_eq a 6 (fun h => t16 true ⟨fun _ => Or.inr h, fun _ => rfl⟩)
        (fun h6 => t16 false ⟨fun z => absurd z (by decide), fun z => by omega⟩))
theorem xW {post : SX → Prop} {i a b c : Nat} {v2 v3 : Int32} (hi : i < 16) (ha : a ≤ 7) (hb : b < 4) (hc : c ≤ 16) (h2 : a ≤ 4 ∨ a = 6 → v2 = nI b) (h2' : ¬ (a ≤ 4 ∨ a = 6) → b = 0) (h3 : a ≤ 3 ∨ a = 5 ∨ a = 6 → v3 = nI c) (h3' : ¬ (a ≤ 3 ∨ a = 5 ∨ a = 6) → c = 0)
    (C : post (f_n, 0, f_reached, f_ending, f_secrets, f_dark, 0, upd a_op i (nI a), upd a_first i (nI b), upd a_second i (nI c), a_next, a_common, a_nearest, a_below, a_knowing, a_ends, a_stepsOf, a_outsOf, a_shown, a_value)) : wpX_write post (f_n, f_known, f_reached, f_ending, f_secrets, f_dark, f_ran, a_op, a_first, a_second, a_next, a_common, a_nearest, a_below, a_knowing, a_ends, a_stepsOf, a_outsOf, a_shown, a_value) (nI i) (nI a) v2 v3 := by
  have ci : (nI i).toNatClampNeg = i := nI_clamp (by omega)
  have v : vp_in (nI i) 16 := vp_in_nI hi (by omega)
  have k58 : ∀ z : Int32, z = nI c → wX_write_58 post z (nI i) f_n f_known f_reached f_ending f_secrets f_dark f_ran (upd a_op i (nI a)) (upd a_first i (nI b)) a_second a_next a_common a_nearest a_below a_knowing a_ends a_stepsOf a_outsOf a_shown a_value := by
    intro z ez
    rw [ez]
    exact ⟨v, nm_r (by rw [ci, rn_nb2 (by omega)]) C⟩
  have k29 : ∀ z : Int32, z = nI b → wX_write_29 post (nI i) (nI a) v3 z (nI i) f_n f_known f_reached f_ending f_secrets f_dark f_ran (upd a_op i (nI a)) a_first a_second a_next a_common a_nearest a_below a_knowing a_ends a_stepsOf a_outsOf a_shown a_value := by
    intro z ez
    rw [ez]
    refine ⟨v, nm_r (e' := upd a_first i (nI b)) (by rw [ci, rn_nb2 (by omega)]) ?_⟩
    exact pk_le a 3 (fun h => k58 _ (h3 (by omega))) (fun h => pk_eq a 5 (fun h => k58 _ (h3 (by omega))) (fun h5 => pk_eq a 6 (fun h => k58 _ (h3 (by omega))) (fun h6 => k58 0 (by rw [h3' (by omega)]; rfl))))
  refine ⟨v, nm_r (e' := upd a_op i (nI a)) (by rw [ci, rn_nb2 (by omega)]) ?_⟩
  exact pk_le a 4 (fun h => k29 _ (h2 (by omega))) (fun h => pk_eq a 6 (fun h => k29 _ (h2 (by omega))) (fun h6 => k29 0 (by rw [h2' (by omega)]; rfl)))
end
section
variable {g_n g_end g_steps g_outs : Int32} {q_ops q_rs q_xs q_known q_regs q_row q_rows q_lengths : Nat → Int32} {N : Nat} {o r x : Nat → Nat}
theorem ySl {post : Int32 → Prop} {v : Int32} (h0 : ¬ S4 v → post 0) (h1 : S4 v → post 1) : wpY_small post (g_n, g_end, g_steps, g_outs, q_ops, q_rs, q_xs, q_known, q_regs, q_row, q_rows, q_lengths) v :=
  br_c (fun h => h0 (fun z => (s4_iff.mp z).1 h)) (fun h => br_c (fun h3 => h0 (fun z => absurd (s4_iff.mp z).2 (Int32.not_le.mpr h3))) (fun h3 => h1 (s4_iff.mpr ⟨h, Int32.not_lt.mp h3⟩)))
theorem yNP {post : Int32 → Prop} {v : Int32} (hN : N ≤ 16) (h0 : INN N v → post 0) (h1 : ¬ INN N v → post 1) : wpY_noPlace post (nI N, g_end, g_steps, g_outs, q_ops, q_rs, q_xs, q_known, q_regs, q_row, q_rows, q_lengths) v :=
  br_c (fun h => h1 (fun z => ((in_iff hN).mp z).1 h)) (fun h => br_c (fun h3 => h0 ((in_iff hN).mpr ⟨h, h3⟩)) (fun h3 => h1 (fun z => h3 ((in_iff hN).mp z).2)))
theorem yNN {post : Int32 → Prop} {v w : Int32} (h0 : S4 v → S4 w → post 0) (h1 : ¬ (S4 v ∧ S4 w) → post 1) : wpY_noNumbers post (g_n, g_end, g_steps, g_outs, q_ops, q_rs, q_xs, q_known, q_regs, q_row, q_rows, q_lengths) v w := by
  unfold wpY_noNumbers
  dsimp only
  exact ySl (fun z => br_t rfl (h1 (fun y => z y.1))) (fun z => br_f (by decide) (ySl (fun z' => br_t rfl (h1 (fun y => z' y.2))) (fun z' => br_f (by decide) (h0 z z'))))
theorem yB33 {post : Int32 → Prop} {a : Nat} {v3 : Int32} (ha : a ≤ 7) (h0 : (a ≤ 3 → S4 v3) → (a = 5 ∨ a = 6 → S16 v3) → post 0) (h1 : ¬ ((a ≤ 3 → S4 v3) ∧ (a = 5 ∨ a = 6 → S16 v3)) → post 1) : wY_wrong_33 post (nI a) v3 g_n g_end g_steps g_outs q_ops q_rs q_xs q_known q_regs q_row q_rows q_lengths := by
  have k63 : (a = 5 ∨ a = 6) → wY_wrong_63 post v3 g_n g_end g_steps g_outs q_ops q_rs q_xs q_known q_regs q_row q_rows q_lengths := fun e =>
    br_c (fun h => h1 (fun z => (s16_iff.mp (z.2 e)).1 h)) (fun h => br_c (fun h3 => h0 (fun y => by omega) (fun _ => s16_iff.mpr ⟨h, h3⟩)) (fun h3 => h1 (fun z => h3 (s16_iff.mp (z.2 e)).2)))
  exact pk_le 4 a (fun h => pk_eq a 5 (fun h5 => k63 (Or.inl h5)) (fun h5 => pk_eq a 6 (fun h6 => k63 (Or.inr h6)) (fun h6 => h0 (fun y => by omega) (fun y => by omega))))
    (fun h => ySl (fun z => br_t rfl (h1 (fun y => z (y.1 (by omega))))) (fun z => br_f (by decide) (h0 (fun _ => z) (fun y => by omega))))
theorem yBI {post : Int32 → Prop} {v1 v2 v3 : Int32} (h0 : GD v1 v2 v3 → post 0) (h1 : ¬ GD v1 v2 v3 → post 1) : wpY_wrong post (g_n, g_end, g_steps, g_outs, q_ops, q_rs, q_xs, q_known, q_regs, q_row, q_rows, q_lengths) v1 v2 v3 := by
  by_cases hneg : v1 < 0
  · refine br_t hneg (h1 (fun z => ?_))
    obtain ⟨a, ha, e, _⟩ := z
    rw [e] at hneg
    exact nI_pos (by omega) hneg
  · obtain ⟨a, ha, rfl⟩ := nI_of hneg
    refine br_f hneg (pk_le a 7 (fun h7 => ?_) (fun h7 => h1 (fun z => ?_)))
    · have k23 : (a ≤ 4 ∨ a = 6) → wY_wrong_23 post (nI a) v2 v3 g_n g_end g_steps g_outs q_ops q_rs q_xs q_known q_regs q_row q_rows q_lengths := by
        intro e
        unfold wY_wrong_23
        refine ySl (fun z => br_t rfl (h1 (fun y => ?_))) (fun z => br_f (by decide) (yB33 h7 (fun p q => h0 ⟨a, h7, rfl, fun _ => z, p, q⟩) (fun w => h1 (fun y => ?_))))
        · obtain ⟨a', ha', e', z1, z2, z3⟩ := y
          rw [nI_eq ha (by omega)] at e'
          subst e'
          exact z (z1 e)
        · obtain ⟨a', ha', e', z1, z2, z3⟩ := y
          rw [nI_eq ha (by omega)] at e'
          subst e'
          exact w ⟨z2, z3⟩
      refine pk_lt a 5 (fun h => k23 (by omega)) (fun h => pk_eq a 6 (fun h6 => k23 (Or.inr h6)) (fun h6 => yB33 h7 (fun p q => h0 ⟨a, h7, rfl, fun y => by omega, p, q⟩) (fun w => h1 (fun y => ?_))))
      obtain ⟨a', ha', e', z1, z2, z3⟩ := y
      rw [nI_eq ha (by omega)] at e'
      subst e'
      exact w ⟨z2, z3⟩
    · obtain ⟨a', ha', e, _⟩ := z
      rw [nI_eq ha (by omega)] at e
      omega
theorem yW {post : SY → Prop} {i : Nat} {v1 v2 v3 : Int32} (hi : i < 16) (C : post (g_n, g_end, g_steps, g_outs, upd q_ops i v1, upd q_rs i v2, upd q_xs i v3, q_known, q_regs, q_row, q_rows, q_lengths)) : wpY_write post (g_n, g_end, g_steps, g_outs, q_ops, q_rs, q_xs, q_known, q_regs, q_row, q_rows, q_lengths) (nI i) v1 v2 v3 := by
  have ci : (nI i).toNatClampNeg = i := nI_clamp (by omega)
  have v : vp_in (nI i) 16 := vp_in_nI hi (by omega)
  exact ⟨v, nm_r (by rw [ci]) ⟨v, nm_r (by rw [ci]) ⟨v, nm_r (by rw [ci]) C⟩⟩⟩
end
/-- the program behind a write -/
theorem pg_w {N N' i a b c : Nat} {o r x : Nat → Nat} (hG : PG N o r x) (h1 : 1 ≤ N') (h16 : N' ≤ 16) (hj : ∀ j, j < N' → j ≠ i → j < N) (ha : a ≤ 7) (hb : b < 4) (hc : c ≤ 16) (hc4 : a ≤ 3 → c < 4) : PG N' (uN1 o i a) (uN1 r i b) (uN1 x i c) := by
  refine ⟨h1, h16, fun j hlt => ?_⟩
  by_cases e : j = i
  · rw [e, uN1_s, uN1_s, uN1_s]; exact ⟨ha, hb, hc, hc4⟩
  · rw [uN1_n e, uN1_n e, uN1_n e]; exact hG.2.2 j (hj j hlt e)
theorem px_w {N N' i a b c : Nat} {o r x : Nat → Nat} {op fi se : Nat → Int32} (hP : prX N o r x op fi se) (hj : ∀ j, j < N' → j ≠ i → j < N) :
    prX N' (uN1 o i a) (uN1 r i b) (uN1 x i c) (upd op i (nI a)) (upd fi i (nI b)) (upd se i (nI c)) := by
  intro j hlt
  by_cases e : j = i
  · rw [e, uN1_s, uN1_s, uN1_s, pk_us, pk_us, pk_us]; exact ⟨rfl, rfl, rfl⟩
  · rw [uN1_n e, uN1_n e, uN1_n e, pk_un e, pk_un e, pk_un e]; exact hP j (hj j hlt e)
theorem py_w {N N' i a b c : Nat} {o r x : Nat → Nat} {op fi se : Nat → Int32} {v2 v3 : Int32} (hP : prY N o r x op fi se) (hj : ∀ j, j < N' → j ≠ i → j < N) (h2 : a ≤ 4 ∨ a = 6 → v2 = nI b) (h3 : a ≤ 3 ∨ a = 5 ∨ a = 6 → v3 = nI c) :
    prY N' (uN1 o i a) (uN1 r i b) (uN1 x i c) (upd op i (nI a)) (upd fi i v2) (upd se i v3) := by
  intro j hlt
  by_cases e : j = i
  · rw [e, uN1_s, uN1_s, uN1_s, pk_us, pk_us, pk_us]; exact ⟨rfl, h2, h3⟩
  · rw [uN1_n e, uN1_n e, uN1_n e, pk_un e, pk_un e, pk_un e]; exact hP j (hj j hlt e)
end
section
/-! the questions' last walks: the least bad place; Y's questions from what X's find left -/
def lb (Q : Nat → Bool) : Nat → Nat → Int32
  | 0, _ => -4
  | d + 1, i => if Q i = true then nI i else lb Q d (i + 1)
theorem lb_t {Q : Nat → Bool} {d i : Nat} (h : Q i = true) : lb Q (d + 1) i = nI i := if_pos h
theorem lb_f {Q : Nat → Bool} {d i : Nat} (h : Q i = false) : lb Q (d + 1) i = lb Q d (i + 1) := if_neg (by rw [h]; decide)
def bq (o r : Nat → Nat) (re dk : Int32) (K : Nat → Int32) (i : Nat) : Bool := (decide (o i = 4) && bt re i) && (bt (K i) (r i) || bt dk i)
section
variable {f_known f_reached f_ending f_secrets f_dark f_ran : Int32} {a_op a_first a_second a_next a_common a_nearest a_below a_knowing a_ends a_stepsOf a_outsOf a_shown a_value : Nat → Int32} {N : Nat} {o r x : Nat → Nat} {K : Nat → Int32}
theorem xl37 {post : Int32 → Prop} {J2 : Int32 → Prop} {i : Nat} {z : Bool} (hG : PG N o r x) (hP : prX N o r x a_op a_first a_second) (hK : a_knowing i = K i) (hi : i < N) (ez : z = (decide (o i = 4) && bt f_reached i))
    (ht : bq o r f_reached f_dark K i = true → post (nI i)) (hf : bq o r f_reached f_dark K i = false → J2 (nI (i + 1))) : wX_leastBad_37 post J2 (nI i) (bI z) (nI N) f_known f_reached f_ending f_secrets f_dark f_ran a_op a_first a_second a_next a_common a_nearest a_below a_knowing a_ends a_stepsOf a_outsOf a_shown a_value := by
  have h16 := hG.2.1
  obtain ⟨g1, g2, g3, g4⟩ := hG.2.2 i hi
  obtain ⟨p1, p2, p3⟩ := hP i hi
  have c : (nI i).toNatClampNeg = i := nI_clamp (by omega)
  have v : vp_in (nI i) 16 := vp_in_nI (by omega) (by omega)
  have v17 : vp_in (nI i) 17 := vp_in_nI (by omega) (by omega)
  have eq : bq o r f_reached f_dark K i = (z && (bt (K i) (r i) || bt f_dark i)) := by rw [ez]; rfl
  rw [eq] at ht hf
  refine bI_br (fun e => ?_) (fun e => ⟨v17, v, ?_⟩)
  · rw [e] at hf
    exact nm_r (nI_1 i) (hf rfl)
  · rw [e] at ht hf
    rw [c, p2, hK]
    refine sf_br (by omega) (fun k => ?_) (fun k => sf_br (by omega) (fun k2 => ?_) (fun k2 => ?_))
    · rw [k] at ht; exact ht rfl
    · rw [k, k2] at ht; exact ht rfl
    · rw [k, k2] at hf; exact nm_r (nI_1 i) (hf rfl)
theorem xl2 {post : Int32 → Prop} (hG : PG N o r x) (hP : prX N o r x a_op a_first a_second) (hK : ∀ j, j ≤ N → a_knowing j = K j) : ∀ d i n : Nat, i + d = N → d < n → post (lb (bq o r f_reached f_dark K) d i) → wX_leastBad_2 post (nI N) f_known f_reached f_ending f_secrets f_dark f_ran a_op a_first a_second a_next a_common a_nearest a_below a_knowing a_ends a_stepsOf a_outsOf a_shown a_value n (nI i) := by
  have h16 := hG.2.1
  intro d
  induction d with
  | zero =>
    intro i n h1 h2 C
    obtain ⟨m, rfl⟩ : ∃ m, n = m + 1 := ⟨n - 1, by omega⟩
    rw [wX_leastBad_2]
    exact br_t (nI_le (by omega) (by omega)) C
  | succ d ih =>
    intro i n h1 h2 C
    obtain ⟨m, rfl⟩ : ∃ m, n = m + 1 := ⟨n - 1, by omega⟩
    rw [wX_leastBad_2]
    have hi : i < N := by omega
    obtain ⟨g1, g2, g3, g4⟩ := hG.2.2 i hi
    obtain ⟨p1, p2, p3⟩ := hP i hi
    have c : (nI i).toNatClampNeg = i := nI_clamp (by omega)
    have ht : bq o r f_reached f_dark K i = true → post (nI i) := fun h => by rw [lb_t h] at C; exact C
    have hf : bq o r f_reached f_dark K i = false → wX_leastBad_2 post (nI N) f_known f_reached f_ending f_secrets f_dark f_ran a_op a_first a_second a_next a_common a_nearest a_below a_knowing a_ends a_stepsOf a_outsOf a_shown a_value m (nI (i + 1)) := fun h => ih (i + 1) m (by omega) (by omega) (by rw [lb_f h] at C; exact C)
    refine br_f (nI_ge hi (by omega)) ⟨vp_in_nI (by omega) (by omega), ?_⟩
    rw [c, p1]
    refine pk_eq (o i) 4 (fun h4 => sf_br (by omega) (fun hr => ?_) (fun hr => ?_)) (fun h4 => ?_)
    · exact xl37 (z := true) hG hP (hK i (by omega)) hi (by rw [decide_eq_true h4, hr]; rfl) ht hf
    · exact xl37 (z := false) hG hP (hK i (by omega)) hi (by rw [hr, Bool.and_false]) ht hf
    · exact xl37 (z := false) hG hP (hK i (by omega)) hi (by rw [decide_eq_false h4]; rfl) ht hf
theorem xLB {post : Int32 → Prop} (hG : PG N o r x) (hP : prX N o r x a_op a_first a_second) (hK : ∀ j, j ≤ N → a_knowing j = K j) (C : post (lb (bq o r f_reached f_dark K) N 0)) : wpX_leastBad post (nI N, f_known, f_reached, f_ending, f_secrets, f_dark, f_ran, a_op, a_first, a_second, a_next, a_common, a_nearest, a_below, a_knowing, a_ends, a_stepsOf, a_outsOf, a_shown, a_value) :=
  ⟨N + 1, xl2 hG hP hK N 0 (N + 1) (by omega) (by omega) C⟩
end
section
variable {g_end g_steps g_outs : Int32} {q_ops q_rs q_xs q_known q_regs q_row q_rows q_lengths : Nat → Int32} {N : Nat} {o r x : Nat → Nat} {K ne bl kn : Nat → Int32} {re sec dk : Int32}
theorem yl49 {post : Int32 → SY → Prop} {J17 : Int32 → Prop} {i : Nat} {z : Bool} (hG : PG N o r x) (hP : prY N o r x q_ops q_rs q_xs) (hK : q_known i = K i) (hi : i < N) (ez : z = (decide (o i = 4) && bt re i))
    (ht : bq o r re dk K i = true → post (nI i) (nI N, g_end, g_steps, g_outs, q_ops, q_rs, q_xs, q_known, q_regs, q_row, q_rows, q_lengths)) (hf : bq o r re dk K i = false → J17 (nI (i + 1))) : wY_bad_49 post J17 re dk (nI i) (bI z) (nI N) g_end g_steps g_outs q_ops q_rs q_xs q_known q_regs q_row q_rows q_lengths := by
  have h16 := hG.2.1
  obtain ⟨g1, g2, g3, g4⟩ := hG.2.2 i hi
  obtain ⟨p1, p2, p3⟩ := hP i hi
  have c : (nI i).toNatClampNeg = i := nI_clamp (by omega)
  have v : vp_in (nI i) 16 := vp_in_nI (by omega) (by omega)
  have v17 : vp_in (nI i) 17 := vp_in_nI (by omega) (by omega)
  have eq : bq o r re dk K i = (z && (bt (K i) (r i) || bt dk i)) := by rw [ez]; rfl
  rw [eq] at ht hf
  refine bI_br (fun e => ?_) (fun e => ⟨v17, v, ?_⟩)
  · rw [e] at hf
    exact nm_r (nI_1 i) (hf rfl)
  · rw [e] at ht hf ez
    have h4 : o i = 4 := of_decide_eq_true ((Bool.and_eq_true _ _).mp ez.symm).1
    rw [c, p2 (by omega), hK]
    refine sf_br (by omega) (fun k => ?_) (fun k => sf_br (by omega) (fun k2 => ?_) (fun k2 => ?_))
    · rw [k] at ht; exact ht rfl
    · rw [k, k2] at ht; exact ht rfl
    · rw [k, k2] at hf; exact nm_r (nI_1 i) (hf rfl)
theorem yl17 {post : Int32 → SY → Prop} (hG : PG N o r x) (hP : prY N o r x q_ops q_rs q_xs) (hK : ∀ j, j ≤ N → q_known j = K j) : ∀ d i n : Nat, i + d = N → d < n → post (lb (bq o r re dk K) d i) (nI N, g_end, g_steps, g_outs, q_ops, q_rs, q_xs, q_known, q_regs, q_row, q_rows, q_lengths) → wY_bad_17 post re dk (nI N) g_end g_steps g_outs q_ops q_rs q_xs q_known q_regs q_row q_rows q_lengths n (nI i) := by
  have h16 := hG.2.1
  intro d
  induction d with
  | zero =>
    intro i n h1 h2 C
    obtain ⟨m, rfl⟩ : ∃ m, n = m + 1 := ⟨n - 1, by omega⟩
    rw [wY_bad_17]
    exact br_t (nI_le (by omega) (by omega)) C
  | succ d ih =>
    intro i n h1 h2 C
    obtain ⟨m, rfl⟩ : ∃ m, n = m + 1 := ⟨n - 1, by omega⟩
    rw [wY_bad_17]
    have hi : i < N := by omega
    obtain ⟨g1, g2, g3, g4⟩ := hG.2.2 i hi
    obtain ⟨p1, p2, p3⟩ := hP i hi
    have c : (nI i).toNatClampNeg = i := nI_clamp (by omega)
    have ht : bq o r re dk K i = true → post (nI i) (nI N, g_end, g_steps, g_outs, q_ops, q_rs, q_xs, q_known, q_regs, q_row, q_rows, q_lengths) := fun h => by rw [lb_t h] at C; exact C
    have hf : bq o r re dk K i = false → wY_bad_17 post re dk (nI N) g_end g_steps g_outs q_ops q_rs q_xs q_known q_regs q_row q_rows q_lengths m (nI (i + 1)) := fun h => ih (i + 1) m (by omega) (by omega) (by rw [lb_f h] at C; exact C)
    refine br_f (nI_ge hi (by omega)) (sf_br (by omega) (fun hr => ⟨vp_in_nI (by omega) (by omega), ?_⟩) (fun hr => ?_))
    · rw [c, p1]
      refine pk_eq (o i) 4 (fun h4 => ?_) (fun h4 => ?_)
      · exact yl49 (z := true) hG hP (hK i (by omega)) hi (by rw [decide_eq_true h4, hr]; rfl) ht hf
      · exact yl49 (z := false) hG hP (hK i (by omega)) hi (by rw [decide_eq_false h4]; rfl) ht hf
    · exact yl49 (z := false) hG hP (hK i (by omega)) hi (by rw [hr, Bool.and_false]) ht hf
/-- Y's questions, given what X found -/
theorem yQc {post : Int32 → Prop} {i : Nat} (hG : PG N o r x) (hP : prY N o r x q_ops q_rs q_xs) (hF : FD N o r x re sec dk ne bl kn) (hi : i < N) (C : post ((re >>> (nI i &&& 31)) &&& 1)) : wpY_comeTo post (nI N, g_end, g_steps, g_outs, q_ops, q_rs, q_xs, q_known, q_regs, q_row, q_rows, q_lengths) (nI i) := by
  unfold wpY_comeTo
  dsimp only
  exact yNP hG.2.1 (fun _ => br_t rfl (yACr hG hP hF.1 C)) (fun z => absurd ⟨i, hi, rfl⟩ z)
theorem yQm {post : Int32 → Prop} {i : Nat} (hG : PG N o r x) (hP : prY N o r x q_ops q_rs q_xs) (hF : FD N o r x re sec dk ne bl kn) (hi : i < N) (C : post (ne i)) : wpY_meeting post (nI N, g_end, g_steps, g_outs, q_ops, q_rs, q_xs, q_known, q_regs, q_row, q_rows, q_lengths) (nI i) :=
  yMt hG hP hi (fun v hv => by rw [NA_u hv (hF.2.1 i hi)]; exact C)
theorem yQu {post : Int32 → Prop} {q b : Nat} (hG : PG N o r x) (hP : prY N o r x q_ops q_rs q_xs) (hF : FD N o r x re sec dk ne bl kn) (hq : q < N) (hb : b < N) (C : post ((bl b >>> (nI q &&& 31)) &&& 1)) : wpY_under post (nI N, g_end, g_steps, g_outs, q_ops, q_rs, q_xs, q_known, q_regs, q_row, q_rows, q_lengths) (nI q) (nI b) := by
  unfold wpY_under
  dsimp only
  refine yNP hG.2.1 (fun _ => br_t rfl (yNP hG.2.1 (fun _ => br_t rfl (yU hG hP hb (fun u hu => ?_))) (fun z => absurd ⟨b, hb, rfl⟩ z))) (fun z => absurd ⟨q, hq, rfl⟩ z)
  rw [UB_u hu (hF.2.2.1 b hb)]
  exact C
theorem yQk {post : Int32 → SY → Prop} {i p : Nat} (hG : PG N o r x) (hP : prY N o r x q_ops q_rs q_xs) (hF : FD N o r x re sec dk ne bl kn) (hi : i < N) (hp : p < 4) (C : ∀ a, post ((kn i >>> (nI p &&& 31)) &&& 1) (nI N, g_end, g_steps, g_outs, q_ops, q_rs, q_xs, a, q_regs, q_row, q_rows, q_lengths)) : wpY_knows post (nI N, g_end, g_steps, g_outs, q_ops, q_rs, q_xs, q_known, q_regs, q_row, q_rows, q_lengths) (nI i) (nI p) := by
  have h16 := hG.2.1
  obtain ⟨h1, h2, h3, T, hT, hk, hs, hd⟩ := hF
  unfold wpY_knows
  dsimp only
  refine yNP h16 (fun _ => br_t rfl (ySl (fun z => absurd ⟨p, hp, rfl⟩ z) (fun _ => br_f (by decide) (yFK hG hP h1 h3 hT (fun a ha => ⟨vp_in_nI (by omega) (by omega), ?_⟩))))) (fun z => absurd ⟨i, hi, rfl⟩ z)
  dsimp only
  rw [nI_clamp (by omega), ha i (by omega), ← hk i (by omega)]
  exact C a
theorem yQs {post : Int32 → SY → Prop} {i : Nat} (hG : PG N o r x) (hP : prY N o r x q_ops q_rs q_xs) (hF : FD N o r x re sec dk ne bl kn) (hi : i < N) (C : ∀ a, post ((sec >>> (nI i &&& 31)) &&& 1) (nI N, g_end, g_steps, g_outs, q_ops, q_rs, q_xs, a, q_regs, q_row, q_rows, q_lengths)) : wpY_secret post (nI N, g_end, g_steps, g_outs, q_ops, q_rs, q_xs, q_known, q_regs, q_row, q_rows, q_lengths) (nI i) := by
  have h16 := hG.2.1
  obtain ⟨h1, h2, h3, T, hT, hk, hs, hd⟩ := hF
  have e : bt sec i = sq o r re (ks N (nx N o x) o r x re bl T) i := by
    have k := scf_bt (Q := sq o r re (ks N (nx N o x) o r x re bl T)) (j := i) N (by omega)
    rw [← hs] at k
    cases z : bt sec i <;> cases z' : sq o r re (ks N (nx N o x) o r x re bl T) i
    · rfl
    · rw [k.mpr ⟨hi, z'⟩] at z; exact absurd z (by decide)
    · rw [(k.mp z).2] at z'; exact absurd z' (by decide)
    · rfl
  rw [sf_bI (by omega), e] at C
  unfold wpY_secret
  dsimp only
  refine yNP h16 (fun _ => br_t rfl (yFK hG hP h1 h3 hT (fun a ha => ?_))) (fun z => absurd ⟨i, hi, rfl⟩ z)
  rw [KD_fix N (nx N o x) o r x re bl hT] at ha
  refine yACr hG hP h1 (yIS hG hP hi (ha i (by omega)) (bI_br (fun z => ?_) (fun z => ?_)))
  · have C' := C a
    rw [z] at C'
    exact C'
  · have C' := C a
    rw [z] at C'
    exact C'
theorem yQb {post : Int32 → SY → Prop} (hG : PG N o r x) (hP : prY N o r x q_ops q_rs q_xs) (hF : FD N o r x re sec dk ne bl kn) (C : ∀ a, post (lb (bq o r re dk kn) N 0) (nI N, g_end, g_steps, g_outs, q_ops, q_rs, q_xs, a, q_regs, q_row, q_rows, q_lengths)) : wpY_bad post (nI N, g_end, g_steps, g_outs, q_ops, q_rs, q_xs, q_known, q_regs, q_row, q_rows, q_lengths) := by
  have h16 := hG.2.1
  obtain ⟨h1, h2, h3, T, hT, hk, hs, hd⟩ := hF
  unfold wpY_bad
  dsimp only
  refine yFK hG hP h1 h3 hT (fun a ha => ?_)
  have ha' := ha
  rw [KD_fix N (nx N o x) o r x re bl hT] at ha'
  refine yACr hG hP h1 (yUS (re := re) hG hP ha' h3 ⟨N + 1, ?_⟩)
  rw [← hd]
  have hk' : ∀ j, j ≤ N → a j = kn j := fun j hj => by rw [ha j hj, hk j hj]
  exact yl17 hG hP hk' N 0 (N + 1) (by omega) (by omega) (C a)
end
end
section
/-! the relation; the writes; the rest of the questions -/
/-- the relation: one program o r x of N places stands in both; what X keeps of it, if it says so, is what is true of it -/
def i_Rel (k : Nat) (u : SX) (v : SY) : Prop := match u, v with
  | (f_n, f_known, f_reached, f_ending, f_secrets, f_dark, f_ran, a_op, a_first, a_second, a_next, a_common, a_nearest, a_below, a_knowing, a_ends, a_stepsOf, a_outsOf, a_shown, a_value), (g_n, g_end, g_steps, g_outs, q_ops, q_rs, q_xs, q_known, q_regs, q_row, q_rows, q_lengths) => ∃ (N : Nat) (o r x : Nat → Nat), f_n = nI N ∧ g_n = nI N ∧ PG N o r x ∧ prX N o r x a_op a_first a_second ∧ prY N o r x q_ops q_rs q_xs ∧
    (f_known = 0 ∨ FD N o r x f_reached f_secrets f_dark a_nearest a_below a_knowing) ∧ (f_ran = 0 ∨ RD N o r x 16 a_ends a_stepsOf a_outsOf a_shown)
theorem rl_el {P : SX → SY → Prop} {k : Nat} {u : SX} {v : SY} (I : i_Rel k u v)
    (h : ∀ (f_known f_reached f_ending f_secrets f_dark f_ran : Int32) (a_op a_first a_second a_next a_common a_nearest a_below a_knowing a_ends a_stepsOf a_outsOf a_shown a_value : Nat → Int32) (g_end g_steps g_outs : Int32) (q_ops q_rs q_xs q_known q_regs q_row q_rows q_lengths : Nat → Int32) (N : Nat) (o r x : Nat → Nat), PG N o r x → prX N o r x a_op a_first a_second → prY N o r x q_ops q_rs q_xs →
      (f_known = 0 ∨ FD N o r x f_reached f_secrets f_dark a_nearest a_below a_knowing) → (f_ran = 0 ∨ RD N o r x 16 a_ends a_stepsOf a_outsOf a_shown) → P (nI N, f_known, f_reached, f_ending, f_secrets, f_dark, f_ran, a_op, a_first, a_second, a_next, a_common, a_nearest, a_below, a_knowing, a_ends, a_stepsOf, a_outsOf, a_shown, a_value) (nI N, g_end, g_steps, g_outs, q_ops, q_rs, q_xs, q_known, q_regs, q_row, q_rows, q_lengths)) : P u v := by
  obtain ⟨f_n, f_known, f_reached, f_ending, f_secrets, f_dark, f_ran, a_op, a_first, a_second, a_next, a_common, a_nearest, a_below, a_knowing, a_ends, a_stepsOf, a_outsOf, a_shown, a_value⟩ := u
  obtain ⟨g_n, g_end, g_steps, g_outs, q_ops, q_rs, q_xs, q_known, q_regs, q_row, q_rows, q_lengths⟩ := v
  obtain ⟨N, o, r, x, e1, e2, h1, h2, h3, h4, h5⟩ := I
  rw [e1, e2]
  exact h f_known f_reached f_ending f_secrets f_dark f_ran a_op a_first a_second a_next a_common a_nearest a_below a_knowing a_ends a_stepsOf a_outsOf a_shown a_value g_end g_steps g_outs q_ops q_rs q_xs q_known q_regs q_row q_rows q_lengths N o r x h1 h2 h3 h4 h5
theorem i_up {k : Nat} {u : SX} {v : SY} (h : i_Rel k u v) : i_Rel (k + 5) u v := h
section
variable {f_known f_reached f_ending f_secrets f_dark f_ran : Int32} {a_op a_first a_second a_next a_common a_nearest a_below a_knowing a_ends a_stepsOf a_outsOf a_shown a_value : Nat → Int32} {g_end g_steps g_outs : Int32} {q_ops q_rs q_xs q_known q_regs q_row q_rows q_lengths : Nat → Int32} {N k : Nat} {o r x : Nat → Nat}
theorem rl_mk (h1 : PG N o r x) (h2 : prX N o r x a_op a_first a_second) (h3 : prY N o r x q_ops q_rs q_xs)
    (h4 : f_known = 0 ∨ FD N o r x f_reached f_secrets f_dark a_nearest a_below a_knowing) (h5 : f_ran = 0 ∨ RD N o r x 16 a_ends a_stepsOf a_outsOf a_shown) : i_Rel k (nI N, f_known, f_reached, f_ending, f_secrets, f_dark, f_ran, a_op, a_first, a_second, a_next, a_common, a_nearest, a_below, a_knowing, a_ends, a_stepsOf, a_outsOf, a_shown, a_value) (nI N, g_end, g_steps, g_outs, q_ops, q_rs, q_xs, q_known, q_regs, q_row, q_rows, q_lengths) :=
  ⟨N, o, r, x, rfl, rfl, h1, h2, h3, h4, h5⟩
end
theorem i_vc0 : wpX_init (fun u => wpY_init (fun v => i_Rel 0 u v)) := by
  refine nm_r (e' := upd (fun _ => 0) 0 7) (by rw [show vp_nar .byte 7 = 7 by rw [vp_nar_byte]; decide]) (nm_e ?_)
  refine rl_mk (N := 1) (o := fun _ => 7) (r := fun _ => 0) (x := fun _ => 0) ⟨by decide, by decide, fun i _ => ⟨(by decide : (7 : Nat) ≤ 7), (by decide : (0 : Nat) < 4), (by decide : (0 : Nat) ≤ 16), fun z => absurd z (by decide : ¬ (7 : Nat) ≤ 3)⟩⟩ (fun i hi => ?_) (fun i hi => ?_) (Or.inl rfl) (Or.inl rfl)
  · have : i = 0 := by omega
    subst this
    exact ⟨pk_us, rfl, rfl⟩
  · have : i = 0 := by omega
    subst this
    exact ⟨pk_us, fun z => rfl, fun z => rfl⟩
section
variable {f_known f_reached f_ending f_secrets f_dark f_ran : Int32} {a_op a_first a_second a_next a_common a_nearest a_below a_knowing a_ends a_stepsOf a_outsOf a_shown a_value : Nat → Int32} {g_end g_steps g_outs : Int32} {q_ops q_rs q_xs q_known q_regs q_row q_rows q_lengths : Nat → Int32} {N : Nat} {o r x : Nat → Nat}
theorem xPut {post : Int32 → SX → Prop} {v1 v2 v3 : Int32} (hG : PG N o r x) (hb : ¬ GD v1 v2 v3 → post (-1) (nI N, f_known, f_reached, f_ending, f_secrets, f_dark, f_ran, a_op, a_first, a_second, a_next, a_common, a_nearest, a_below, a_knowing, a_ends, a_stepsOf, a_outsOf, a_shown, a_value)) (hf : GD v1 v2 v3 → N = 16 → post (-2) (nI N, f_known, f_reached, f_ending, f_secrets, f_dark, f_ran, a_op, a_first, a_second, a_next, a_common, a_nearest, a_below, a_knowing, a_ends, a_stepsOf, a_outsOf, a_shown, a_value))
    (hw : ∀ a b c : Nat, v1 = nI a → a ≤ 7 → b < 4 → c ≤ 16 → (a ≤ 3 → c < 4) → (a ≤ 4 ∨ a = 6 → v2 = nI b) → (a ≤ 3 ∨ a = 5 ∨ a = 6 → v3 = nI c) → N < 16 →
      post (nI N) (nI (N + 1), 0, f_reached, f_ending, f_secrets, f_dark, 0, upd a_op N (nI a), upd a_first N (nI b), upd a_second N (nI c), a_next, a_common, a_nearest, a_below, a_knowing, a_ends, a_stepsOf, a_outsOf, a_shown, a_value)) : wpX_put post (nI N, f_known, f_reached, f_ending, f_secrets, f_dark, f_ran, a_op, a_first, a_second, a_next, a_common, a_nearest, a_below, a_knowing, a_ends, a_stepsOf, a_outsOf, a_shown, a_value) v1 v2 v3 := by
  have h16 := hG.2.1
  unfold wpX_put
  dsimp only
  refine xBI (fun g => br_t rfl (pk_eq N 16 (fun e => hf g e) (fun e => ?_))) (fun g => br_f (by decide) (hb g))
  obtain ⟨a, b, c, rfl, p1, p2, p3, p4, p5, p6, p7, p8⟩ := gd_pick g
  refine xW (by omega) p1 p2 p3 p5 p6 p7 p8 (nm_r (nI_1 N) ?_)
  rw [nI_pred]
  exact hw a b c rfl p1 p2 p3 p4 p5 p7 (by omega)
theorem yPut {post : Int32 → SY → Prop} {v1 v2 v3 : Int32} (hG : PG N o r x) (hb : ¬ GD v1 v2 v3 → post (-1) (nI N, g_end, g_steps, g_outs, q_ops, q_rs, q_xs, q_known, q_regs, q_row, q_rows, q_lengths)) (hf : GD v1 v2 v3 → N = 16 → post (-2) (nI N, g_end, g_steps, g_outs, q_ops, q_rs, q_xs, q_known, q_regs, q_row, q_rows, q_lengths))
    (hw : GD v1 v2 v3 → N < 16 → post (nI N) (nI (N + 1), g_end, g_steps, g_outs, upd q_ops N v1, upd q_rs N v2, upd q_xs N v3, q_known, q_regs, q_row, q_rows, q_lengths)) : wpY_put post (nI N, g_end, g_steps, g_outs, q_ops, q_rs, q_xs, q_known, q_regs, q_row, q_rows, q_lengths) v1 v2 v3 := by
  have h16 := hG.2.1
  unfold wpY_put
  dsimp only
  refine yBI (fun g => br_t rfl (pk_eq N 16 (fun e => hf g e) (fun e => yW (by omega) (nm_r (nI_1 N) ?_)))) (fun g => br_f (by decide) (hb g))
  rw [nI_pred]
  exact hw g (by omega)
theorem xSet {post : Int32 → SX → Prop} {v1 v2 v3 v4 : Int32} (hG : PG N o r x) (hn : ¬ INN N v1 → post (-4) (nI N, f_known, f_reached, f_ending, f_secrets, f_dark, f_ran, a_op, a_first, a_second, a_next, a_common, a_nearest, a_below, a_knowing, a_ends, a_stepsOf, a_outsOf, a_shown, a_value)) (hb : INN N v1 → ¬ GD v2 v3 v4 → post (-1) (nI N, f_known, f_reached, f_ending, f_secrets, f_dark, f_ran, a_op, a_first, a_second, a_next, a_common, a_nearest, a_below, a_knowing, a_ends, a_stepsOf, a_outsOf, a_shown, a_value))
    (hw : ∀ i a b c : Nat, i < N → v1 = nI i → v2 = nI a → a ≤ 7 → b < 4 → c ≤ 16 → (a ≤ 3 → c < 4) → (a ≤ 4 ∨ a = 6 → v3 = nI b) → (a ≤ 3 ∨ a = 5 ∨ a = 6 → v4 = nI c) → GD v2 v3 v4 →
      post 0 (nI N, 0, f_reached, f_ending, f_secrets, f_dark, 0, upd a_op i (nI a), upd a_first i (nI b), upd a_second i (nI c), a_next, a_common, a_nearest, a_below, a_knowing, a_ends, a_stepsOf, a_outsOf, a_shown, a_value)) : wpX_set post (nI N, f_known, f_reached, f_ending, f_secrets, f_dark, f_ran, a_op, a_first, a_second, a_next, a_common, a_nearest, a_below, a_knowing, a_ends, a_stepsOf, a_outsOf, a_shown, a_value) v1 v2 v3 v4 := by
  have h16 := hG.2.1
  unfold wpX_set
  dsimp only
  refine xBP h16 (fun z => br_t rfl (xBI (fun g => br_t rfl ?_) (fun g => br_f (by decide) (hb z g)))) (fun z => br_f (by decide) (hn z))
  have g' := g
  obtain ⟨i, hi, rfl⟩ := z
  obtain ⟨a, b, c, rfl, p1, p2, p3, p4, p5, p6, p7, p8⟩ := gd_pick g
  exact xW (by omega) p1 p2 p3 p5 p6 p7 p8 (hw i a b c hi rfl rfl p1 p2 p3 p4 p5 p7 g')
theorem ySet {post : Int32 → SY → Prop} {v1 v2 v3 v4 : Int32} (hG : PG N o r x) (hn : ¬ INN N v1 → post (-4) (nI N, g_end, g_steps, g_outs, q_ops, q_rs, q_xs, q_known, q_regs, q_row, q_rows, q_lengths)) (hb : INN N v1 → ¬ GD v2 v3 v4 → post (-1) (nI N, g_end, g_steps, g_outs, q_ops, q_rs, q_xs, q_known, q_regs, q_row, q_rows, q_lengths))
    (hw : ∀ i : Nat, i < N → v1 = nI i → GD v2 v3 v4 → post 0 (nI N, g_end, g_steps, g_outs, upd q_ops i v2, upd q_rs i v3, upd q_xs i v4, q_known, q_regs, q_row, q_rows, q_lengths)) : wpY_set post (nI N, g_end, g_steps, g_outs, q_ops, q_rs, q_xs, q_known, q_regs, q_row, q_rows, q_lengths) v1 v2 v3 v4 := by
  have h16 := hG.2.1
  unfold wpY_set
  dsimp only
  refine yNP h16 (fun z => br_t rfl (yBI (fun g => br_t rfl ?_) (fun g => br_f (by decide) (hb z g)))) (fun z => br_f (by decide) (hn z))
  obtain ⟨i, hi, rfl⟩ := z
  exact yW (by omega) (hw i hi rfl g)
/-! runs asked -/
theorem yQr {post : Int32 → SY → Prop} {p s : Nat} (hG : PG N o r x) (hP : prY N o r x q_ops q_rs q_xs) (hp : p < 4) (hs : s < 4)
    (C : ∀ (e1 e2 e3 : Int32) (vv rw' : Nat → Int32), post (bI (!rD N o r x (4 * p + s))) (nI N, e1, e2, e3, q_ops, q_rs, q_xs, q_known, vv, rw', q_rows, q_lengths)) : wpY_run post (nI N, g_end, g_steps, g_outs, q_ops, q_rs, q_xs, q_known, q_regs, q_row, q_rows, q_lengths) (nI p) (nI s) := by
  unfold wpY_run
  dsimp only
  exact yNN (fun _ _ => br_t rfl (yDR hG hP hp hs (fun vv rw' _ => C _ _ _ vv rw'))) (fun z => absurd ⟨⟨p, hp, rfl⟩, ⟨s, hs, rfl⟩⟩ z)
theorem yQt {post : Int32 → SY → Prop} {p s : Nat} (hG : PG N o r x) (hP : prY N o r x q_ops q_rs q_xs) (hp : p < 4) (hs : s < 4)
    (C : ∀ (e1 e2 e3 : Int32) (vv rw' : Nat → Int32), post (nI (RU N o r x (4 * p + s)).1) (nI N, e1, e2, e3, q_ops, q_rs, q_xs, q_known, vv, rw', q_rows, q_lengths)) : wpY_steps post (nI N, g_end, g_steps, g_outs, q_ops, q_rs, q_xs, q_known, q_regs, q_row, q_rows, q_lengths) (nI p) (nI s) := by
  unfold wpY_steps
  dsimp only
  exact yNN (fun _ _ => br_t rfl (yDR hG hP hp hs (fun vv rw' _ => C _ _ _ vv rw'))) (fun z => absurd ⟨⟨p, hp, rfl⟩, ⟨s, hs, rfl⟩⟩ z)
theorem yQo {post : Int32 → SY → Prop} {p s : Nat} (hG : PG N o r x) (hP : prY N o r x q_ops q_rs q_xs) (hp : p < 4) (hs : s < 4)
    (C : ∀ (e1 e2 e3 : Int32) (vv rw' : Nat → Int32), post (nI (RU N o r x (4 * p + s)).2.2.1) (nI N, e1, e2, e3, q_ops, q_rs, q_xs, q_known, vv, rw', q_rows, q_lengths)) : wpY_outs post (nI N, g_end, g_steps, g_outs, q_ops, q_rs, q_xs, q_known, q_regs, q_row, q_rows, q_lengths) (nI p) (nI s) := by
  unfold wpY_outs
  dsimp only
  exact yNN (fun _ _ => br_t rfl (yDR hG hP hp hs (fun vv rw' _ => C _ _ _ vv rw'))) (fun z => absurd ⟨⟨p, hp, rfl⟩, ⟨s, hs, rfl⟩⟩ z)
def oA (c : Nat) (w : Nat → Nat) (v : Int32) : Int32 := if v < 0 then -4 else if v.toNatClampNeg < c then nI (w v.toNatClampNeg) else -4
theorem yQq {post : Int32 → SY → Prop} {p s : Nat} {v : Int32} (hG : PG N o r x) (hP : prY N o r x q_ops q_rs q_xs) (hp : p < 4) (hs : s < 4)
    (C : ∀ (e1 e2 e3 : Int32) (vv rw' : Nat → Int32), post (oA (RU N o r x (4 * p + s)).2.2.1 (RU N o r x (4 * p + s)).2.2.2 v) (nI N, e1, e2, e3, q_ops, q_rs, q_xs, q_known, vv, rw', q_rows, q_lengths)) : wpY_out post (nI N, g_end, g_steps, g_outs, q_ops, q_rs, q_xs, q_known, q_regs, q_row, q_rows, q_lengths) (nI p) (nI s) v := by
  have u1 := (RU_b N o r x (4 * p + s)).2.2
  unfold wpY_out
  dsimp only
  refine yNN (fun _ _ => br_t rfl (yDR hG hP hp hs (fun vv rw' hR => br_c (fun h => ?_) (fun h => ?_)))) (fun z => absurd ⟨⟨p, hp, rfl⟩, ⟨s, hs, rfl⟩⟩ z)
  · unfold oA at C
    rw [if_pos h] at C
    exact C _ _ _ vv rw'
  · unfold oA at C
    rw [if_neg h] at C
    obtain ⟨j, hj, rfl⟩ := nI_of h
    rw [nI_clamp hj] at C
    refine pk_lt j (RU N o r x (4 * p + s)).2.2.1 (fun hl => ⟨vp_in_nI (by omega) (by omega), ?_⟩) (fun hl => ?_)
    · rw [if_pos hl] at C
      dsimp only
      rw [nI_clamp hj, hR j hl]
      exact C _ _ _ vv rw'
    · rw [if_neg (by omega)] at C
      exact C _ _ _ vv rw'
theorem xQq {post : Int32 → Prop} {k c : Nat} {w : Nat → Nat} {ou sh : Nat → Int32} {v : Int32} (hk : k < 16) (hc : c ≤ 60) (ho : ou k = nI c) (hs : ∀ i, i < c → sh (60 * k + i) = nI (w i)) (C : post (oA c w v)) :
    (v < 0 → post (-4)) ∧ (¬ v < 0 → vp_in (nI k) 16 ∧ ((v < ou (nI k).toNatClampNeg → vp_in (60 * nI k + v) 960 ∧ post (sh (60 * nI k + v).toNatClampNeg)) ∧ (¬ v < ou (nI k).toNatClampNeg → post (-4)))) := by
  rw [nI_clamp (n := k) (by omega), ho]
  unfold oA at C
  refine br_c (fun h => ?_) (fun h => ⟨vp_in_nI hk (by omega), ?_⟩)
  · rw [if_pos h] at C; exact C
  · rw [if_neg h] at C
    obtain ⟨j, hj, rfl⟩ := nI_of h
    rw [nI_clamp hj] at C
    refine pk_lt j c (fun hl => ?_) (fun hl => ?_)
    · rw [if_pos hl] at C
      have e1 : (60 : Int32) * nI k + nI j = nI (60 * k + j) := by rw [show (60 : Int32) = nI 60 from rfl, pk_mul, nI_add]
      rw [e1, nI_clamp (n := 60 * k + j) (by omega), hs j hl]
      exact ⟨vp_in_nI (by omega) (by omega), C⟩
    · rw [if_neg (by omega)] at C; exact C
theorem yQh {post : Int32 → SY → Prop} {p : Nat} (hG : PG N o r x) (hP : prY N o r x q_ops q_rs q_xs) (hp : p < 4)
    (C : ∀ (e1 e2 e3 : Int32) (vv rw' ro le : Nat → Int32), post (nI (nsh N o r x p 4)) (nI N, e1, e2, e3, q_ops, q_rs, q_xs, q_known, vv, rw', ro, le)) : wpY_shows post (nI N, g_end, g_steps, g_outs, q_ops, q_rs, q_xs, q_known, q_regs, q_row, q_rows, q_lengths) (nI p) := by
  unfold wpY_shows
  dsimp only
  exact ySl (fun z => absurd ⟨p, hp, rfl⟩ z) (fun _ => br_f (by decide) (ySW hG hP hp C))
end
end
section
/-! what is owed, method by method -/
theorem i_vc_put {k : Nat} {u : SX} {v : SY} (I : i_Rel k u v) (hk : k + 5 ≤ 2560) (v1 : Int32) (v2 : Int32) (v3 : Int32) : wpX_put (fun r u' => wpY_put (fun r' v' => r' = r ∧ i_Rel (k + 5) u' v') v v1 v2 v3) u v1 v2 v3 := by
  refine rl_el (P := fun u v => wpX_put (fun r u' => wpY_put (fun r' v' => r' = r ∧ i_Rel (k + 5) u' v') v v1 v2 v3) u v1 v2 v3) I ?_
  intro f_known f_reached f_ending f_secrets f_dark f_ran a_op a_first a_second a_next a_common a_nearest a_below a_knowing a_ends a_stepsOf a_outsOf a_shown a_value g_end g_steps g_outs q_ops q_rs q_xs q_known q_regs q_row q_rows q_lengths N o r x hG hX hY hk hr
  have h16 := hG.2.1
  refine xPut hG (fun g => yPut hG (fun _ => ⟨rfl, rl_mk hG hX hY hk hr⟩) (fun z => absurd z g) (fun z => absurd z g)) (fun g e => yPut hG (fun z => absurd g z) (fun _ _ => ⟨rfl, rl_mk hG hX hY hk hr⟩) (fun _ z => by omega)) (fun a b c e1 p1 p2 p3 p4 p5 p6 hN => ?_)
  subst e1
  have g : GD (nI a) v2 v3 := ⟨a, p1, rfl, fun z => ⟨b, p2, p5 z⟩, fun z => ⟨c, p4 z, p6 (Or.inl z)⟩, fun z => ⟨c, p3, p6 (Or.inr z)⟩⟩
  refine yPut hG (fun z => absurd g z) (fun _ z => by omega) (fun _ _ => ⟨rfl, ?_⟩)
  exact rl_mk (pg_w (i := N) hG (by omega) (by omega) (fun j h1 h2 => by omega) p1 p2 p3 p4) (px_w hX (fun j h1 h2 => by omega)) (py_w hY (fun j h1 h2 => by omega) p5 p6) (Or.inl rfl) (Or.inl rfl)
theorem i_vc_set {k : Nat} {u : SX} {v : SY} (I : i_Rel k u v) (hk : k + 5 ≤ 2560) (v1 : Int32) (v2 : Int32) (v3 : Int32) (v4 : Int32) : wpX_set (fun r u' => wpY_set (fun r' v' => r' = r ∧ i_Rel (k + 5) u' v') v v1 v2 v3 v4) u v1 v2 v3 v4 := by
  refine rl_el (P := fun u v => wpX_set (fun r u' => wpY_set (fun r' v' => r' = r ∧ i_Rel (k + 5) u' v') v v1 v2 v3 v4) u v1 v2 v3 v4) I ?_
  intro f_known f_reached f_ending f_secrets f_dark f_ran a_op a_first a_second a_next a_common a_nearest a_below a_knowing a_ends a_stepsOf a_outsOf a_shown a_value g_end g_steps g_outs q_ops q_rs q_xs q_known q_regs q_row q_rows q_lengths N o r x hG hX hY hk hr
  have h16 := hG.2.1
  refine xSet hG (fun z => ySet hG (fun _ => ⟨rfl, rl_mk hG hX hY hk hr⟩) (fun y => absurd y z) (fun i hi e => absurd ⟨i, hi, e⟩ z)) (fun z g => ySet hG (fun y => absurd z y) (fun _ _ => ⟨rfl, rl_mk hG hX hY hk hr⟩) (fun i hi e y => absurd y g)) (fun i a b c hi e0 e1 p1 p2 p3 p4 p5 p6 g => ?_)
  subst e0 e1
  refine ySet hG (fun z => absurd ⟨i, hi, rfl⟩ z) (fun _ z => absurd g z) (fun i' hi' e _ => ?_)
  rw [nI_eq (by omega) (by omega)] at e
  subst e
  exact ⟨rfl, rl_mk (pg_w (i := i) hG hG.1 h16 (fun j h1 h2 => h1) p1 p2 p3 p4) (px_w hX (fun j h1 h2 => h1)) (py_w hY (fun j h1 h2 => h1) p5 p6) (Or.inl rfl) (Or.inl rfl)⟩
theorem i_vc_clear {k : Nat} {u : SX} {v : SY} (I : i_Rel k u v) (hk : k + 5 ≤ 2560) : wpX_clear (fun r u' => wpY_clear (fun r' v' => r' = r ∧ i_Rel (k + 5) u' v') v) u := by
  refine rl_el (P := fun u v => wpX_clear (fun r u' => wpY_clear (fun r' v' => r' = r ∧ i_Rel (k + 5) u' v') v) u) I ?_
  intro f_known f_reached f_ending f_secrets f_dark f_ran a_op a_first a_second a_next a_common a_nearest a_below a_knowing a_ends a_stepsOf a_outsOf a_shown a_value g_end g_steps g_outs q_ops q_rs q_xs q_known q_regs q_row q_rows q_lengths N o r x hG hX hY hk hr
  unfold wpX_clear
  dsimp only
  refine xW (i := 0) (a := 7) (b := 0) (c := 0) (by decide) (by decide) (by decide) (by decide) (fun _ => rfl) (fun _ => rfl) (fun _ => rfl) (fun _ => rfl) ?_
  unfold wpY_clear
  dsimp only
  refine yW (i := 0) (by decide) ⟨rfl, ?_⟩
  have hj : ∀ j, j < 1 → j ≠ 0 → j < N := fun j h1 h2 => by omega
  exact rl_mk (N := 1) (pg_w (i := 0) (a := 7) (b := 0) (c := 0) hG (by decide) (by decide) hj (by decide) (by decide) (by decide) (fun z => absurd z (by decide))) (px_w hX hj) (py_w hY hj (fun _ => rfl) (fun _ => rfl)) (Or.inl rfl) (Or.inl rfl)
theorem i_vc_size {k : Nat} {u : SX} {v : SY} (I : i_Rel k u v) (hk : k + 5 ≤ 2560) : wpX_size (fun r => wpY_size (fun r' => r' = r ∧ i_Rel (k + 5) u v) v) u := by
  refine rl_el (P := fun u v => wpX_size (fun r => wpY_size (fun r' => r' = r ∧ i_Rel (k + 5) u v) v) u) I ?_
  intro f_known f_reached f_ending f_secrets f_dark f_ran a_op a_first a_second a_next a_common a_nearest a_below a_knowing a_ends a_stepsOf a_outsOf a_shown a_value g_end g_steps g_outs q_ops q_rs q_xs q_known q_regs q_row q_rows q_lengths N o r x hG hX hY hk hr
  exact ⟨rfl, rl_mk hG hX hY hk hr⟩
theorem i_vc_comeTo {k : Nat} {u : SX} {v : SY} (I : i_Rel k u v) (hk : k + 5 ≤ 2560) (v1 : Int32) : wpX_comeTo (fun r u' => wpY_comeTo (fun r' => r' = r ∧ i_Rel (k + 5) u' v) v v1) u v1 := by
  refine rl_el (P := fun u v => wpX_comeTo (fun r u' => wpY_comeTo (fun r' => r' = r ∧ i_Rel (k + 5) u' v) v v1) u v1) I ?_
  intro f_known f_reached f_ending f_secrets f_dark f_ran a_op a_first a_second a_next a_common a_nearest a_below a_knowing a_ends a_stepsOf a_outsOf a_shown a_value g_end g_steps g_outs q_ops q_rs q_xs q_known q_regs q_row q_rows q_lengths N o r x hG hX hY hk hr
  have h16 := hG.2.1
  unfold wpX_comeTo
  dsimp only
  refine xBP h16 (fun h => br_t rfl ?_) (fun h => br_f (by decide) ?_)
  · obtain ⟨i, hi, rfl⟩ := h
    exact xFind hG hX hk (fun hF => yQc hG hY hF hi ⟨rfl, rl_mk hG hX hY (Or.inr hF) hr⟩) (fun re en sec dk nt co ne bl kn hF => yQc hG hY hF hi ⟨rfl, rl_mk hG hX hY (Or.inr hF) hr⟩)
  · unfold wpY_comeTo
    dsimp only
    exact yNP h16 (fun z => absurd z h) (fun _ => br_f (by decide) ⟨rfl, rl_mk hG hX hY hk hr⟩)
theorem i_vc_meeting {k : Nat} {u : SX} {v : SY} (I : i_Rel k u v) (hk : k + 5 ≤ 2560) (v1 : Int32) : wpX_meeting (fun r u' => wpY_meeting (fun r' => r' = r ∧ i_Rel (k + 5) u' v) v v1) u v1 := by
  refine rl_el (P := fun u v => wpX_meeting (fun r u' => wpY_meeting (fun r' => r' = r ∧ i_Rel (k + 5) u' v) v v1) u v1) I ?_
  intro f_known f_reached f_ending f_secrets f_dark f_ran a_op a_first a_second a_next a_common a_nearest a_below a_knowing a_ends a_stepsOf a_outsOf a_shown a_value g_end g_steps g_outs q_ops q_rs q_xs q_known q_regs q_row q_rows q_lengths N o r x hG hX hY hk hr
  have h16 := hG.2.1
  unfold wpX_meeting
  dsimp only
  refine xBP h16 (fun h => br_t rfl ?_) (fun h => br_f (by decide) ?_)
  · obtain ⟨i, hi, rfl⟩ := h
    have c : (nI i).toNatClampNeg = i := nI_clamp (by omega)
    have v : vp_in (nI i) 16 := vp_in_nI (by omega) (by omega)
    rw [c]
    exact xFind hG hX hk (fun hF => ⟨v, yQm hG hY hF hi ⟨rfl, rl_mk hG hX hY (Or.inr hF) hr⟩⟩) (fun re en sec dk nt co ne bl kn hF => ⟨v, yQm hG hY hF hi ⟨rfl, rl_mk hG hX hY (Or.inr hF) hr⟩⟩)
  · unfold wpY_meeting
    dsimp only
    exact yNP h16 (fun z => absurd z h) (fun _ => br_f (by decide) ⟨rfl, rl_mk hG hX hY hk hr⟩)
theorem i_vc_under {k : Nat} {u : SX} {v : SY} (I : i_Rel k u v) (hk : k + 5 ≤ 2560) (v1 : Int32) (v2 : Int32) : wpX_under (fun r u' => wpY_under (fun r' => r' = r ∧ i_Rel (k + 5) u' v) v v1 v2) u v1 v2 := by
  refine rl_el (P := fun u v => wpX_under (fun r u' => wpY_under (fun r' => r' = r ∧ i_Rel (k + 5) u' v) v v1 v2) u v1 v2) I ?_
  intro f_known f_reached f_ending f_secrets f_dark f_ran a_op a_first a_second a_next a_common a_nearest a_below a_knowing a_ends a_stepsOf a_outsOf a_shown a_value g_end g_steps g_outs q_ops q_rs q_xs q_known q_regs q_row q_rows q_lengths N o r x hG hX hY hk hr
  have h16 := hG.2.1
  have bad : ¬ (INN N v1 ∧ INN N v2) → wpY_under (fun r' => r' = -1 ∧ i_Rel (k + 5) (nI N, f_known, f_reached, f_ending, f_secrets, f_dark, f_ran, a_op, a_first, a_second, a_next, a_common, a_nearest, a_below, a_knowing, a_ends, a_stepsOf, a_outsOf, a_shown, a_value) (nI N, g_end, g_steps, g_outs, q_ops, q_rs, q_xs, q_known, q_regs, q_row, q_rows, q_lengths)) (nI N, g_end, g_steps, g_outs, q_ops, q_rs, q_xs, q_known, q_regs, q_row, q_rows, q_lengths) v1 v2 := by
    intro h
    unfold wpY_under
    dsimp only
    exact yNP h16 (fun z => br_t rfl (yNP h16 (fun z' => absurd ⟨z, z'⟩ h) (fun _ => br_f (by decide) ⟨rfl, rl_mk hG hX hY hk hr⟩))) (fun _ => br_f (by decide) ⟨rfl, rl_mk hG hX hY hk hr⟩)
  unfold wpX_under
  dsimp only
  refine xBP h16 (fun h => br_t rfl (xBP h16 (fun h' => br_t rfl ?_) (fun h' => br_f (by decide) (bad (fun z => h' z.2))))) (fun h => br_f (by decide) (bad (fun z => h z.1)))
  obtain ⟨q, hq, rfl⟩ := h
  obtain ⟨b, hb, rfl⟩ := h'
  have c : (nI b).toNatClampNeg = b := nI_clamp (by omega)
  have v : vp_in (nI b) 16 := vp_in_nI (by omega) (by omega)
  rw [c]
  exact xFind hG hX hk (fun hF => ⟨v, yQu hG hY hF hq hb ⟨rfl, rl_mk hG hX hY (Or.inr hF) hr⟩⟩) (fun re en sec dk nt co ne bl kn hF => ⟨v, yQu hG hY hF hq hb ⟨rfl, rl_mk hG hX hY (Or.inr hF) hr⟩⟩)
theorem i_vc_knows {k : Nat} {u : SX} {v : SY} (I : i_Rel k u v) (hk : k + 5 ≤ 2560) (v1 : Int32) (v2 : Int32) : wpX_knows (fun r u' => wpY_knows (fun r' v' => r' = r ∧ i_Rel (k + 5) u' v') v v1 v2) u v1 v2 := by
  refine rl_el (P := fun u v => wpX_knows (fun r u' => wpY_knows (fun r' v' => r' = r ∧ i_Rel (k + 5) u' v') v v1 v2) u v1 v2) I ?_
  intro f_known f_reached f_ending f_secrets f_dark f_ran a_op a_first a_second a_next a_common a_nearest a_below a_knowing a_ends a_stepsOf a_outsOf a_shown a_value g_end g_steps g_outs q_ops q_rs q_xs q_known q_regs q_row q_rows q_lengths N o r x hG hX hY hk hr
  have h16 := hG.2.1
  have bad : ¬ (INN N v1 ∧ S4 v2) → wpY_knows (fun r' v' => r' = -1 ∧ i_Rel (k + 5) (nI N, f_known, f_reached, f_ending, f_secrets, f_dark, f_ran, a_op, a_first, a_second, a_next, a_common, a_nearest, a_below, a_knowing, a_ends, a_stepsOf, a_outsOf, a_shown, a_value) v') (nI N, g_end, g_steps, g_outs, q_ops, q_rs, q_xs, q_known, q_regs, q_row, q_rows, q_lengths) v1 v2 := by
    intro h
    unfold wpY_knows
    dsimp only
    exact yNP h16 (fun z => br_t rfl (ySl (fun _ => br_t rfl ⟨rfl, rl_mk hG hX hY hk hr⟩) (fun z' => absurd ⟨z, z'⟩ h))) (fun _ => br_f (by decide) ⟨rfl, rl_mk hG hX hY hk hr⟩)
  unfold wpX_knows
  dsimp only
  refine xBP h16 (fun h => br_t rfl (xBN (fun h' => br_t rfl ?_) (fun h' => br_f (by decide) (bad (fun z => h' z.2))))) (fun h => br_f (by decide) (bad (fun z => h z.1)))
  obtain ⟨i, hi, rfl⟩ := h
  obtain ⟨p, hp, rfl⟩ := h'
  have c : (nI i).toNatClampNeg = i := nI_clamp (by omega)
  have v : vp_in (nI i) 17 := vp_in_nI (by omega) (by omega)
  rw [c]
  exact xFind hG hX hk (fun hF => ⟨v, yQk hG hY hF hi hp (fun a => ⟨rfl, rl_mk hG hX hY (Or.inr hF) hr⟩)⟩) (fun re en sec dk nt co ne bl kn hF => ⟨v, yQk hG hY hF hi hp (fun a => ⟨rfl, rl_mk hG hX hY (Or.inr hF) hr⟩)⟩)
theorem i_vc_secret {k : Nat} {u : SX} {v : SY} (I : i_Rel k u v) (hk : k + 5 ≤ 2560) (v1 : Int32) : wpX_secret (fun r u' => wpY_secret (fun r' v' => r' = r ∧ i_Rel (k + 5) u' v') v v1) u v1 := by
  refine rl_el (P := fun u v => wpX_secret (fun r u' => wpY_secret (fun r' v' => r' = r ∧ i_Rel (k + 5) u' v') v v1) u v1) I ?_
  intro f_known f_reached f_ending f_secrets f_dark f_ran a_op a_first a_second a_next a_common a_nearest a_below a_knowing a_ends a_stepsOf a_outsOf a_shown a_value g_end g_steps g_outs q_ops q_rs q_xs q_known q_regs q_row q_rows q_lengths N o r x hG hX hY hk hr
  have h16 := hG.2.1
  unfold wpX_secret
  dsimp only
  refine xBP h16 (fun h => br_t rfl ?_) (fun h => br_f (by decide) ?_)
  · obtain ⟨i, hi, rfl⟩ := h
    exact xFind hG hX hk (fun hF => yQs hG hY hF hi (fun a => ⟨rfl, rl_mk hG hX hY (Or.inr hF) hr⟩)) (fun re en sec dk nt co ne bl kn hF => yQs hG hY hF hi (fun a => ⟨rfl, rl_mk hG hX hY (Or.inr hF) hr⟩))
  · unfold wpY_secret
    dsimp only
    exact yNP h16 (fun z => absurd z h) (fun _ => br_f (by decide) ⟨rfl, rl_mk hG hX hY hk hr⟩)
theorem i_vc_bad {k : Nat} {u : SX} {v : SY} (I : i_Rel k u v) (hk : k + 5 ≤ 2560) : wpX_bad (fun r u' => wpY_bad (fun r' v' => r' = r ∧ i_Rel (k + 5) u' v') v) u := by
  refine rl_el (P := fun u v => wpX_bad (fun r u' => wpY_bad (fun r' v' => r' = r ∧ i_Rel (k + 5) u' v') v) u) I ?_
  intro f_known f_reached f_ending f_secrets f_dark f_ran a_op a_first a_second a_next a_common a_nearest a_below a_knowing a_ends a_stepsOf a_outsOf a_shown a_value g_end g_steps g_outs q_ops q_rs q_xs q_known q_regs q_row q_rows q_lengths N o r x hG hX hY hk hr
  unfold wpX_bad
  dsimp only
  exact xFind hG hX hk (fun hF => xLB (K := a_knowing) hG hX (fun j _ => rfl) (yQb hG hY hF (fun a => ⟨rfl, rl_mk hG hX hY (Or.inr hF) hr⟩)))
    (fun re en sec dk nt co ne bl kn hF => xLB (K := kn) hG hX (fun j _ => rfl) (yQb hG hY hF (fun a => ⟨rfl, rl_mk hG hX hY (Or.inr hF) hr⟩)))
theorem i_vc_safe {k : Nat} {u : SX} {v : SY} (I : i_Rel k u v) (hk : k + 5 ≤ 2560) : wpX_safe (fun r u' => wpY_safe (fun r' v' => r' = r ∧ i_Rel (k + 5) u' v') v) u := by
  refine rl_el (P := fun u v => wpX_safe (fun r u' => wpY_safe (fun r' v' => r' = r ∧ i_Rel (k + 5) u' v') v) u) I ?_
  intro f_known f_reached f_ending f_secrets f_dark f_ran a_op a_first a_second a_next a_common a_nearest a_below a_knowing a_ends a_stepsOf a_outsOf a_shown a_value g_end g_steps g_outs q_ops q_rs q_xs q_known q_regs q_row q_rows q_lengths N o r x hG hX hY hk hr
  unfold wpX_safe
  dsimp only
  have key : ∀ (R : SY → Prop) (re sec dk : Int32) (ne bl kn : Nat → Int32), FD N o r x re sec dk ne bl kn → (∀ a, R (nI N, g_end, g_steps, g_outs, q_ops, q_rs, q_xs, a, q_regs, q_row, q_rows, q_lengths)) → ∀ z : Int32, z = lb (bq o r re dk kn) N 0 → ∀ w : Int32, (z = -4 → w = 1) → (¬ z = -4 → w = 0) →
      wpY_safe (fun r' v' => r' = w ∧ R v') (nI N, g_end, g_steps, g_outs, q_ops, q_rs, q_xs, q_known, q_regs, q_row, q_rows, q_lengths) := by
    intro R re sec dk ne bl kn hF hR z ez w h1 h0
    unfold wpY_safe
    dsimp only
    refine yQb hG hY hF (fun a => ?_)
    rw [← ez]
    exact br_c (fun e => ⟨(h1 e).symm, hR a⟩) (fun e => ⟨(h0 e).symm, hR a⟩)
  exact xFind hG hX hk
    (fun hF => xLB (K := a_knowing) hG hX (fun j _ => rfl) (br_c (fun e => key _ _ _ _ _ _ _ hF (fun a => rl_mk hG hX hY (Or.inr hF) hr) _ rfl 1 (fun _ => rfl) (fun z => absurd e z)) (fun e => key _ _ _ _ _ _ _ hF (fun a => rl_mk hG hX hY (Or.inr hF) hr) _ rfl 0 (fun z => absurd z e) (fun _ => rfl))))
    (fun re en sec dk nt co ne bl kn hF => xLB (K := kn) hG hX (fun j _ => rfl) (br_c (fun e => key _ _ _ _ _ _ _ hF (fun a => rl_mk hG hX hY (Or.inr hF) hr) _ rfl 1 (fun _ => rfl) (fun z => absurd e z)) (fun e => key _ _ _ _ _ _ _ hF (fun a => rl_mk hG hX hY (Or.inr hF) hr) _ rfl 0 (fun z => absurd z e) (fun _ => rfl))))
theorem i_vc_run {k : Nat} {u : SX} {v : SY} (I : i_Rel k u v) (hk : k + 5 ≤ 2560) (v1 : Int32) (v2 : Int32) : wpX_run (fun r u' => wpY_run (fun r' v' => r' = r ∧ i_Rel (k + 5) u' v') v v1 v2) u v1 v2 := by
  refine rl_el (P := fun u v => wpX_run (fun r u' => wpY_run (fun r' v' => r' = r ∧ i_Rel (k + 5) u' v') v v1 v2) u v1 v2) I ?_
  intro f_known f_reached f_ending f_secrets f_dark f_ran a_op a_first a_second a_next a_common a_nearest a_below a_knowing a_ends a_stepsOf a_outsOf a_shown a_value g_end g_steps g_outs q_ops q_rs q_xs q_known q_regs q_row q_rows q_lengths N o r x hG hX hY hk hr
  have bad : ¬ (S4 v1 ∧ S4 v2) → wpY_run (fun r' v' => r' = -1 ∧ i_Rel (k + 5) (nI N, f_known, f_reached, f_ending, f_secrets, f_dark, f_ran, a_op, a_first, a_second, a_next, a_common, a_nearest, a_below, a_knowing, a_ends, a_stepsOf, a_outsOf, a_shown, a_value) v') (nI N, g_end, g_steps, g_outs, q_ops, q_rs, q_xs, q_known, q_regs, q_row, q_rows, q_lengths) v1 v2 := by
    intro h
    unfold wpY_run
    dsimp only
    exact yNN (fun z z' => absurd ⟨z, z'⟩ h) (fun _ => br_f (by decide) ⟨rfl, rl_mk hG hX hY hk hr⟩)
  unfold wpX_run
  dsimp only
  refine xBN (fun h => br_t rfl (xBN (fun h' => br_t rfl ?_) (fun h' => br_f (by decide) (bad (fun z => h' z.2))))) (fun h => br_f (by decide) (bad (fun z => h z.1)))
  obtain ⟨p, hp, rfl⟩ := h
  obtain ⟨s, hs, rfl⟩ := h'
  have e4 : (4 : Int32) * nI p + nI s = nI (4 * p + s) := by rw [show (4 : Int32) = nI 4 from rfl, pk_mul, nI_add]
  have v : vp_in (nI (4 * p + s)) 16 := vp_in_nI (by omega) (by omega)
  have h4 : 4 * p + s < 16 := by omega
  rw [e4, nI_clamp (n := 4 * p + s) (by omega)]
  exact xRA hG hX hr (fun hR => ⟨v, yQr hG hY hp hs (fun _ _ _ _ _ => ⟨(hR _ h4).1.symm, rl_mk hG hX hY hk (Or.inr hR)⟩)⟩) (fun en st ou sh vv hR => ⟨v, yQr hG hY hp hs (fun _ _ _ _ _ => ⟨(hR _ h4).1.symm, rl_mk hG hX hY hk (Or.inr hR)⟩)⟩)
theorem i_vc_steps {k : Nat} {u : SX} {v : SY} (I : i_Rel k u v) (hk : k + 5 ≤ 2560) (v1 : Int32) (v2 : Int32) : wpX_steps (fun r u' => wpY_steps (fun r' v' => r' = r ∧ i_Rel (k + 5) u' v') v v1 v2) u v1 v2 := by
  refine rl_el (P := fun u v => wpX_steps (fun r u' => wpY_steps (fun r' v' => r' = r ∧ i_Rel (k + 5) u' v') v v1 v2) u v1 v2) I ?_
  intro f_known f_reached f_ending f_secrets f_dark f_ran a_op a_first a_second a_next a_common a_nearest a_below a_knowing a_ends a_stepsOf a_outsOf a_shown a_value g_end g_steps g_outs q_ops q_rs q_xs q_known q_regs q_row q_rows q_lengths N o r x hG hX hY hk hr
  have bad : ¬ (S4 v1 ∧ S4 v2) → wpY_steps (fun r' v' => r' = -1 ∧ i_Rel (k + 5) (nI N, f_known, f_reached, f_ending, f_secrets, f_dark, f_ran, a_op, a_first, a_second, a_next, a_common, a_nearest, a_below, a_knowing, a_ends, a_stepsOf, a_outsOf, a_shown, a_value) v') (nI N, g_end, g_steps, g_outs, q_ops, q_rs, q_xs, q_known, q_regs, q_row, q_rows, q_lengths) v1 v2 := by
    intro h
    unfold wpY_steps
    dsimp only
    exact yNN (fun z z' => absurd ⟨z, z'⟩ h) (fun _ => br_f (by decide) ⟨rfl, rl_mk hG hX hY hk hr⟩)
  unfold wpX_steps
  dsimp only
  refine xBN (fun h => br_t rfl (xBN (fun h' => br_t rfl ?_) (fun h' => br_f (by decide) (bad (fun z => h' z.2))))) (fun h => br_f (by decide) (bad (fun z => h z.1)))
  obtain ⟨p, hp, rfl⟩ := h
  obtain ⟨s, hs, rfl⟩ := h'
  have e4 : (4 : Int32) * nI p + nI s = nI (4 * p + s) := by rw [show (4 : Int32) = nI 4 from rfl, pk_mul, nI_add]
  have v : vp_in (nI (4 * p + s)) 16 := vp_in_nI (by omega) (by omega)
  have h4 : 4 * p + s < 16 := by omega
  rw [e4, nI_clamp (n := 4 * p + s) (by omega)]
  exact xRA hG hX hr (fun hR => ⟨v, yQt hG hY hp hs (fun _ _ _ _ _ => ⟨(hR _ h4).2.1.symm, rl_mk hG hX hY hk (Or.inr hR)⟩)⟩) (fun en st ou sh vv hR => ⟨v, yQt hG hY hp hs (fun _ _ _ _ _ => ⟨(hR _ h4).2.1.symm, rl_mk hG hX hY hk (Or.inr hR)⟩)⟩)
theorem i_vc_outs {k : Nat} {u : SX} {v : SY} (I : i_Rel k u v) (hk : k + 5 ≤ 2560) (v1 : Int32) (v2 : Int32) : wpX_outs (fun r u' => wpY_outs (fun r' v' => r' = r ∧ i_Rel (k + 5) u' v') v v1 v2) u v1 v2 := by
  refine rl_el (P := fun u v => wpX_outs (fun r u' => wpY_outs (fun r' v' => r' = r ∧ i_Rel (k + 5) u' v') v v1 v2) u v1 v2) I ?_
  intro f_known f_reached f_ending f_secrets f_dark f_ran a_op a_first a_second a_next a_common a_nearest a_below a_knowing a_ends a_stepsOf a_outsOf a_shown a_value g_end g_steps g_outs q_ops q_rs q_xs q_known q_regs q_row q_rows q_lengths N o r x hG hX hY hk hr
  have bad : ¬ (S4 v1 ∧ S4 v2) → wpY_outs (fun r' v' => r' = -1 ∧ i_Rel (k + 5) (nI N, f_known, f_reached, f_ending, f_secrets, f_dark, f_ran, a_op, a_first, a_second, a_next, a_common, a_nearest, a_below, a_knowing, a_ends, a_stepsOf, a_outsOf, a_shown, a_value) v') (nI N, g_end, g_steps, g_outs, q_ops, q_rs, q_xs, q_known, q_regs, q_row, q_rows, q_lengths) v1 v2 := by
    intro h
    unfold wpY_outs
    dsimp only
    exact yNN (fun z z' => absurd ⟨z, z'⟩ h) (fun _ => br_f (by decide) ⟨rfl, rl_mk hG hX hY hk hr⟩)
  unfold wpX_outs
  dsimp only
  refine xBN (fun h => br_t rfl (xBN (fun h' => br_t rfl ?_) (fun h' => br_f (by decide) (bad (fun z => h' z.2))))) (fun h => br_f (by decide) (bad (fun z => h z.1)))
  obtain ⟨p, hp, rfl⟩ := h
  obtain ⟨s, hs, rfl⟩ := h'
  have e4 : (4 : Int32) * nI p + nI s = nI (4 * p + s) := by rw [show (4 : Int32) = nI 4 from rfl, pk_mul, nI_add]
  have v : vp_in (nI (4 * p + s)) 16 := vp_in_nI (by omega) (by omega)
  have h4 : 4 * p + s < 16 := by omega
  rw [e4, nI_clamp (n := 4 * p + s) (by omega)]
  exact xRA hG hX hr (fun hR => ⟨v, yQo hG hY hp hs (fun _ _ _ _ _ => ⟨(hR _ h4).2.2.1.symm, rl_mk hG hX hY hk (Or.inr hR)⟩)⟩) (fun en st ou sh vv hR => ⟨v, yQo hG hY hp hs (fun _ _ _ _ _ => ⟨(hR _ h4).2.2.1.symm, rl_mk hG hX hY hk (Or.inr hR)⟩)⟩)
theorem i_vc_out {k : Nat} {u : SX} {v : SY} (I : i_Rel k u v) (hk : k + 5 ≤ 2560) (v1 : Int32) (v2 : Int32) (v3 : Int32) : wpX_out (fun r u' => wpY_out (fun r' v' => r' = r ∧ i_Rel (k + 5) u' v') v v1 v2 v3) u v1 v2 v3 := by
  refine rl_el (P := fun u v => wpX_out (fun r u' => wpY_out (fun r' v' => r' = r ∧ i_Rel (k + 5) u' v') v v1 v2 v3) u v1 v2 v3) I ?_
  intro f_known f_reached f_ending f_secrets f_dark f_ran a_op a_first a_second a_next a_common a_nearest a_below a_knowing a_ends a_stepsOf a_outsOf a_shown a_value g_end g_steps g_outs q_ops q_rs q_xs q_known q_regs q_row q_rows q_lengths N o r x hG hX hY hk hr
  have bad : ¬ (S4 v1 ∧ S4 v2) → wpY_out (fun r' v' => r' = -1 ∧ i_Rel (k + 5) (nI N, f_known, f_reached, f_ending, f_secrets, f_dark, f_ran, a_op, a_first, a_second, a_next, a_common, a_nearest, a_below, a_knowing, a_ends, a_stepsOf, a_outsOf, a_shown, a_value) v') (nI N, g_end, g_steps, g_outs, q_ops, q_rs, q_xs, q_known, q_regs, q_row, q_rows, q_lengths) v1 v2 v3 := by
    intro h
    unfold wpY_out
    dsimp only
    exact yNN (fun z z' => absurd ⟨z, z'⟩ h) (fun _ => br_f (by decide) ⟨rfl, rl_mk hG hX hY hk hr⟩)
  unfold wpX_out
  dsimp only
  refine xBN (fun h => br_t rfl (xBN (fun h' => br_t rfl ?_) (fun h' => br_f (by decide) (bad (fun z => h' z.2))))) (fun h => br_f (by decide) (bad (fun z => h z.1)))
  obtain ⟨p, hp, rfl⟩ := h
  obtain ⟨s, hs, rfl⟩ := h'
  have e4 : (4 : Int32) * nI p + nI s = nI (4 * p + s) := by rw [show (4 : Int32) = nI 4 from rfl, pk_mul, nI_add]
  have h4 : 4 * p + s < 16 := by omega
  have u1 := (RU_b N o r x (4 * p + s)).2.2
  rw [e4]
  exact xRA hG hX hr (fun hR => nm_e (xQq (post := fun w => wpY_out (fun r' v' => r' = w ∧ i_Rel (k + 5) (nI N, f_known, f_reached, f_ending, f_secrets, f_dark, f_ran, a_op, a_first, a_second, a_next, a_common, a_nearest, a_below, a_knowing, a_ends, a_stepsOf, a_outsOf, a_shown, a_value) v') (nI N, g_end, g_steps, g_outs, q_ops, q_rs, q_xs, q_known, q_regs, q_row, q_rows, q_lengths) (nI p) (nI s) v3) h4 u1 (hR _ h4).2.2.1 (hR _ h4).2.2.2 (yQq hG hY hp hs (fun _ _ _ _ _ => ⟨rfl, rl_mk hG hX hY hk (Or.inr hR)⟩))))
    (fun en st ou sh vv hR => nm_e (xQq (post := fun w => wpY_out (fun r' v' => r' = w ∧ i_Rel (k + 5) (nI N, f_known, f_reached, f_ending, f_secrets, f_dark, 1, a_op, a_first, a_second, a_next, a_common, a_nearest, a_below, a_knowing, en, st, ou, sh, vv) v') (nI N, g_end, g_steps, g_outs, q_ops, q_rs, q_xs, q_known, q_regs, q_row, q_rows, q_lengths) (nI p) (nI s) v3) h4 u1 (hR _ h4).2.2.1 (hR _ h4).2.2.2 (yQq hG hY hp hs (fun _ _ _ _ _ => ⟨rfl, rl_mk hG hX hY hk (Or.inr hR)⟩))))
theorem i_vc_shows {k : Nat} {u : SX} {v : SY} (I : i_Rel k u v) (hk : k + 5 ≤ 2560) (v1 : Int32) : wpX_shows (fun r u' => wpY_shows (fun r' v' => r' = r ∧ i_Rel (k + 5) u' v') v v1) u v1 := by
  refine rl_el (P := fun u v => wpX_shows (fun r u' => wpY_shows (fun r' v' => r' = r ∧ i_Rel (k + 5) u' v') v v1) u v1) I ?_
  intro f_known f_reached f_ending f_secrets f_dark f_ran a_op a_first a_second a_next a_common a_nearest a_below a_knowing a_ends a_stepsOf a_outsOf a_shown a_value g_end g_steps g_outs q_ops q_rs q_xs q_known q_regs q_row q_rows q_lengths N o r x hG hX hY hk hr
  unfold wpX_shows
  dsimp only
  refine xBN (fun h => br_t rfl ?_) (fun h => br_f (by decide) ?_)
  · obtain ⟨p, hp, rfl⟩ := h
    exact xRA hG hX hr (fun hR => xDO hp hR (yQh hG hY hp (fun _ _ _ _ _ _ _ => ⟨rfl, rl_mk hG hX hY hk (Or.inr hR)⟩))) (fun en st ou sh vv hR => xDO hp hR (yQh hG hY hp (fun _ _ _ _ _ _ _ => ⟨rfl, rl_mk hG hX hY hk (Or.inr hR)⟩)))
  · unfold wpY_shows
    dsimp only
    exact ySl (fun _ => br_t rfl ⟨rfl, rl_mk hG hX hY hk hr⟩) (fun z => absurd z h)
theorem i_vc_leaks {k : Nat} {u : SX} {v : SY} (I : i_Rel k u v) (hk : k + 5 ≤ 2560) : wpX_leaks (fun r u' => wpY_leaks (fun r' v' => r' = r ∧ i_Rel (k + 5) u' v') v) u := by
  refine rl_el (P := fun u v => wpX_leaks (fun r u' => wpY_leaks (fun r' v' => r' = r ∧ i_Rel (k + 5) u' v') v) u) I ?_
  intro f_known f_reached f_ending f_secrets f_dark f_ran a_op a_first a_second a_next a_common a_nearest a_below a_knowing a_ends a_stepsOf a_outsOf a_shown a_value g_end g_steps g_outs q_ops q_rs q_xs q_known q_regs q_row q_rows q_lengths N o r x hG hX hY hk hr
  unfold wpX_leaks
  dsimp only
  exact xRA hG hX hr (fun hR => ⟨5, xl8 hR ⟨5, yl2 hG hY (fun _ _ _ _ _ _ _ => ⟨rfl, rl_mk hG hX hY hk (Or.inr hR)⟩) 5 0 _ _ _ _ _ _ _ (by decide) (by decide) rfl⟩ 5 0 (by decide) (by decide)⟩)
    (fun en st ou sh vv hR => ⟨5, xl8 hR ⟨5, yl2 hG hY (fun _ _ _ _ _ _ _ => ⟨rfl, rl_mk hG hX hY hk (Or.inr hR)⟩) 5 0 _ _ _ _ _ _ _ (by decide) (by decide) rfl⟩ 5 0 (by decide) (by decide)⟩)
end
