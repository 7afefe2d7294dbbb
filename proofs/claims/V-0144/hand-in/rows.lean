section
theorem pk_us {f : Nat → Int32} {k : Nat} {x : Int32} : upd f k x k = x := if_pos rfl
theorem pk_un {f : Nat → Int32} {k j : Nat} {x : Int32} (h : j ≠ k) : upd f k x j = f j := if_neg h
theorem pk_sub {a b : Nat} (h : b ≤ a) : nI a - nI b = nI (a - b) := by
  obtain ⟨c, rfl⟩ : ∃ c, a = c + b := ⟨a - b, by omega⟩
  rw [← nI_add, Int32.add_sub_cancel, Nat.add_sub_cancel]
theorem pk_m1 (n : Nat) : nI (n + 1) + (-1) = nI n := by
  rw [← nI_1, Int32.add_assoc, show (1 : Int32) + (-1) = 0 from rfl, Int32.add_zero]
theorem pk_mul (a b : Nat) : nI a * nI b = nI (a * b) := (Int32.ofNat_mul a b).symm
theorem pk_div {a d : Nat} (ha : a < 2 ^ 31) (h0 : 0 < d) (hd : d < 2 ^ 31) : nI a / nI d = nI (a / d) := by
  apply Int32.toInt_inj.mp
  rw [lg_idiv_nonneg (by rw [nI_toInt ha]; omega) (by rw [nI_toInt hd]; omega), nI_toInt ha, nI_toInt hd, nI_toInt (Nat.lt_of_le_of_lt (Nat.div_le_self a d) ha)]
  first | rfl | exact (Int.natCast_ediv _ _).symm
theorem pk_rem {a d : Nat} (ha : a < 2 ^ 31) (h0 : 0 < d) (hd : d < 2 ^ 31) : nI a - nI a / nI d * nI d = nI (a % d) := by
  rw [pk_div ha h0 hd, pk_mul, pk_sub (Nat.div_mul_le_self a d)]
  exact congrArg nI (by have := Nat.div_add_mod' a d; omega)
theorem pk_sub_toInt {a b : Nat} (ha : a < 2 ^ 30) (hb : b < 2 ^ 30) : (nI a - nI b).toInt = (a : Int) - b := by
  rw [Int32.toInt_sub, nI_toInt (by omega), nI_toInt (by omega)]
  exact Int.bmod_eq_of_le (by omega) (by omega)
theorem pk_sneg {a b : Nat} (hb : b < 2 ^ 30) (h : a < b) : nI a - nI b < 0 := by
  rw [Int32.lt_iff_toInt_lt, pk_sub_toInt (by omega) hb, show (0 : Int32).toInt = 0 from by decide]
  omega
theorem pk_ix (x : Int32) {n : Nat} (hn : n < 2 ^ 31) : x < 0 ∨ nI n ≤ x ∨ ∃ j : Nat, j < n ∧ x = nI j := by
  by_cases h : x < 0
  · exact Or.inl h
  · obtain ⟨j, hj, rfl⟩ := nI_of h
    by_cases h2 : j < n
    · exact Or.inr (Or.inr ⟨j, h2, rfl⟩)
    · exact Or.inr (Or.inl (nI_le (by omega) hj))
theorem pk_le {x y : Int32} {A B : Prop} (a b : Nat) (f : a ≤ b → A) (g : b < a → B) (hx : x = nI a := by rfl) (hy : y = nI b := by rfl) (ha : a < 2 ^ 31 := by omega) (hb : b < 2 ^ 31 := by omega) : (x ≤ y → A) ∧ (¬ x ≤ y → B) := by
  subst hx hy
  rw [nI_leI ha hb]
  exact ⟨f, fun z => g (by omega)⟩
theorem pk_lt {x y : Int32} {A B : Prop} (a b : Nat) (f : a < b → A) (g : b ≤ a → B) (hx : x = nI a := by rfl) (hy : y = nI b := by rfl) (ha : a < 2 ^ 31 := by omega) (hb : b < 2 ^ 31 := by omega) : (x < y → A) ∧ (¬ x < y → B) := by
  subst hx hy
  rw [nI_ltI ha hb]
  exact ⟨f, fun z => g (by omega)⟩
theorem pk_eq {x y : Int32} {A B : Prop} (a b : Nat) (f : a = b → A) (g : a ≠ b → B) (hx : x = nI a := by rfl) (hy : y = nI b := by rfl) (ha : a < 2 ^ 31 := by omega) (hb : b < 2 ^ 31 := by omega) : (x = y → A) ∧ (¬ x = y → B) := by
  subst hx hy
  rw [nI_eq ha hb]
  exact ⟨f, g⟩
theorem pk_in {x : Int32} (n N : Nat) (h : n < N) (hx : x = nI n := by rfl) (hN : N < 2 ^ 31 := by omega) : vp_in x N := by
  subst hx
  exact vp_in_nI h hN
theorem pk_cl {x : Int32} (n : Nat) (hx : x = nI n := by rfl) (h : n < 2 ^ 31 := by omega) : x.toNatClampNeg = n := by
  subst hx
  exact nI_clamp h
def bt (x : Int32) (i : Nat) : Bool := x.toBitVec.getLsbD i
theorem b_ext {x y : Int32} (h : ∀ i, i < 32 → bt x i = bt y i) : x = y := Int32.toBitVec_inj.mp (BitVec.eq_of_getLsbD_eq (fun i hi => h i hi))
theorem b_or (x y : Int32) (i : Nat) : bt (x ||| y) i = (bt x i || bt y i) := by unfold bt; rw [Int32.toBitVec_or, BitVec.getLsbD_or]
theorem b_and (x y : Int32) (i : Nat) : bt (x &&& y) i = (bt x i && bt y i) := by unfold bt; rw [Int32.toBitVec_and, BitVec.getLsbD_and]
theorem b_xor (x y : Int32) (i : Nat) : bt (x ^^^ y) i = (bt x i ^^ bt y i) := by unfold bt; rw [Int32.toBitVec_xor, BitVec.getLsbD_xor]
theorem b_big {x : Int32} {i : Nat} (h : 32 ≤ i) : bt x i = false := BitVec.getLsbD_of_ge _ _ h
theorem b_m1 : ∀ i, i < 32 → bt (-1) i = true := by decide +kernel
theorem b_0 (i : Nat) : bt 0 i = false := BitVec.getLsbD_zero
theorem s_l : ∀ n, n < 32 → ((nI n &&& 31).toBitVec.smod 32).toNat = n := by decide +kernel
theorem b_shl (n : Nat) (hn : n < 32) (x : Int32) {i : Nat} (hi : i < 32) : bt (x <<< (nI n &&& 31)) i = (decide (n ≤ i) && bt x (i - n)) := by
  unfold bt
  rw [Int32.toBitVec_shiftLeft]
  show (x.toBitVec <<< ((nI n &&& 31).toBitVec.smod 32).toNat).getLsbD i = _
  rw [s_l n hn, BitVec.getLsbD_shiftLeft]
  rcases Nat.lt_or_ge i n with h | h
  · simp [h, Nat.not_le.mpr h]
  · simp [hi, h, Nat.not_lt.mpr h]
theorem b_sshr (n : Nat) (hn : n < 32) (x : Int32) {i : Nat} (hi : i < 32) : bt (x >>> (nI n &&& 31)) i = if n + i < 32 then bt x (n + i) else bt x 31 := by
  unfold bt
  rw [Int32.toBitVec_shiftRight]
  show (x.toBitVec.sshiftRight ((nI n &&& 31).toBitVec.smod 32).toNat).getLsbD i = _
  rw [s_l n hn, BitVec.getLsbD_sshiftRight, BitVec.msb_eq_getLsbD_last]
  simp [hi]
end
section
/-! counts of codes in transit -/
def tp_tc (t : Nat → Int32) : Nat → Nat
  | 0 => 0
  | k + 1 => tp_tc t k + (if t k = 0 then 0 else 1)
def tp_cn (t : Nat → Int32) : Nat := tp_tc t 1200
theorem tp_tc_s (t : Nat → Int32) (k : Nat) : tp_tc t (k + 1) = tp_tc t k + (if t k = 0 then 0 else 1) := rfl
theorem tp_tc_z {t : Nat → Int32} {k : Nat} (h : t k = 0) : tp_tc t (k + 1) = tp_tc t k := by
  rw [tp_tc_s, if_pos h, Nat.add_zero]
theorem tp_tc_n {t : Nat → Int32} {k : Nat} (h : ¬ t k = 0) : tp_tc t (k + 1) = tp_tc t k + 1 := by
  rw [tp_tc_s, if_neg h]
theorem tp_tc_le (t : Nat → Int32) : ∀ k, tp_tc t k ≤ k := by
  intro k
  induction k with
  | zero => exact Nat.le_refl 0
  | succ k ih =>
    rw [tp_tc_s]
    split <;> omega
theorem tp_cn_le (t : Nat → Int32) : tp_cn t ≤ 1200 := tp_tc_le t 1200
theorem tp_tc_mono (t : Nat → Int32) (k : Nat) : ∀ d, tp_tc t k ≤ tp_tc t (k + d) := by
  intro d
  induction d with
  | zero => exact Nat.le_refl _
  | succ d ih =>
    rw [← Nat.add_assoc, tp_tc_s]
    omega
theorem tp_tc_ext {t t' : Nat → Int32} : ∀ k, (∀ p, p < k → t p = t' p) → tp_tc t k = tp_tc t' k := by
  intro k
  induction k with
  | zero => intro _; rfl
  | succ k ih =>
    intro h
    rw [tp_tc_s, tp_tc_s, ih (fun p hp => h p (by omega)), h k (by omega)]
theorem tp_tc_up {t : Nat → Int32} {p : Nat} (h0 : t p = 0) : ∀ k, p < k → tp_tc (upd t p 1) k = tp_tc t k + 1 := by
  intro k
  induction k with
  | zero => intro h; omega
  | succ k ih =>
    intro h
    by_cases e : p = k
    · subst e
      have h1 : ¬ upd t p 1 p = 0 := by rw [pk_us]; decide
      rw [tp_tc_n h1, tp_tc_z h0, tp_tc_ext (t := upd t p 1) (t' := t) p (fun q hq => pk_un (by omega))]
    · have h1 : upd t p 1 k = t k := pk_un (fun z => e z.symm)
      rw [tp_tc_s, tp_tc_s, h1, ih (by omega)]
      omega
theorem tp_tc_dn {t : Nat → Int32} {p : Nat} (h0 : ¬ t p = 0) : ∀ k, p < k → tp_tc (upd t p 0) k + 1 = tp_tc t k := by
  intro k
  induction k with
  | zero => intro h; omega
  | succ k ih =>
    intro h
    by_cases e : p = k
    · subst e
      have h1 : upd t p 0 p = 0 := pk_us
      rw [tp_tc_z h1, tp_tc_n h0, tp_tc_ext (t := upd t p 0) (t' := t) p (fun q hq => pk_un (by omega))]
    · have h1 : upd t p 0 k = t k := pk_un (fun z => e z.symm)
      have h2 := ih (by omega)
      rw [tp_tc_s, tp_tc_s, h1]
      omega
theorem tp_cn_up {t : Nat → Int32} {p : Nat} (h0 : t p = 0) (hp : p < 1200) : nI (tp_cn t) + 1 = nI (tp_cn (upd t p 1)) := by
  rw [nI_1]
  exact congrArg nI (tp_tc_up h0 1200 hp).symm
theorem tp_cn_dn {t : Nat → Int32} {p : Nat} (h0 : ¬ t p = 0) (hp : p < 1200) : nI (tp_cn t) - 1 = nI (tp_cn (upd t p 0)) := by
  have h := tp_tc_dn h0 1200 hp
  show nI (tp_tc t 1200) - 1 = nI (tp_tc (upd t p 0) 1200)
  rw [← h, nI_pred]
theorem tp_tc_lt {t : Nat → Int32} {p : Nat} (h0 : ¬ t p = 0) (hp : p < 1200) : tp_tc t p < tp_cn t := by
  have h := tp_tc_mono t (p + 1) (1199 - p)
  rw [tp_tc_n h0, show p + 1 + (1199 - p) = 1200 by omega] at h
  exact h
theorem tp_tc_0 {t : Nat → Int32} : ∀ k, (∀ p, p < k → t p = 0) → tp_tc t k = 0 := by
  intro k
  induction k with
  | zero => intro _; rfl
  | succ k ih =>
    intro h
    rw [tp_tc_z (h k (by omega)), ih (fun p hp => h p (by omega))]
theorem tp_upd_id {t : Nat → Int32} {p : Nat} {x : Int32} (h : t p = x) : upd t p x = t := by
  funext q
  unfold upd
  by_cases e : q = p
  · rw [if_pos e, e, h]
  · rw [if_neg e]
/-! bits -/
theorem tp_1s : ∀ j, j < 32 → ∀ i, i < 32 → bt ((1 : Int32) <<< (nI j &&& 31)) i = decide (i = j) := by decide +kernel
theorem tp_1b : ∀ i, i < 32 → bt 1 i = decide (i = 0) := by decide +kernel
theorem tp_all : ∀ N, N < 7 → ∀ j, j < 32 → bt (nI (2 ^ N - 1)) j = decide (j < N) := by decide +kernel
theorem tp_fall : ∀ N, N < 7 → ((1 : Int32) <<< (nI N &&& 31)) - 1 = nI (2 ^ N - 1) := by decide +kernel
theorem tp_f2N : ∀ N, N < 7 → ((1 : Int32) <<< (nI N &&& 31)) = nI (2 ^ N) := by decide +kernel
theorem tp_not (x : Int32) {j : Nat} (hj : j < 32) : bt (x ^^^ (-1)) j = !bt x j := by
  rw [b_xor, b_m1 j hj]
  cases bt x j <;> rfl
theorem tp_has (x : Int32) {j : Nat} (hj : j < 32) : (x &&& ((1 : Int32) <<< (nI j &&& 31))) = 0 ↔ bt x j = false := by
  constructor
  · intro h
    have h1 : bt (x &&& ((1 : Int32) <<< (nI j &&& 31))) j = false := by rw [h, b_0]
    rw [b_and, tp_1s j hj j hj, decide_eq_true rfl, Bool.and_true] at h1
    exact h1
  · intro h
    apply b_ext
    intro i hi
    rw [b_and, tp_1s j hj i hi, b_0]
    by_cases e : i = j
    · rw [e, h]; rfl
    · rw [decide_eq_false e, Bool.and_false]
theorem tp_im (x : Int32) {j : Nat} (hj : j < 32) : ((x >>> (nI j &&& 31)) &&& 1) = 1 ↔ bt x j = true := by
  have h0 : bt ((x >>> (nI j &&& 31)) &&& 1) 0 = bt x j := by
    rw [b_and, tp_1b 0 (by decide), b_sshr j hj x (by decide), if_pos (by omega), Nat.add_zero, decide_eq_true rfl, Bool.and_true]
  constructor
  · intro h
    rw [← h0, h]
    decide
  · intro h
    apply b_ext
    intro i hi
    by_cases e : i = 0
    · rw [e, h0, h]; decide
    · rw [b_and, tp_1b i hi, decide_eq_false e, Bool.and_false]
/-- 1 for true -/
def tp_b (b : Bool) : Int32 := if b = true then 1 else 0
theorem tp_bt : tp_b true = 1 := rfl
theorem tp_bf : tp_b false = 0 := rfl
theorem tp_b0 {b : Bool} : tp_b b = 0 ↔ b = false := by cases b <;> decide
theorem tp_b1 {b : Bool} : ¬ tp_b b = 0 ↔ b = true := by cases b <;> decide
theorem tp_bn (b : Bool) : narrow .boolean (.int (tp_b b)) = .int (tp_b b) := by cases b <;> rfl
theorem tp_n1 : vp_nar .boolean 1 = 1 := rfl
theorem tp_n0 : vp_nar .boolean 0 = 0 := rfl
theorem tp_10 : ¬ (1 : Int32) = 0 := by decide
/-! any below k -/
def tp_an (P : Nat → Bool) : Nat → Bool
  | 0 => false
  | j + 1 => tp_an P j || P j
theorem tp_an_s (P : Nat → Bool) (j : Nat) : tp_an P (j + 1) = (tp_an P j || P j) := rfl
theorem tp_an_f {P : Nat → Bool} : ∀ k, tp_an P k = false ↔ ∀ j, j < k → P j = false := by
  intro k
  induction k with
  | zero => exact ⟨fun _ j hj => absurd hj (Nat.not_lt_zero j), fun _ => rfl⟩
  | succ k ih =>
    rw [tp_an_s, Bool.or_eq_false_iff, ih]
    constructor
    · intro h j hj
      by_cases e : j = k
      · rw [e]; exact h.2
      · exact h.1 j (by omega)
    · intro h
      exact ⟨fun j hj => h j (by omega), h k (by omega)⟩
theorem tp_an_c {P Q : Nat → Bool} : ∀ k, (∀ j, j < k → P j = Q j) → tp_an P k = tp_an Q k := by
  intro k
  induction k with
  | zero => intro _; rfl
  | succ k ih =>
    intro h
    rw [tp_an_s, tp_an_s, ih (fun j hj => h j (by omega)), h k (by omega)]
theorem tp_an_t {P : Nat → Bool} {k j : Nat} (hj : j < k) (h : P j = true) : tp_an P k = true := by
  cases e : tp_an P k
  · have := (tp_an_f k).mp e j hj
    rw [h] at this
    exact this.symm
  · rfl
/-- a word with bits Q below N is 0 if there is none -/
theorem tp_z {x : Int32} {N : Nat} {Q : Nat → Bool} (hx : ∀ j, j < 32 → bt x j = (decide (j < N) && Q j)) (hN : N ≤ 32) : x = 0 ↔ tp_an Q N = false := by
  rw [tp_an_f]
  constructor
  · intro h j hj
    have h1 := hx j (by omega)
    rw [h, b_0, decide_eq_true hj, Bool.true_and] at h1
    exact h1.symm
  · intro h
    apply b_ext
    intro i hi
    rw [hx i hi, b_0]
    by_cases e : i < N
    · rw [h i e, Bool.and_false]
    · rw [decide_eq_false e, Bool.false_and]
/-! the reference's flags -/
def tp_F (an rd ak hd kn : Nat → Int32) (w i : Nat) : Int32 :=
  match w with
  | 0 => an i
  | 1 => rd i
  | 2 => ak i
  | 3 => hd i
  | 4 => kn i
  | _ => 0
def tp_q (f : Nat → Nat → Int32) : Nat → Int32 := fun p => tp_b (bt (f (p / 36) (p % 36 / 6)) (p % 6))
theorem tp_q_at (f : Nat → Nat → Int32) (w : Nat) {i j : Nat} (hi : i < 6) (hj : j < 6) : tp_q f (36 * w + 6 * i + j) = tp_b (bt (f w i) j) := by
  unfold tp_q
  rw [show (36 * w + 6 * i + j) / 36 = w by omega, show (36 * w + 6 * i + j) % 36 / 6 = i by omega, show (36 * w + 6 * i + j) % 6 = j by omega]
theorem tp_q_set {f f' : Nat → Nat → Int32} {w i j : Nat} (hi : i < 6) (hj : j < 6) (hf : ∀ w' i', (w' ≠ w ∨ i' ≠ i) → f' w' i' = f w' i') (hb : f' w i = (f w i ||| ((1 : Int32) <<< (nI j &&& 31)))) : upd (tp_q f) (36 * w + 6 * i + j) 1 = tp_q f' := by
  have hb' : ∀ j', j' < 6 → bt (f' w i) j' = (bt (f w i) j' || decide (j' = j)) := by
    intro j' hj'
    rw [hb, b_or, tp_1s j (by omega) j' (by omega)]
  funext p
  by_cases e : p = 36 * w + 6 * i + j
  · rw [e, pk_us, tp_q_at f' w hi hj, hb' j hj, decide_eq_true rfl, Bool.or_true]
    rfl
  · rw [pk_un e]
    unfold tp_q
    by_cases hw : p / 36 = w ∧ p % 36 / 6 = i
    · have hj2 : p % 6 ≠ j := by omega
      rw [hw.1, hw.2, hb' _ (Nat.mod_lt _ (by decide)), decide_eq_false hj2, Bool.or_false]
    · rw [hf _ _ (by omega)]
/-- k flags of one set of one site put out -/
def tp_e (q : Nat → Int32) (m : Nat) : Nat → (Nat → Int32)
  | 0 => q
  | k + 1 => upd (tp_e q m k) (m + k) 0
theorem tp_e_at (q : Nat → Int32) (m p : Nat) : ∀ k, tp_e q m k p = if m ≤ p ∧ p < m + k then 0 else q p := by
  intro k
  induction k with
  | zero => rw [if_neg (by omega)]; rfl
  | succ k ih =>
    show upd (tp_e q m k) (m + k) 0 p = _
    by_cases e : p = m + k
    · rw [e, pk_us, if_pos (by omega)]
    · rw [pk_un e, ih]
      by_cases h : m ≤ p ∧ p < m + k
      · rw [if_pos h, if_pos (by omega)]
      · rw [if_neg h, if_neg (by omega)]
theorem tp_q_clr {f f' : Nat → Nat → Int32} {w i : Nat} (hi : i < 6) (hf : ∀ w' i', (w' ≠ w ∨ i' ≠ i) → f' w' i' = f w' i') (hb : f' w i = 0) : tp_e (tp_q f) (36 * w + 6 * i) 6 = tp_q f' := by
  funext p
  rw [tp_e_at]
  unfold tp_q
  by_cases hw : p / 36 = w ∧ p % 36 / 6 = i
  · rw [if_pos (by omega), hw.1, hw.2, hb, b_0]
    rfl
  · rw [if_neg (by omega), hf _ _ (by omega)]
section
variable {an rd ak hd kn : Nat → Int32} {i : Nat} {v : Int32}
theorem tp_F0 : ∀ w' i', (w' ≠ 0 ∨ i' ≠ i) → tp_F (upd an i v) rd ak hd kn w' i' = tp_F an rd ak hd kn w' i' := by
  intro w' i' h
  match w', h with
  | 0, h => exact pk_un (h.resolve_left (fun z => z rfl))
  | 1, _ => rfl
  | 2, _ => rfl
  | 3, _ => rfl
  | 4, _ => rfl
  | _ + 5, _ => rfl
theorem tp_F1 : ∀ w' i', (w' ≠ 1 ∨ i' ≠ i) → tp_F an (upd rd i v) ak hd kn w' i' = tp_F an rd ak hd kn w' i' := by
  intro w' i' h
  match w', h with
  | 0, _ => rfl
  | 1, h => exact pk_un (h.resolve_left (fun z => z rfl))
  | 2, _ => rfl
  | 3, _ => rfl
  | 4, _ => rfl
  | _ + 5, _ => rfl
theorem tp_F2 : ∀ w' i', (w' ≠ 2 ∨ i' ≠ i) → tp_F an rd (upd ak i v) hd kn w' i' = tp_F an rd ak hd kn w' i' := by
  intro w' i' h
  match w', h with
  | 0, _ => rfl
  | 1, _ => rfl
  | 2, h => exact pk_un (h.resolve_left (fun z => z rfl))
  | 3, _ => rfl
  | 4, _ => rfl
  | _ + 5, _ => rfl
theorem tp_F3 : ∀ w' i', (w' ≠ 3 ∨ i' ≠ i) → tp_F an rd ak (upd hd i v) kn w' i' = tp_F an rd ak hd kn w' i' := by
  intro w' i' h
  match w', h with
  | 0, _ => rfl
  | 1, _ => rfl
  | 2, _ => rfl
  | 3, h => exact pk_un (h.resolve_left (fun z => z rfl))
  | 4, _ => rfl
  | _ + 5, _ => rfl
theorem tp_F4 : ∀ w' i', (w' ≠ 4 ∨ i' ≠ i) → tp_F an rd ak hd (upd kn i v) w' i' = tp_F an rd ak hd kn w' i' := by
  intro w' i' h
  match w', h with
  | 0, _ => rfl
  | 1, _ => rfl
  | 2, _ => rfl
  | 3, _ => rfl
  | 4, h => exact pk_un (h.resolve_left (fun z => z rfl))
  | _ + 5, _ => rfl
end
/-! numbers -/
theorem tp_ixs {p0 : Int32} {w : Nat} (hp : p0 = nI w) (i j : Nat) : ((36 * p0) + (6 * nI i)) + nI j = nI (36 * w + 6 * i + j) := by
  rw [hp]
  show ((nI 36 * nI w) + (nI 6 * nI i)) + nI j = _
  rw [pk_mul, pk_mul, nI_add, nI_add]
theorem tp_ixc (kd f j : Nat) : ((100 * nI kd) + (10 * nI f)) + nI j = nI (100 * kd + 10 * f + j) := by
  show ((nI 100 * nI kd) + (nI 10 * nI f)) + nI j = _
  rw [pk_mul, pk_mul, nI_add, nI_add]
theorem tp_d100 {p : Nat} (hp : p < 1200) : nI p / 100 = nI (p / 100) := pk_div (d := 100) (by omega) (by decide) (by decide)
theorem tp_d10 {p : Nat} (hp : p < 1200) : nI p / 10 = nI (p / 10) := pk_div (d := 10) (by omega) (by decide) (by decide)
theorem tp_m10 {p : Nat} (hp : p < 1200) : nI p - nI p / 10 * 10 = nI (p % 10) := pk_rem (d := 10) (by omega) (by decide) (by decide)
/-- a counted loop whose state is a function of its counter -/
theorem tp_lp (W : Nat → Nat → Prop) (e : Nat) (hx : ∀ n, W (n + 1) e) (hs : ∀ n i, i < e → W n (i + 1) → W (n + 1) i) : ∀ d i, i + d = e → W (d + 1) i := by
  intro d
  induction d with
  | zero =>
    intro i h
    rw [show i = e by omega]
    exact hx 0
  | succ d ih =>
    intro i h
    exact hs (d + 1) i (by omega) (ih (i + 1) (by omega))
theorem tp_lp0 (W : Nat → Nat → Prop) (e : Nat) (hx : ∀ n, W (n + 1) e) (hs : ∀ n i, i < e → W n (i + 1) → W (n + 1) i) : ∃ n, W n 0 := ⟨e + 1, tp_lp W e hx hs e 0 (Nat.zero_add e)⟩
end
section
/-! the two states as functions of one, and what holds of it -/
abbrev tp_x (N : Nat) (md st lg ws rl fl an rd ak hd kn tr : Nat → Int32) : SX := (nI N, nI (2 ^ N - 1), nI (tp_cn tr), md, st, lg, ws, rl, fl, an, rd, ak, hd, kn, tr)
abbrev tp_y (N : Nat) (md st lg ws rl fl an rd ak hd kn tr : Nat → Int32) : SY := (nI N, st, md, lg, rl, fl, ws, tp_q (tp_F an rd ak hd kn), tr)
def tp_s5 (st : Nat → Int32) : Prop := ∀ i, st i = 0 ∨ st i = 1 ∨ st i = 2 ∨ st i = 3 ∨ st i = 4
def tp_bk (N : Nat) (a : Nat → Int32) : Prop := ∀ i j, bt (a i) j = true → j < N
def tp_wf (N p : Nat) : Prop := ∃ kd f q : Nat, 1 ≤ kd ∧ kd ≤ 11 ∧ f < N ∧ q < N ∧ p = 100 * kd + 10 * f + q
def tp_w (N : Nat) (t : Nat → Int32) : Prop := ∀ p, t p = 0 ∨ (t p = 1 ∧ tp_wf N p)
def tp_G (N : Nat) (st an rd ak hd kn tr : Nat → Int32) : Prop := 2 ≤ N ∧ N ≤ 6 ∧ tp_s5 st ∧ tp_bk N an ∧ tp_bk N rd ∧ tp_bk N ak ∧ tp_bk N hd ∧ tp_bk N kn ∧ tp_w N tr
theorem tp_s5_u {st : Nat → Int32} (h : tp_s5 st) (i : Nat) {v : Int32} (hv : v = 0 ∨ v = 1 ∨ v = 2 ∨ v = 3 ∨ v = 4) : tp_s5 (upd st i v) := by
  intro k
  by_cases e : k = i
  · rw [e, pk_us]; exact hv
  · rw [pk_un e]; exact h k
theorem tp_bk_0 {N : Nat} {a : Nat → Int32} (h : tp_bk N a) (i : Nat) : tp_bk N (upd a i 0) := by
  intro k j hj
  by_cases e : k = i
  · rw [e, pk_us, b_0] at hj
    exact nomatch hj
  · rw [pk_un e] at hj
    exact h k j hj
theorem tp_bt32 {x : Int32} {j : Nat} (h : bt x j = true) : j < 32 := by
  rcases Nat.lt_or_ge j 32 with z | z
  · exact z
  · rw [b_big z] at h
    exact nomatch h
theorem tp_bk_1 {N : Nat} {a : Nat → Int32} (h : tp_bk N a) (i : Nat) {j : Nat} (hj : j < N) (h32 : N ≤ 6) : tp_bk N (upd a i ((1 : Int32) <<< (nI j &&& 31))) := by
  intro k l hl
  by_cases e : k = i
  · rw [e, pk_us] at hl
    rw [tp_1s j (by omega) l (tp_bt32 hl)] at hl
    rw [of_decide_eq_true hl]
    exact hj
  · rw [pk_un e] at hl
    exact h k l hl
theorem tp_bk_j {N : Nat} {a : Nat → Int32} (h : tp_bk N a) (i : Nat) {j : Nat} (hj : j < N) (h32 : N ≤ 6) : tp_bk N (upd a i (a i ||| ((1 : Int32) <<< (nI j &&& 31)))) := by
  intro k l hl
  by_cases e : k = i
  · rw [e, pk_us] at hl
    have l32 := tp_bt32 hl
    rw [b_or, tp_1s j (by omega) l l32] at hl
    cases hb : bt (a i) l
    · rw [hb, Bool.false_or] at hl
      rw [of_decide_eq_true hl]
      exact hj
    · exact h i l hb
  · rw [pk_un e] at hl
    exact h k l hl
theorem tp_w_1 {N : Nat} {t : Nat → Int32} (h : tp_w N t) {kd f q : Nat} (h1 : 1 ≤ kd) (h2 : kd ≤ 11) (hf : f < N) (hq : q < N) : tp_w N (upd t (100 * kd + 10 * f + q) 1) := by
  intro p
  by_cases e : p = 100 * kd + 10 * f + q
  · rw [e, pk_us]
    exact Or.inr ⟨rfl, kd, f, q, h1, h2, hf, hq, rfl⟩
  · rw [pk_un e]
    exact h p
theorem tp_w_0 {N : Nat} {t : Nat → Int32} (h : tp_w N t) (p : Nat) : tp_w N (upd t p 0) := by
  intro k
  by_cases e : k = p
  · rw [e, pk_us]
    exact Or.inl rfl
  · rw [pk_un e]
    exact h k
theorem tp_w_lt {N : Nat} {t : Nat → Int32} (h : tp_w N t) (hN : N ≤ 6) {p : Nat} (hp : ¬ t p = 0) : p < 1200 := by
  obtain ⟨_, kd, f, q, h1, h2, h3, h4, h5⟩ := (h p).resolve_left hp
  omega
/-- one message, and all of a loop -/
def tp_sd (md : Nat → Int32) (kd f q : Nat) (t : Nat → Int32) : Nat → Int32 := if md q = 1 then t else upd t (100 * kd + 10 * f + q) 1
def tp_s (md : Nat → Int32) (kd f : Nat) (P : Nat → Bool) (t : Nat → Int32) : Nat → (Nat → Int32)
  | 0 => t
  | j + 1 => if j = f then tp_s md kd f P t j else if P j = true then tp_sd md kd f j (tp_s md kd f P t j) else tp_s md kd f P t j
theorem tp_s_s (md : Nat → Int32) (kd f : Nat) (P : Nat → Bool) (t : Nat → Int32) (j : Nat) : tp_s md kd f P t (j + 1) = if j = f then tp_s md kd f P t j else if P j = true then tp_sd md kd f j (tp_s md kd f P t j) else tp_s md kd f P t j := rfl
theorem tp_sd_w {N : Nat} {md t : Nat → Int32} (h : tp_w N t) {kd f q : Nat} (h1 : 1 ≤ kd) (h2 : kd ≤ 11) (hf : f < N) (hq : q < N) : tp_w N (tp_sd md kd f q t) := by
  unfold tp_sd
  by_cases e : md q = 1
  · rw [if_pos e]; exact h
  · rw [if_neg e]; exact tp_w_1 h h1 h2 hf hq
theorem tp_s_w {N : Nat} {md t : Nat → Int32} {P : Nat → Bool} (h : tp_w N t) {kd f : Nat} (h1 : 1 ≤ kd) (h2 : kd ≤ 11) (hf : f < N) : ∀ j, j ≤ N → tp_w N (tp_s md kd f P t j) := by
  intro j
  induction j with
  | zero => intro _; exact h
  | succ j ih =>
    intro hj
    have h3 := ih (by omega)
    rw [tp_s_s]
    by_cases e : j = f
    · rw [if_pos e]; exact h3
    · rw [if_neg e]
      by_cases b : P j = true
      · rw [if_pos b]; exact tp_sd_w h3 h1 h2 hf (by omega)
      · rw [if_neg b]; exact h3
theorem tp_s_c {md t : Nat → Int32} {P Q : Nat → Bool} {kd f : Nat} : ∀ j, (∀ l, l < j → P l = Q l) → tp_s md kd f P t j = tp_s md kd f Q t j := by
  intro j
  induction j with
  | zero => intro _; rfl
  | succ j ih =>
    intro h
    rw [tp_s_s, tp_s_s, ih (fun l hl => h l (by omega)), h j (by omega)]
/-! lockstep -/
def tp_L (N : Nat) (WX : (Int32 → SX → Prop) → Prop) (WY : (Int32 → SY → Prop) → Prop) : Prop :=
  ∃ (r : Int32) (md st lg ws rl fl an rd ak hd kn tr : Nat → Int32), tp_G N st an rd ak hd kn tr ∧ (∀ post : Int32 → SX → Prop, post r (tp_x N md st lg ws rl fl an rd ak hd kn tr) → WX post) ∧ (∀ post : Int32 → SY → Prop, post r (tp_y N md st lg ws rl fl an rd ak hd kn tr) → WY post)
def tp_K (N : Nat) (kX : (Int32 → SX → Prop) → SX → Prop) (kY : (Int32 → SY → Prop) → SY → Prop) : Prop :=
  ∀ (md st lg ws rl fl an rd ak hd kn tr : Nat → Int32), tp_G N st an rd ak hd kn tr → tp_L N (fun post => kX post (tp_x N md st lg ws rl fl an rd ak hd kn tr)) (fun post => kY post (tp_y N md st lg ws rl fl an rd ak hd kn tr))
theorem tp_imp {N : Nat} {WX WX' : (Int32 → SX → Prop) → Prop} {WY WY' : (Int32 → SY → Prop) → Prop} (hX : ∀ post, WX' post → WX post) (hY : ∀ post, WY' post → WY post) (h : tp_L N WX' WY') : tp_L N WX WY := by
  obtain ⟨r, md, st, lg, ws, rl, fl, an, rd, ak, hd, kn, tr, g, x, y⟩ := h
  exact ⟨r, md, st, lg, ws, rl, fl, an, rd, ak, hd, kn, tr, g, fun post p => hX post (x post p), fun post p => hY post (y post p)⟩
theorem tp_ix {N : Nat} {WX WX' : (Int32 → SX → Prop) → Prop} {WY : (Int32 → SY → Prop) → Prop} (hX : ∀ post, WX' post → WX post) (h : tp_L N WX' WY) : tp_L N WX WY := tp_imp hX (fun _ h => h) h
theorem tp_iy {N : Nat} {WX : (Int32 → SX → Prop) → Prop} {WY WY' : (Int32 → SY → Prop) → Prop} (hY : ∀ post, WY' post → WY post) (h : tp_L N WX WY') : tp_L N WX WY := tp_imp (fun _ h => h) hY h
section
variable {N : Nat} {md st lg ws rl fl an rd ak hd kn tr : Nat → Int32}
theorem tp_ret {r : Int32} (g : tp_G N st an rd ak hd kn tr) : tp_L N (fun post => post r (tp_x N md st lg ws rl fl an rd ak hd kn tr)) (fun post => post r (tp_y N md st lg ws rl fl an rd ak hd kn tr)) := ⟨r, md, st, lg, ws, rl, fl, an, rd, ak, hd, kn, tr, g, fun _ h => h, fun _ h => h⟩
theorem tp_L_out {k : Nat} {WX : (Int32 → SX → Prop) → Prop} {WY : (Int32 → SY → Prop) → Prop} {R : Nat → SX → SY → Prop} (h : tp_L N WX WY) (hR : ∀ (md st lg ws rl fl an rd ak hd kn tr : Nat → Int32), tp_G N st an rd ak hd kn tr → R k (tp_x N md st lg ws rl fl an rd ak hd kn tr) (tp_y N md st lg ws rl fl an rd ak hd kn tr)) : WX (fun r u => WY (fun r' v => r' = r ∧ R k u v)) := by
  obtain ⟨r, md, st, lg, ws, rl, fl, an, rd, ak, hd, kn, tr, g, x, y⟩ := h
  exact x _ (y _ ⟨rfl, hR _ _ _ _ _ _ _ _ _ _ _ _ g⟩)
/-! small readers -/
theorem tp_xin {post : Int32 → Prop} {i : Nat} (hi : i < N) (hN : N ≤ 6) (h : post 1) : wpX_inRange post (tp_x N md st lg ws rl fl an rd ak hd kn tr) (nI i) := br_f (nI_pos (by omega)) (br_f (nI_ge hi (by omega)) h)
theorem tp_xout {post : Int32 → Prop} {x : Int32} (hx : x < 0 ∨ nI N ≤ x) (h : post 0) : wpX_inRange post (tp_x N md st lg ws rl fl an rd ak hd kn tr) x := by
  by_cases z : x < 0
  · exact br_t z h
  · exact br_f z (br_t (hx.resolve_left z) h)
theorem tp_yin {post : Int32 → Prop} {i : Nat} (hi : i < N) (hN : N ≤ 6) (h : post 0) : wpY_bad post (tp_y N md st lg ws rl fl an rd ak hd kn tr) (nI i) := br_f (nI_pos (by omega)) (br_t (nI_lt hi (by omega)) h)
theorem tp_yout {post : Int32 → Prop} {x : Int32} (hx : x < 0 ∨ nI N ≤ x) (h : post 1) : wpY_bad post (tp_y N md st lg ws rl fl an rd ak hd kn tr) x := by
  by_cases z : x < 0
  · exact br_t z h
  · exact br_f z (br_f (Int32.not_lt.mpr (hx.resolve_left z)) h)
def tp_dc (st : Nat → Int32) (i : Nat) : Bool := decide (st i = 3) || decide (st i = 4)
theorem tp_ci {i : Nat} (hi : i < 6) : (nI i).toNatClampNeg = i := nI_clamp (by omega)
theorem tp_vi {i : Nat} (hi : i < 6) : vp_in (nI i) 6 := vp_in_nI hi (by decide)
theorem tp_xdd {post : Int32 → Prop} {i : Nat} (hi : i < 6) (h : post (tp_b (tp_dc st i))) : wpX_isDecided post (tp_x N md st lg ws rl fl an rd ak hd kn tr) (nI i) := by
  unfold tp_dc at h
  simp only [wpX_isDecided, tp_ci hi, tp_vi hi, true_and, and_true, true_implies, false_implies, not_true_eq_false, not_false_eq_true, forall_eq, and_self]
  by_cases h3 : st i = 3
  · simp only [h3, decide_true, Bool.true_or] at h
    exact br_t h3 h
  · refine br_f h3 ?_
    rw [decide_eq_false h3, Bool.false_or] at h
    by_cases h4 : st i = 4
    · rw [decide_eq_true h4] at h
      exact br_t h4 h
    · rw [decide_eq_false h4] at h
      exact br_f h4 h
theorem tp_ydd {post : Int32 → Prop} {i : Nat} (hi : i < 6) (h : post (tp_b (tp_dc st i))) : wpY_decided post (tp_y N md st lg ws rl fl an rd ak hd kn tr) (nI i) := by
  unfold tp_dc at h
  simp only [wpY_decided, tp_ci hi, tp_vi hi, true_and, and_true, true_implies, false_implies, not_true_eq_false, not_false_eq_true, forall_eq, and_self]
  by_cases h3 : st i = 3
  · simp only [h3, decide_true, Bool.true_or] at h
    exact br_t h3 h
  · refine br_f h3 ?_
    rw [decide_eq_false h3, Bool.false_or] at h
    by_cases h4 : st i = 4
    · rw [decide_eq_true h4] at h
      exact br_t h4 h
    · rw [decide_eq_false h4] at h
      exact br_f h4 h
/-- the kind of the decision message -/
def tp_kd (st : Nat → Int32) (i : Nat) : Nat := if st i = 3 then 8 else 9
theorem tp_kd_le (st : Nat → Int32) (i : Nat) : 1 ≤ tp_kd st i ∧ tp_kd st i ≤ 11 := by
  unfold tp_kd
  split <;> decide
theorem tp_xkd {post : Int32 → Prop} {i : Nat} (hi : i < 6) (h : post (nI (tp_kd st i))) : wpX_decisionKind post (tp_x N md st lg ws rl fl an rd ak hd kn tr) (nI i) := by
  unfold tp_kd at h
  simp only [wpX_decisionKind, tp_ci hi, tp_vi hi, true_and, and_true, true_implies, false_implies, not_true_eq_false, not_false_eq_true, forall_eq, and_self]
  by_cases h3 : st i = 3
  · rw [if_pos h3] at h
    exact br_t h3 h
  · rw [if_neg h3] at h
    exact br_f h3 h
theorem tp_ykd {post : Int32 → Prop} {i : Nat} (hi : i < 6) (h : post (nI (tp_kd st i))) : wpY_decisionOf post (tp_y N md st lg ws rl fl an rd ak hd kn tr) (nI i) := by
  unfold tp_kd at h
  simp only [wpY_decisionOf, tp_ci hi, tp_vi hi, true_and, and_true, true_implies, false_implies, not_true_eq_false, not_false_eq_true, forall_eq, and_self]
  by_cases h3 : st i = 3
  · rw [if_pos h3] at h
    exact br_t h3 h
  · rw [if_neg h3] at h
    exact br_f h3 h
theorem tp_xhas {post : Int32 → Prop} {s : Int32} {j : Nat} (hj : j < 32) (h : post (tp_b (bt s j))) : wpX_has post (tp_x N md st lg ws rl fl an rd ak hd kn tr) s (nI j) := by
  simp only [wpX_has, tp_has s hj]
  cases hb : bt s j
  · rw [hb] at h
    exact br_t rfl h
  · rw [hb] at h
    exact br_f (by decide) h
theorem tp_yim {post : Int32 → Prop} {s : Int32} {j : Nat} (hj : j < 32) (h : post (tp_b (bt s j))) : wpY_inMask post (tp_y N md st lg ws rl fl an rd ak hd kn tr) s (nI j) := by
  simp only [wpY_inMask, tp_im s hj]
  cases hb : bt s j
  · rw [hb] at h
    exact br_f (by decide) h
  · rw [hb] at h
    exact br_t rfl h
theorem tp_yhw {post : Int32 → Prop} {p0 : Int32} (w : Nat) {i j : Nat} (hp : p0 = nI w) (hw : w < 5) (hi : i < 6) (hj : j < 6) (h : post (tp_b (bt (tp_F an rd ak hd kn w i) j))) : wpY_has post (tp_y N md st lg ws rl fl an rd ak hd kn tr) p0 (nI i) (nI j) := by
  have c : (nI (36 * w + 6 * i + j)).toNatClampNeg = 36 * w + 6 * i + j := nI_clamp (by omega)
  have e := tp_q_at (tp_F an rd ak hd kn) w hi hj
  simp only [wpY_has, tp_ixs hp, c, e]
  exact ⟨vp_in_nI (by omega) (by decide), tp_bn _, h⟩
theorem tp_yh0 {post : Int32 → Prop} {i j : Nat} (hi : i < 6) (hj : j < 6) (h : post (tp_b (bt (an i) j))) : wpY_has post (tp_y N md st lg ws rl fl an rd ak hd kn tr) 0 (nI i) (nI j) := tp_yhw 0 rfl (by decide) hi hj h
theorem tp_yh2 {post : Int32 → Prop} {i j : Nat} (hi : i < 6) (hj : j < 6) (h : post (tp_b (bt (ak i) j))) : wpY_has post (tp_y N md st lg ws rl fl an rd ak hd kn tr) 2 (nI i) (nI j) := tp_yhw 2 rfl (by decide) hi hj h
theorem tp_yh4 {post : Int32 → Prop} {i j : Nat} (hi : i < 6) (hj : j < 6) (h : post (tp_b (bt (kn i) j))) : wpY_has post (tp_y N md st lg ws rl fl an rd ak hd kn tr) 4 (nI i) (nI j) := tp_yhw 4 rfl (by decide) hi hj h
end
end
section
section
variable {N : Nat} {md st lg ws rl fl an rd ak hd kn tr : Nat → Int32} {i j kd f q : Nat} {v : Int32}
theorem tp_g_tr {t : Nat → Int32} (g : tp_G N st an rd ak hd kn tr) (w : tp_w N t) : tp_G N st an rd ak hd kn t := ⟨g.1, g.2.1, g.2.2.1, g.2.2.2.1, g.2.2.2.2.1, g.2.2.2.2.2.1, g.2.2.2.2.2.2.1, g.2.2.2.2.2.2.2.1, w⟩
theorem tp_g_st (g : tp_G N st an rd ak hd kn tr) (hv : v = 0 ∨ v = 1 ∨ v = 2 ∨ v = 3 ∨ v = 4) : tp_G N (upd st i v) an rd ak hd kn tr := ⟨g.1, g.2.1, tp_s5_u g.2.2.1 i hv, g.2.2.2⟩
theorem tp_g_an {a : Nat → Int32} (g : tp_G N st an rd ak hd kn tr) (h : tp_bk N a) : tp_G N st a rd ak hd kn tr := ⟨g.1, g.2.1, g.2.2.1, h, g.2.2.2.2⟩
theorem tp_g_rd {a : Nat → Int32} (g : tp_G N st an rd ak hd kn tr) (h : tp_bk N a) : tp_G N st an a ak hd kn tr := ⟨g.1, g.2.1, g.2.2.1, g.2.2.2.1, h, g.2.2.2.2.2⟩
theorem tp_g_ak {a : Nat → Int32} (g : tp_G N st an rd ak hd kn tr) (h : tp_bk N a) : tp_G N st an rd a hd kn tr := ⟨g.1, g.2.1, g.2.2.1, g.2.2.2.1, g.2.2.2.2.1, h, g.2.2.2.2.2.2⟩
theorem tp_g_hd {a : Nat → Int32} (g : tp_G N st an rd ak hd kn tr) (h : tp_bk N a) : tp_G N st an rd ak a kn tr := ⟨g.1, g.2.1, g.2.2.1, g.2.2.2.1, g.2.2.2.2.1, g.2.2.2.2.2.1, h, g.2.2.2.2.2.2.2⟩
theorem tp_g_kn {a : Nat → Int32} (g : tp_G N st an rd ak hd kn tr) (h : tp_bk N a) : tp_G N st an rd ak hd a tr := ⟨g.1, g.2.1, g.2.2.1, g.2.2.2.1, g.2.2.2.2.1, g.2.2.2.2.2.1, g.2.2.2.2.2.2.1, h, g.2.2.2.2.2.2.2.2⟩
theorem tp_gN (g : tp_G N st an rd ak hd kn tr) : N ≤ 6 := g.2.1
theorem tp_gw (g : tp_G N st an rd ak hd kn tr) : tp_w N tr := g.2.2.2.2.2.2.2.2
theorem tp_g_an0 (g : tp_G N st an rd ak hd kn tr) (i : Nat) : tp_G N st (upd an i 0) rd ak hd kn tr := tp_g_an g (tp_bk_0 g.2.2.2.1 i)
theorem tp_g_rd0 (g : tp_G N st an rd ak hd kn tr) (i : Nat) : tp_G N st an (upd rd i 0) ak hd kn tr := tp_g_rd g (tp_bk_0 g.2.2.2.2.1 i)
theorem tp_g_ak0 (g : tp_G N st an rd ak hd kn tr) (i : Nat) : tp_G N st an rd (upd ak i 0) hd kn tr := tp_g_ak g (tp_bk_0 g.2.2.2.2.2.1 i)
theorem tp_g_hd0 (g : tp_G N st an rd ak hd kn tr) (i : Nat) : tp_G N st an rd ak (upd hd i 0) kn tr := tp_g_hd g (tp_bk_0 g.2.2.2.2.2.2.1 i)
theorem tp_g_anj (g : tp_G N st an rd ak hd kn tr) (i : Nat) (hj : j < N) : tp_G N st (upd an i (an i ||| ((1 : Int32) <<< (nI j &&& 31)))) rd ak hd kn tr := tp_g_an g (tp_bk_j g.2.2.2.1 i hj g.2.1)
theorem tp_g_rdj (g : tp_G N st an rd ak hd kn tr) (i : Nat) (hj : j < N) : tp_G N st an (upd rd i (rd i ||| ((1 : Int32) <<< (nI j &&& 31)))) ak hd kn tr := tp_g_rd g (tp_bk_j g.2.2.2.2.1 i hj g.2.1)
theorem tp_g_akj (g : tp_G N st an rd ak hd kn tr) (i : Nat) (hj : j < N) : tp_G N st an rd (upd ak i (ak i ||| ((1 : Int32) <<< (nI j &&& 31)))) hd kn tr := tp_g_ak g (tp_bk_j g.2.2.2.2.2.1 i hj g.2.1)
theorem tp_g_hdj (g : tp_G N st an rd ak hd kn tr) (i : Nat) (hj : j < N) : tp_G N st an rd ak (upd hd i (hd i ||| ((1 : Int32) <<< (nI j &&& 31)))) kn tr := tp_g_hd g (tp_bk_j g.2.2.2.2.2.2.1 i hj g.2.1)
theorem tp_g_knj (g : tp_G N st an rd ak hd kn tr) (i : Nat) (hj : j < N) : tp_G N st an rd ak hd (upd kn i (kn i ||| ((1 : Int32) <<< (nI j &&& 31)))) tr := tp_g_kn g (tp_bk_j g.2.2.2.2.2.2.2.1 i hj g.2.1)
/-! one message -/
theorem tp_xsend {post : SX → Prop} (hk : kd ≤ 11) (hf : f < 6) (hq : q < 6) (w : tr (100 * kd + 10 * f + q) = 0 ∨ tr (100 * kd + 10 * f + q) = 1) (h : post (tp_x N md st lg ws rl fl an rd ak hd kn (tp_sd md kd f q tr))) : wpX_send post (tp_x N md st lg ws rl fl an rd ak hd kn tr) (nI kd) (nI f) (nI q) := by
  have c : (nI (100 * kd + 10 * f + q)).toNatClampNeg = 100 * kd + 10 * f + q := nI_clamp (by omega)
  have vv : vp_in (nI (100 * kd + 10 * f + q)) 1200 := vp_in_nI (by omega) (by decide)
  unfold tp_sd at h
  simp only [wpX_send, tp_ixc, tp_ci hq, tp_vi hq, c, vv, tp_n1, true_and, and_true, true_implies, false_implies, not_true_eq_false, not_false_eq_true, forall_eq, and_self]
  by_cases e : md q = 1
  · rw [if_pos e] at h
    exact br_t e h
  · rw [if_neg e] at h
    refine br_f e ?_
    rcases w with w | w
    · refine br_t w ?_
      rw [tp_cn_up w (by omega)]
      exact h
    · refine br_f (by rw [w]; decide) ?_
      rw [tp_upd_id w] at h
      exact h
theorem tp_ysend {post : SY → Prop} (hk : kd ≤ 11) (hf : f < 6) (hq : q < 6) (h : post (tp_y N md st lg ws rl fl an rd ak hd kn (tp_sd md kd f q tr))) : wpY_send post (tp_y N md st lg ws rl fl an rd ak hd kn tr) (nI kd) (nI f) (nI q) := by
  have c : (nI (100 * kd + 10 * f + q)).toNatClampNeg = 100 * kd + 10 * f + q := nI_clamp (by omega)
  have vv : vp_in (nI (100 * kd + 10 * f + q)) 1200 := vp_in_nI (by omega) (by decide)
  unfold tp_sd at h
  simp only [wpY_send, tp_ixc, tp_ci hq, tp_vi hq, c, vv, tp_n1, true_and, and_true, true_implies, false_implies, not_true_eq_false, not_false_eq_true, forall_eq, and_self]
  by_cases e : md q = 1
  · rw [if_pos e] at h
    exact br_t e h
  · rw [if_neg e] at h
    exact br_f e h
theorem tp_w01 {t : Nat → Int32} (w : tp_w N t) (p : Nat) : t p = 0 ∨ t p = 1 := (w p).imp id And.left
/-! loops of messages -/
theorem tp_xsts {post : SX → Prop} {s : Int32} (h1 : 1 ≤ kd) (hk : kd ≤ 11) (hf : f < N) (hN : N ≤ 6) (w : tp_w N tr) (h : post (tp_x N md st lg ws rl fl an rd ak hd kn (tp_s md kd f (bt s) tr N))) : wpX_sendToSet post (tp_x N md st lg ws rl fl an rd ak hd kn tr) (nI kd) (nI f) s := by
  refine tp_lp0 (fun n j => wX_sendToSet_3 post (nI kd) (nI f) s n (nI j) (nI N) (nI (2 ^ N - 1)) (nI (tp_cn (tp_s md kd f (bt s) tr j))) md st lg ws rl fl an rd ak hd kn (tp_s md kd f (bt s) tr j)) N ?_ ?_
  · intro n
    exact br_t (nI_le (Nat.le_refl N) (by omega)) h
  · intro n j hj ih
    have wj := tp_s_w (P := bt s) (md := md) w h1 hk hf j (by omega)
    refine br_f (nI_ge hj (by omega)) ?_
    by_cases e : j = f
    · have e2 : tp_s md kd f (bt s) tr (j + 1) = tp_s md kd f (bt s) tr j := by rw [tp_s_s, if_pos e]
      simp only [e2] at ih
      exact br_t (congrArg nI e) (nm_r (nI_1 j) ih)
    · refine br_f (fun z => e ((nI_eq (by omega) (by omega)).mp z)) ?_
      refine tp_xhas (by omega) ?_
      by_cases b : bt s j = true
      · have e2 : tp_s md kd f (bt s) tr (j + 1) = tp_sd md kd f j (tp_s md kd f (bt s) tr j) := by rw [tp_s_s, if_neg e, if_pos b]
        simp only [e2] at ih
        refine br_f (tp_b1.mpr b) ?_
        exact tp_xsend hk (by omega) (by omega) (tp_w01 wj _) (nm_r (nI_1 j) ih)
      · have e2 : tp_s md kd f (bt s) tr (j + 1) = tp_s md kd f (bt s) tr j := by rw [tp_s_s, if_neg e, if_neg b]
        simp only [e2] at ih
        exact br_t (tp_b0.mpr (Bool.eq_false_iff.mpr b)) (nm_r (nI_1 j) ih)
theorem tp_ysa {post : SY → Prop} (hk : kd ≤ 11) (hf : f < N) (hN : N ≤ 6) (h : post (tp_y N md st lg ws rl fl an rd ak hd kn (tp_s md kd f (fun _ => true) tr N))) : wpY_sendAll post (tp_y N md st lg ws rl fl an rd ak hd kn tr) (nI kd) (nI f) := by
  refine tp_lp0 (fun n j => wY_sendAll_2 post (nI kd) (nI f) n (nI j) (nI N) st md lg rl fl ws (tp_q (tp_F an rd ak hd kn)) (tp_s md kd f (fun _ => true) tr j)) N ?_ ?_
  · intro n
    exact br_t (nI_le (Nat.le_refl N) (by omega)) h
  · intro n j hj ih
    refine br_f (nI_ge hj (by omega)) ?_
    by_cases e : j = f
    · have e2 : tp_s md kd f (fun _ => true) tr (j + 1) = tp_s md kd f (fun _ => true) tr j := by rw [tp_s_s, if_pos e]
      simp only [e2] at ih
      exact br_t (congrArg nI e) (nm_r (nI_1 j) ih)
    · refine br_f (fun z => e ((nI_eq (by omega) (by omega)).mp z)) ?_
      have e2 : tp_s md kd f (fun _ => true) tr (j + 1) = tp_sd md kd f j (tp_s md kd f (fun _ => true) tr j) := by rw [tp_s_s, if_neg e, if_pos rfl]
      simp only [e2] at ih
      exact tp_ysend hk (by omega) (by omega) (nm_r (nI_1 j) ih)
theorem tp_ysu {post : SY → Prop} (hk : kd ≤ 11) (hf : f < N) (hN : N ≤ 6) (h : post (tp_y N md st lg ws rl fl an rd ak hd kn (tp_s md kd f (fun j => !bt (kn f) j) tr N))) : wpY_sendUnknown post (tp_y N md st lg ws rl fl an rd ak hd kn tr) (nI kd) (nI f) := by
  refine tp_lp0 (fun n j => wY_sendUnknown_2 post (nI kd) (nI f) n (nI j) (nI N) st md lg rl fl ws (tp_q (tp_F an rd ak hd kn)) (tp_s md kd f (fun j => !bt (kn f) j) tr j)) N ?_ ?_
  · intro n
    exact br_t (nI_le (Nat.le_refl N) (by omega)) h
  · intro n j hj ih
    refine br_f (nI_ge hj (by omega)) ?_
    by_cases e : j = f
    · have e2 : tp_s md kd f (fun j => !bt (kn f) j) tr (j + 1) = tp_s md kd f (fun j => !bt (kn f) j) tr j := by rw [tp_s_s, if_pos e]
      simp only [e2] at ih
      exact br_t (congrArg nI e) (nm_r (nI_1 j) ih)
    · refine br_f (fun z => e ((nI_eq (by omega) (by omega)).mp z)) ?_
      refine tp_yh4 (by omega) (by omega) ?_
      cases b : bt (kn f) j
      · have e2 : tp_s md kd f (fun j => !bt (kn f) j) tr (j + 1) = tp_sd md kd f j (tp_s md kd f (fun j => !bt (kn f) j) tr j) := by rw [tp_s_s, if_neg e, if_pos (by rw [b]; rfl)]
        simp only [e2] at ih
        refine br_t rfl ?_
        exact tp_ysend hk (by omega) (by omega) (nm_r (nI_1 j) ih)
      · have e2 : tp_s md kd f (fun j => !bt (kn f) j) tr (j + 1) = tp_s md kd f (fun j => !bt (kn f) j) tr j := by rw [tp_s_s, if_neg e, if_neg (by rw [b]; decide)]
        simp only [e2] at ih
        exact br_f (by decide) (nm_r (nI_1 j) ih)
/-! the reference's sets: out, in, read -/
theorem tp_yew {post : SY → Prop} {p0 : Int32} (w : Nat) (hp : p0 = nI w) (hw : w < 5) (hi : i < 6) (h : post (nI N, st, md, lg, rl, fl, ws, tp_e (tp_q (tp_F an rd ak hd kn)) (36 * w + 6 * i) 6, tr)) : wpY_empty post (tp_y N md st lg ws rl fl an rd ak hd kn tr) p0 (nI i) := by
  refine tp_lp0 (fun n j => wY_empty_2 post p0 (nI i) (nI N) n (nI j) st md lg rl fl ws (tp_e (tp_q (tp_F an rd ak hd kn)) (36 * w + 6 * i) j) tr) 6 ?_ ?_
  · intro n
    exact br_t (nI_le (a := 6) (Nat.le_refl 6) (by decide)) h
  · intro n j hj ih
    have c : (nI (36 * w + 6 * i + j)).toNatClampNeg = 36 * w + 6 * i + j := nI_clamp (by omega)
    have vv : vp_in (nI (36 * w + 6 * i + j)) 180 := vp_in_nI (by omega) (by decide)
    refine br_f (nI_ge (b := 6) hj (by decide)) ?_
    simp only [tp_ixs hp, c, vv, tp_n0, nI_1, true_and, and_true, true_implies, false_implies, not_true_eq_false, not_false_eq_true, forall_eq, and_self]
    exact ih
theorem tp_ye0 {post : SY → Prop} (hi : i < 6) (h : post (tp_y N md st lg ws rl fl (upd an i 0) rd ak hd kn tr)) : wpY_empty post (tp_y N md st lg ws rl fl an rd ak hd kn tr) 0 (nI i) := tp_yew 0 rfl (by decide) hi (by rw [tp_q_clr hi tp_F0 (pk_us : upd an i 0 i = 0)]; exact h)
theorem tp_ye1 {post : SY → Prop} (hi : i < 6) (h : post (tp_y N md st lg ws rl fl an (upd rd i 0) ak hd kn tr)) : wpY_empty post (tp_y N md st lg ws rl fl an rd ak hd kn tr) 1 (nI i) := tp_yew 1 rfl (by decide) hi (by rw [tp_q_clr hi tp_F1 (pk_us : upd rd i 0 i = 0)]; exact h)
theorem tp_ye2 {post : SY → Prop} (hi : i < 6) (h : post (tp_y N md st lg ws rl fl an rd (upd ak i 0) hd kn tr)) : wpY_empty post (tp_y N md st lg ws rl fl an rd ak hd kn tr) 2 (nI i) := tp_yew 2 rfl (by decide) hi (by rw [tp_q_clr hi tp_F2 (pk_us : upd ak i 0 i = 0)]; exact h)
theorem tp_ye3 {post : SY → Prop} (hi : i < 6) (h : post (tp_y N md st lg ws rl fl an rd ak (upd hd i 0) kn tr)) : wpY_empty post (tp_y N md st lg ws rl fl an rd ak hd kn tr) 3 (nI i) := tp_yew 3 rfl (by decide) hi (by rw [tp_q_clr hi tp_F3 (pk_us : upd hd i 0 i = 0)]; exact h)
theorem tp_yjw {post : SY → Prop} {p0 : Int32} (w : Nat) (hp : p0 = nI w) (hw : w < 5) (hi : i < 6) (hj : j < 6) (h : post (nI N, st, md, lg, rl, fl, ws, upd (tp_q (tp_F an rd ak hd kn)) (36 * w + 6 * i + j) 1, tr)) : wpY_join post (tp_y N md st lg ws rl fl an rd ak hd kn tr) p0 (nI i) (nI j) := by
  have c : (nI (36 * w + 6 * i + j)).toNatClampNeg = 36 * w + 6 * i + j := nI_clamp (by omega)
  have vv : vp_in (nI (36 * w + 6 * i + j)) 180 := vp_in_nI (by omega) (by decide)
  simp only [wpY_join, tp_ixs hp, c, vv, tp_n1, true_and, and_true, true_implies, false_implies, not_true_eq_false, not_false_eq_true, forall_eq, and_self]
  exact h
theorem tp_yj0 {post : SY → Prop} (hi : i < 6) (hj : j < 6) (h : post (tp_y N md st lg ws rl fl (upd an i (an i ||| ((1 : Int32) <<< (nI j &&& 31)))) rd ak hd kn tr)) : wpY_join post (tp_y N md st lg ws rl fl an rd ak hd kn tr) 0 (nI i) (nI j) := tp_yjw 0 rfl (by decide) hi hj (by rw [tp_q_set hi hj tp_F0 (pk_us : upd an i (an i ||| ((1 : Int32) <<< (nI j &&& 31))) i = _)]; exact h)
theorem tp_yj1 {post : SY → Prop} (hi : i < 6) (hj : j < 6) (h : post (tp_y N md st lg ws rl fl an (upd rd i (rd i ||| ((1 : Int32) <<< (nI j &&& 31)))) ak hd kn tr)) : wpY_join post (tp_y N md st lg ws rl fl an rd ak hd kn tr) 1 (nI i) (nI j) := tp_yjw 1 rfl (by decide) hi hj (by rw [tp_q_set hi hj tp_F1 (pk_us : upd rd i (rd i ||| ((1 : Int32) <<< (nI j &&& 31))) i = _)]; exact h)
theorem tp_yj2 {post : SY → Prop} (hi : i < 6) (hj : j < 6) (h : post (tp_y N md st lg ws rl fl an rd (upd ak i (ak i ||| ((1 : Int32) <<< (nI j &&& 31)))) hd kn tr)) : wpY_join post (tp_y N md st lg ws rl fl an rd ak hd kn tr) 2 (nI i) (nI j) := tp_yjw 2 rfl (by decide) hi hj (by rw [tp_q_set hi hj tp_F2 (pk_us : upd ak i (ak i ||| ((1 : Int32) <<< (nI j &&& 31))) i = _)]; exact h)
theorem tp_yj3 {post : SY → Prop} (hi : i < 6) (hj : j < 6) (h : post (tp_y N md st lg ws rl fl an rd ak (upd hd i (hd i ||| ((1 : Int32) <<< (nI j &&& 31)))) kn tr)) : wpY_join post (tp_y N md st lg ws rl fl an rd ak hd kn tr) 3 (nI i) (nI j) := tp_yjw 3 rfl (by decide) hi hj (by rw [tp_q_set hi hj tp_F3 (pk_us : upd hd i (hd i ||| ((1 : Int32) <<< (nI j &&& 31))) i = _)]; exact h)
theorem tp_yj4 {post : SY → Prop} (hi : i < 6) (hj : j < 6) (h : post (tp_y N md st lg ws rl fl an rd ak hd (upd kn i (kn i ||| ((1 : Int32) <<< (nI j &&& 31)))) tr)) : wpY_join post (tp_y N md st lg ws rl fl an rd ak hd kn tr) 4 (nI i) (nI j) := tp_yjw 4 rfl (by decide) hi hj (by rw [tp_q_set hi hj tp_F4 (pk_us : upd kn i (kn i ||| ((1 : Int32) <<< (nI j &&& 31))) i = _)]; exact h)
end
/-- the mask that the reference shows -/
def tp_m (x : Int32) : Nat → Int32
  | 0 => 0
  | j + 1 => if bt x j = true then tp_m x j + ((1 : Int32) <<< (nI j &&& 31)) else tp_m x j
theorem tp_m_all : ∀ N, N < 7 → ∀ k, k < 2 ^ N → tp_m (nI k) N = nI k := by decide +kernel
theorem tp_nat {x : Int32} {N : Nat} (h : ∀ j, bt x j = true → j < N) : ∃ k, k < 2 ^ N ∧ x = nI k := by
  refine ⟨x.toBitVec.toNat, ?_, ?_⟩
  · apply Nat.lt_pow_two_of_testBit
    intro i hi
    cases hb : x.toBitVec.toNat.testBit i
    · rfl
    · have : i < N := h i hb
      omega
  · apply Int32.toBitVec_inj.1
    show x.toBitVec = BitVec.ofNat 32 x.toBitVec.toNat
    simp
theorem tp_m_id {x : Int32} {N : Nat} (h : ∀ j, bt x j = true → j < N) (hN : N ≤ 6) : tp_m x N = x := by
  obtain ⟨k, hk, rfl⟩ := tp_nat h
  exact tp_m_all N (by omega) k hk
section
variable {N : Nat} {md st lg ws rl fl an rd ak hd kn tr : Nat → Int32} {i : Nat}
theorem tp_ymw {post : Int32 → Prop} {p1 : Int32} (w : Nat) (hp : p1 = nI w) (hw : w < 5) (hi : i < N) (hN : N ≤ 6) (hb : ∀ j, bt (tp_F an rd ak hd kn w i) j = true → j < N) (h : post (tp_F an rd ak hd kn w i)) : wpY_members post (tp_y N md st lg ws rl fl an rd ak hd kn tr) (nI i) p1 := by
  unfold wpY_members
  dsimp only
  refine tp_yin hi hN ?_
  refine br_t rfl ?_
  rw [hp]
  refine br_f (nI_pos (by omega)) (br_t (nI_le (b := 4) (by omega) (by decide)) ?_)
  refine tp_lp0 (fun n j => wY_members_24 post (nI i) (nI w) (nI N) st md lg rl fl ws (tp_q (tp_F an rd ak hd kn)) tr n (tp_m (tp_F an rd ak hd kn w i) j) (nI j)) N ?_ ?_
  · intro n
    refine br_t (nI_le (Nat.le_refl N) (by omega)) ?_
    rw [tp_m_id hb hN]
    exact h
  · intro n j hj ih
    refine br_f (nI_ge hj (by omega)) ?_
    refine tp_yhw w rfl hw (by omega) (by omega) ?_
    by_cases b : bt (tp_F an rd ak hd kn w i) j = true
    · have e2 : tp_m (tp_F an rd ak hd kn w i) (j + 1) = tp_m (tp_F an rd ak hd kn w i) j + ((1 : Int32) <<< (nI j &&& 31)) := if_pos b
      simp only [e2] at ih
      exact br_f (tp_b1.mpr b) (nm_e (nm_r (nI_1 j) ih))
    · have e2 : tp_m (tp_F an rd ak hd kn w i) (j + 1) = tp_m (tp_F an rd ak hd kn w i) j := if_neg b
      simp only [e2] at ih
      exact br_t (tp_b0.mpr (Bool.eq_false_iff.mpr b)) (nm_r (nI_1 j) ih)
end
end
section
section
variable {N : Nat} {md st lg ws rl fl an rd ak hd kn tr : Nat → Int32} {i j kd f q : Nat} {v : Int32} {kX : (Int32 → SX → Prop) → SX → Prop} {kY : (Int32 → SY → Prop) → SY → Prop}
theorem tp_sendh (g : tp_G N st an rd ak hd kn tr) (h1 : 1 ≤ kd) (h2 : kd ≤ 11) (hf : f < N) (hq : q < N) (h : tp_L N (fun post => kX post (tp_x N md st lg ws rl fl an rd ak hd kn (tp_sd md kd f q tr))) (fun post => kY post (tp_y N md st lg ws rl fl an rd ak hd kn (tp_sd md kd f q tr)))) : tp_L N (fun post => wpX_send (kX post) (tp_x N md st lg ws rl fl an rd ak hd kn tr) (nI kd) (nI f) (nI q)) (fun post => wpY_send (kY post) (tp_y N md st lg ws rl fl an rd ak hd kn tr) (nI kd) (nI f) (nI q)) := by
  have hN := g.2.1
  exact tp_imp (fun post p => tp_xsend h2 (by omega) (by omega) (tp_w01 (tp_gw g) _) p) (fun post p => tp_ysend h2 (by omega) (by omega) p) h
theorem tp_sendK (g : tp_G N st an rd ak hd kn tr) (h1 : 1 ≤ kd) (h2 : kd ≤ 11) (hf : f < N) (hq : q < N) (K : tp_K N kX kY) : tp_L N (fun post => wpX_send (kX post) (tp_x N md st lg ws rl fl an rd ak hd kn tr) (nI kd) (nI f) (nI q)) (fun post => wpY_send (kY post) (tp_y N md st lg ws rl fl an rd ak hd kn tr) (nI kd) (nI f) (nI q)) :=
  tp_sendh g h1 h2 hf hq (K md st lg ws rl fl an rd ak hd kn (tp_sd md kd f q tr) (tp_g_tr g (tp_sd_w (tp_gw g) h1 h2 hf hq)))
theorem tp_xun (hN : N ≤ 6) : tp_s md kd f (bt (nI (2 ^ N - 1) &&& (kn f ^^^ (-1)))) tr N = tp_s md kd f (fun j => !bt (kn f) j) tr N :=
  tp_s_c N (fun l hl => by rw [b_and, tp_all N (by omega) l (by omega), decide_eq_true hl, Bool.true_and, tp_not _ (by omega)])
theorem tp_xal (hN : N ≤ 6) : tp_s md kd f (bt (nI (2 ^ N - 1))) tr N = tp_s md kd f (fun _ => true) tr N :=
  tp_s_c N (fun l hl => by rw [tp_all N (by omega) l (by omega), decide_eq_true hl])
theorem tp_stsu (g : tp_G N st an rd ak hd kn tr) (h1 : 1 ≤ kd) (h2 : kd ≤ 11) (hf : f < N) (h : tp_L N (fun post => kX post (tp_x N md st lg ws rl fl an rd ak hd kn (tp_s md kd f (fun j => !bt (kn f) j) tr N))) (fun post => kY post (tp_y N md st lg ws rl fl an rd ak hd kn (tp_s md kd f (fun j => !bt (kn f) j) tr N)))) : tp_L N (fun post => wpX_sendToSet (kX post) (tp_x N md st lg ws rl fl an rd ak hd kn tr) (nI kd) (nI f) (nI (2 ^ N - 1) &&& (kn f ^^^ (-1)))) (fun post => wpY_sendUnknown (kY post) (tp_y N md st lg ws rl fl an rd ak hd kn tr) (nI kd) (nI f)) := by
  have hN := g.2.1
  refine tp_imp (fun post p => tp_xsts h1 h2 hf hN (tp_gw g) ?_) (fun post p => tp_ysu h2 hf hN p) h
  rw [tp_xun hN]
  exact p
theorem tp_stsa (g : tp_G N st an rd ak hd kn tr) (h1 : 1 ≤ kd) (h2 : kd ≤ 11) (hf : f < N) (h : tp_L N (fun post => kX post (tp_x N md st lg ws rl fl an rd ak hd kn (tp_s md kd f (fun _ => true) tr N))) (fun post => kY post (tp_y N md st lg ws rl fl an rd ak hd kn (tp_s md kd f (fun _ => true) tr N)))) : tp_L N (fun post => wpX_sendToSet (kX post) (tp_x N md st lg ws rl fl an rd ak hd kn tr) (nI kd) (nI f) (nI (2 ^ N - 1))) (fun post => wpY_sendAll (kY post) (tp_y N md st lg ws rl fl an rd ak hd kn tr) (nI kd) (nI f)) := by
  have hN := g.2.1
  refine tp_imp (fun post p => tp_xsts h1 h2 hf hN (tp_gw g) ?_) (fun post p => tp_ysa h2 hf hN p) h
  rw [tp_xal hN]
  exact p
theorem tp_g_s {P : Nat → Bool} (g : tp_G N st an rd ak hd kn tr) (h1 : 1 ≤ kd) (h2 : kd ≤ 11) (hf : f < N) : tp_G N st an rd ak hd kn (tp_s md kd f P tr N) := tp_g_tr g (tp_s_w (tp_gw g) h1 h2 hf N (Nat.le_refl N))
/-! decide -/
def tp_r4 (rl : Nat → Int32) (i : Nat) : Nat → Int32 := if rl i = 0 then rl else upd rl i 4
def tp_P (md rl kn ak : Nat → Int32) (i j : Nat) : Bool := decide (md i = 2) || (!decide (rl i = 0) && !bt (kn i) j) || bt (ak i) j
theorem tp_xcl {post : SX → Prop} (hi : i < 6) (h : post (tp_x N md st lg ws rl fl (upd an i 0) (upd rd i 0) (upd ak i 0) (upd hd i 0) kn tr)) : wpX_clearSets post (tp_x N md st lg ws rl fl an rd ak hd kn tr) (nI i) := by
  simp only [wpX_clearSets, tp_ci hi, tp_vi hi, true_and, and_true, true_implies, false_implies, not_true_eq_false, not_false_eq_true, forall_eq, and_self]
  exact h
theorem tp_x70 {post : SX → Prop} {x3 : Int32} {Q : Nat → Bool} (hi : i < N) (hN : N ≤ 6) (w : tp_w N tr) (hQ : ∀ j, j < N → bt x3 j = Q j) (h : post (tp_x N md st lg ws rl fl (upd an i 0) (upd rd i 0) (upd ak i 0) (upd hd i 0) kn (tp_s md (tp_kd st i) i Q tr N))) : wX_decide_70 post (nI i) x3 (nI N) (nI (2 ^ N - 1)) (nI (tp_cn tr)) md st lg ws rl fl an rd ak hd kn tr := by
  have hi6 : i < 6 := by omega
  unfold wX_decide_70
  refine tp_xkd hi6 ?_
  refine tp_xsts (tp_kd_le st i).1 (tp_kd_le st i).2 hi hN w ?_
  rw [tp_s_c N hQ]
  exact tp_xcl hi6 h
theorem tp_x38 {post : SX → Prop} {x3 : Int32} {Q : Nat → Bool} (hi : i < N) (hN : N ≤ 6) (w : tp_w N tr) (hQ : ∀ j, j < N → Q j = (bt x3 j || (!decide (rl i = 0) && !bt (kn i) j))) (h : post (tp_x N md st lg ws (tp_r4 rl i) fl (upd an i 0) (upd rd i 0) (upd ak i 0) (upd hd i 0) kn (tp_s md (tp_kd st i) i Q tr N))) : wX_decide_38 post (nI i) x3 (nI N) (nI (2 ^ N - 1)) (nI (tp_cn tr)) md st lg ws rl fl an rd ak hd kn tr := by
  have hi6 : i < 6 := by omega
  simp only [wX_decide_38, tp_ci hi6, tp_vi hi6, true_and, and_true, true_implies, false_implies, not_true_eq_false, not_false_eq_true, forall_eq, and_self]
  unfold tp_r4 at h
  by_cases e : rl i = 0
  · rw [if_pos e] at h
    refine br_t e (tp_x70 hi hN w (fun l hl => ?_) h)
    rw [hQ l hl, decide_eq_true e]
    simp
  · rw [if_neg e] at h
    refine br_f e (tp_x70 hi hN w (fun l hl => ?_) h)
    rw [hQ l hl, decide_eq_false e, b_or, b_and, tp_all N (by omega) l (by omega), decide_eq_true hl, tp_not _ (by omega)]
    simp
theorem tp_xdec {post : SX → Prop} (hi : i < N) (hN : N ≤ 6) (w : tp_w N tr) (hdc : tp_dc st i = false) (h : post (tp_x N md (upd st i v) lg ws (tp_r4 rl i) fl (upd an i 0) (upd rd i 0) (upd ak i 0) (upd hd i 0) kn (tp_s md (tp_kd (upd st i v) i) i (tp_P md rl kn ak i) tr N))) : wpX_decide post (tp_x N md st lg ws rl fl an rd ak hd kn tr) (nI i) v := by
  have hi6 : i < 6 := by omega
  unfold wpX_decide
  dsimp only
  refine tp_xdd hi6 ?_
  rw [hdc]
  refine br_t rfl ?_
  simp only [tp_ci hi6, tp_vi hi6, true_and, and_true, true_implies, false_implies, not_true_eq_false, not_false_eq_true, forall_eq, and_self]
  by_cases e : md i = 2
  · refine br_t e (tp_x38 hi hN w (fun l hl => ?_) h)
    unfold tp_P
    rw [decide_eq_true e, tp_all N (by omega) l (by omega), decide_eq_true hl]
    simp
  · refine br_f e (tp_x38 hi hN w (fun l hl => ?_) h)
    unfold tp_P
    rw [decide_eq_false e, Bool.false_or, Bool.or_comm]
theorem tp_y98 {J : Int32 → Int32 → (Nat → Int32) → (Nat → Int32) → (Nat → Int32) → (Nat → Int32) → (Nat → Int32) → (Nat → Int32) → (Nat → Int32) → (Nat → Int32) → Prop} {post : SY → Prop} {a b : Bool} (hk : kd ≤ 11) (hi : i < 6) (hj : j < 6)
    (h : J (nI (j + 1)) (nI N) st md lg rl fl ws (tp_q (tp_F an rd ak hd kn)) (if (a || b || bt (ak i) j) = true then tp_sd md kd i j tr else tr)) : wY_decide_98 post J (nI i) (nI kd) (nI j) (tp_b a) (tp_b b) (nI N) st md lg rl fl ws (tp_q (tp_F an rd ak hd kn)) tr := by
  unfold wY_decide_98
  refine tp_yh2 hi hj ?_
  by_cases hP : (a || b || bt (ak i) j) = true
  · rw [if_pos hP] at h
    have hs : wY_decide_125 post J (nI i) (nI kd) (nI j) (nI N) st md lg rl fl ws (tp_q (tp_F an rd ak hd kn)) tr := by
      unfold wY_decide_125
      exact tp_ysend hk hi hj (nm_r (nI_1 j) h)
    refine br_c (fun ha => br_c (fun hb => br_c (fun hc => ?_) (fun _ => hs)) (fun _ => hs)) (fun _ => hs)
    rw [tp_b0.mp ha, tp_b0.mp hb, tp_b0.mp hc] at hP
    exact nomatch hP
  · rw [if_neg hP] at h
    have hP' := Bool.eq_false_iff.mpr hP
    rw [Bool.or_eq_false_iff, Bool.or_eq_false_iff] at hP'
    exact br_t (tp_b0.mpr hP'.1.1) (br_t (tp_b0.mpr hP'.1.2) (br_t (tp_b0.mpr hP'.2) (nm_r (nI_1 j) h)))
theorem tp_y71 {J : Int32 → Int32 → (Nat → Int32) → (Nat → Int32) → (Nat → Int32) → (Nat → Int32) → (Nat → Int32) → (Nat → Int32) → (Nat → Int32) → (Nat → Int32) → Prop} {post : SY → Prop} {a : Bool} (hk : kd ≤ 11) (hi : i < 6) (hj : j < 6)
    (h : J (nI (j + 1)) (nI N) st md lg rl fl ws (tp_q (tp_F an rd ak hd kn)) (if (a || (!decide (rl i = 0) && !bt (kn i) j) || bt (ak i) j) = true then tp_sd md kd i j tr else tr)) : wY_decide_71 post J (nI i) (nI kd) (nI j) (tp_b a) (nI N) st md lg rl fl ws (tp_q (tp_F an rd ak hd kn)) tr := by
  simp only [wY_decide_71, tp_ci hi, tp_vi hi, true_and, and_true, true_implies, false_implies, not_true_eq_false, not_false_eq_true, forall_eq, and_self]
  by_cases e : rl i = 0
  · refine br_t e ?_
    rw [decide_eq_true e] at h
    unfold wY_decide_97
    exact tp_y98 (b := false) hk hi hj h
  · refine br_f e ?_
    rw [decide_eq_false e] at h
    refine tp_yh4 hi hj ?_
    cases hb : bt (kn i) j
    · rw [hb] at h
      exact br_t rfl (tp_y98 (b := true) hk hi hj h)
    · rw [hb] at h
      refine br_f (by decide) ?_
      unfold wY_decide_97
      exact tp_y98 (b := false) hk hi hj h
theorem tp_y41 {post : SY → Prop} (hi : i < N) (hN : N ≤ 6) (hk : kd ≤ 11) (h : post (tp_y N md st lg ws rl fl (upd an i 0) (upd rd i 0) (upd ak i 0) (upd hd i 0) kn (tp_s md kd i (tp_P md rl kn ak i) tr N))) : ∃ n, wY_decide_41 post (nI i) (nI kd) n 0 (nI N) st md lg rl fl ws (tp_q (tp_F an rd ak hd kn)) tr := by
  have hi6 : i < 6 := by omega
  refine tp_lp0 (fun n j => wY_decide_41 post (nI i) (nI kd) n (nI j) (nI N) st md lg rl fl ws (tp_q (tp_F an rd ak hd kn)) (tp_s md kd i (tp_P md rl kn ak i) tr j)) N ?_ ?_
  · intro n
    refine br_t (nI_le (Nat.le_refl N) (by omega)) ?_
    exact tp_ye0 hi6 (tp_ye1 hi6 (tp_ye2 hi6 (tp_ye3 hi6 h)))
  · intro n j hj ih
    refine br_f (nI_ge hj (by omega)) ?_
    by_cases e : j = i
    · have e2 : tp_s md kd i (tp_P md rl kn ak i) tr (j + 1) = tp_s md kd i (tp_P md rl kn ak i) tr j := by rw [tp_s_s, if_pos e]
      simp only [e2] at ih
      exact br_t (congrArg nI e) (nm_r (nI_1 j) ih)
    · refine br_f (fun z => e ((nI_eq (by omega) (by omega)).mp z)) ?_
      simp only [tp_s_s, if_neg e] at ih
      simp only [tp_ci hi6, tp_vi hi6, true_and, and_true, true_implies, false_implies, not_true_eq_false, not_false_eq_true, forall_eq, and_self]
      by_cases em : md i = 2
      · refine br_t em (tp_y71 (a := true) hk hi6 (by omega) ?_)
        have eP : tp_P md rl kn ak i j = (true || (!decide (rl i = 0) && !bt (kn i) j) || bt (ak i) j) := by unfold tp_P; rw [decide_eq_true em]
        rw [eP] at ih
        exact ih
      · refine br_f em (tp_y71 (a := false) hk hi6 (by omega) ?_)
        have eP : tp_P md rl kn ak i j = (false || (!decide (rl i = 0) && !bt (kn i) j) || bt (ak i) j) := by unfold tp_P; rw [decide_eq_false em]
        rw [eP] at ih
        exact ih
theorem tp_P_r (e : ¬ rl i = 0) : tp_P md (upd rl i 4) kn ak i = tp_P md rl kn ak i := by
  have h4 : ¬ upd rl i 4 i = 0 := by rw [pk_us]; decide
  funext j
  unfold tp_P
  rw [decide_eq_false h4, decide_eq_false e]
theorem tp_ydec {post : SY → Prop} (hi : i < N) (hN : N ≤ 6) (hdc : tp_dc st i = false) (h : post (tp_y N md (upd st i v) lg ws (tp_r4 rl i) fl (upd an i 0) (upd rd i 0) (upd ak i 0) (upd hd i 0) kn (tp_s md (tp_kd (upd st i v) i) i (tp_P md rl kn ak i) tr N))) : wpY_decide post (tp_y N md st lg ws rl fl an rd ak hd kn tr) (nI i) v := by
  have hi6 : i < 6 := by omega
  unfold wpY_decide
  dsimp only
  refine tp_ydd hi6 ?_
  rw [hdc]
  refine br_t rfl ?_
  simp only [tp_ci hi6, tp_vi hi6, true_and, and_true, true_implies, false_implies, not_true_eq_false, not_false_eq_true, forall_eq, and_self]
  unfold tp_r4 at h
  by_cases e : rl i = 0
  · rw [if_pos e] at h
    refine br_t e ?_
    unfold wY_decide_32
    refine tp_ykd hi6 ?_
    exact tp_y41 hi hN (tp_kd_le _ _).2 h
  · rw [if_neg e] at h
    refine br_f e ?_
    unfold wY_decide_32
    refine tp_ykd hi6 ?_
    refine tp_y41 hi hN (tp_kd_le _ _).2 ?_
    rw [tp_P_r e]
    exact h
theorem tp_decK (g : tp_G N st an rd ak hd kn tr) (hi : i < N) (hv : v = 3 ∨ v = 4) (K : tp_K N kX kY) : tp_L N (fun post => wpX_decide (kX post) (tp_x N md st lg ws rl fl an rd ak hd kn tr) (nI i) v) (fun post => wpY_decide (kY post) (tp_y N md st lg ws rl fl an rd ak hd kn tr) (nI i) v) := by
  have hN := g.2.1
  have hi6 : i < 6 := by omega
  cases hdc : tp_dc st i
  · refine tp_imp (fun post p => tp_xdec hi hN (tp_gw g) hdc p) (fun post p => tp_ydec hi hN hdc p) (K md (upd st i v) lg ws (tp_r4 rl i) fl (upd an i 0) (upd rd i 0) (upd ak i 0) (upd hd i 0) kn (tp_s md (tp_kd (upd st i v) i) i (tp_P md rl kn ak i) tr N) ?_)
    have hv5 : v = 0 ∨ v = 1 ∨ v = 2 ∨ v = 3 ∨ v = 4 := Or.inr (Or.inr (Or.inr hv))
    exact tp_g_s (tp_g_hd0 (tp_g_ak0 (tp_g_rd0 (tp_g_an0 (tp_g_st g hv5) i) i) i) i) (tp_kd_le _ _).1 (tp_kd_le _ _).2 hi
  · refine tp_imp (WX' := fun post => kX post (tp_x N md st lg ws rl fl an rd ak hd kn tr)) (WY' := fun post => kY post (tp_y N md st lg ws rl fl an rd ak hd kn tr)) (fun post p => ?_) (fun post p => ?_) (K md st lg ws rl fl an rd ak hd kn tr g)
    · unfold wpX_decide
      dsimp only
      refine tp_xdd hi6 ?_
      rw [hdc]
      exact br_f (by decide) p
    · unfold wpY_decide
      dsimp only
      refine tp_ydd hi6 ?_
      rw [hdc]
      exact br_f (by decide) p
end
end
section
section
variable {N : Nat} {md st lg ws rl fl an rd ak hd kn tr : Nat → Int32} {i j kd f q : Nat} {v : Int32} {kX : (Int32 → SX → Prop) → SX → Prop} {kY : (Int32 → SY → Prop) → SY → Prop}
theorem tp_xd0 {post : Int32 → Prop} (hi : i < 6) (hdc : tp_dc st i = false) (h : post 0) : wpX_isDecided post (tp_x N md st lg ws rl fl an rd ak hd kn tr) (nI i) := tp_xdd hi (by rw [hdc]; exact h)
theorem tp_xd1 {post : Int32 → Prop} (hi : i < 6) (hdc : tp_dc st i = true) (h : post 1) : wpX_isDecided post (tp_x N md st lg ws rl fl an rd ak hd kn tr) (nI i) := tp_xdd hi (by rw [hdc]; exact h)
theorem tp_yd0 {post : Int32 → Prop} (hi : i < 6) (hdc : tp_dc st i = false) (h : post 0) : wpY_decided post (tp_y N md st lg ws rl fl an rd ak hd kn tr) (nI i) := tp_ydd hi (by rw [hdc]; exact h)
theorem tp_yd1 {post : Int32 → Prop} (hi : i < 6) (hdc : tp_dc st i = true) (h : post 1) : wpY_decided post (tp_y N md st lg ws rl fl an rd ak hd kn tr) (nI i) := tp_ydd hi (by rw [hdc]; exact h)
/-! the component's conditions on sets -/
theorem tp_xob (hN : N ≤ 6) (hi : i < N) (j : Nat) (hj : j < 32) : bt (nI (2 ^ N - 1) &&& (((1 : Int32) <<< (nI i &&& 31)) ^^^ (-1))) j = (decide (j < N) && !decide (j = i)) := by
  rw [b_and, tp_all N (by omega) j hj, tp_not _ hj, tp_1s i (by omega) j hj]
theorem tp_c1 (hN : N ≤ 6) (hi : i < N) (x : Int32) : ((nI (2 ^ N - 1) &&& (((1 : Int32) <<< (nI i &&& 31)) ^^^ (-1))) &&& (x ^^^ (-1))) = 0 ↔ tp_an (fun j => !decide (j = i) && !bt x j) N = false :=
  tp_z (fun j hj => by rw [b_and, tp_xob hN hi j hj, tp_not _ hj, Bool.and_assoc]) (by omega)
theorem tp_c2 (hN : N ≤ 6) (hi : i < N) (x y : Int32) : (((nI (2 ^ N - 1) &&& (((1 : Int32) <<< (nI i &&& 31)) ^^^ (-1))) &&& y) &&& (x ^^^ (-1))) = 0 ↔ tp_an (fun j => !decide (j = i) && (bt y j && !bt x j)) N = false :=
  tp_z (fun j hj => by rw [b_and, b_and, tp_xob hN hi j hj, tp_not _ hj, Bool.and_assoc, Bool.and_assoc]) (by omega)
theorem tp_c3 (hN : N ≤ 6) (hi : i < N) (x y : Int32) : ((nI (2 ^ N - 1) &&& (((1 : Int32) <<< (nI i &&& 31)) ^^^ (-1))) &&& ((x ||| y) ^^^ (-1))) = 0 ↔ tp_an (fun j => !decide (j = i) && (!bt x j && !bt y j)) N = false :=
  tp_z (fun j hj => by rw [b_and, tp_xob hN hi j hj, tp_not _ hj, b_or, Bool.not_or, Bool.and_assoc]) (by omega)
/-! prepareAll -/
theorem tp_y36 {post : SY → Prop} (hi : i < N) (hN : N ≤ 6) (hx : ∀ n, wY_prepareAll_36 post (nI i) (nI N) st md lg rl fl ws (tp_q (tp_F an rd ak hd kn)) tr (n + 1) (tp_b (!tp_an (fun j => !decide (j = i) && !bt (kn i) j) N)) (nI N)) : ∃ n, wY_prepareAll_36 post (nI i) (nI N) st md lg rl fl ws (tp_q (tp_F an rd ak hd kn)) tr n 1 0 := by
  refine tp_lp0 (fun n j => wY_prepareAll_36 post (nI i) (nI N) st md lg rl fl ws (tp_q (tp_F an rd ak hd kn)) tr n (tp_b (!tp_an (fun j => !decide (j = i) && !bt (kn i) j) j)) (nI j)) N hx ?_
  intro n j hj ih
  refine br_f (nI_ge hj (by omega)) ?_
  by_cases e : j = i
  · simp only [tp_an_s, decide_eq_true e, Bool.not_true, Bool.false_and, Bool.or_false] at ih
    exact br_t (congrArg nI e) (nm_r (nI_1 j) ih)
  · refine br_f (fun z => e ((nI_eq (by omega) (by omega)).mp z)) ?_
    refine tp_yh4 (by omega) (by omega) ?_
    cases b : bt (kn i) j
    · simp only [tp_an_s, decide_eq_false e, b, Bool.not_false, Bool.true_and, Bool.or_true, Bool.not_true] at ih
      exact br_t rfl (nm_r (nI_1 j) ih)
    · simp only [tp_an_s, decide_eq_false e, b, Bool.not_false, Bool.true_and, Bool.not_true, Bool.or_false] at ih
      exact br_f (by decide) (nm_r (nI_1 j) ih)
theorem tp_prepK (g : tp_G N st an rd ak hd kn tr) (hi : i < N) (K : tp_K N kX kY) : tp_L N (fun post => wpX_prepareAll (kX post) (tp_x N md st lg ws rl fl an rd ak hd kn tr) (nI i)) (fun post => wpY_prepareAll (kY post) (tp_y N md st lg ws rl fl an rd ak hd kn tr) (nI i)) := by
  have hN := g.2.1
  have hi6 : i < 6 := by omega
  have le : nI N ≤ nI N := nI_le (Nat.le_refl N) (by omega)
  simp only [wpX_prepareAll, wpY_prepareAll, tp_x, tp_y, tp_ci hi6, tp_vi hi6, true_and, and_true, true_implies, false_implies, not_true_eq_false, not_false_eq_true, forall_eq, and_self]
  have g1 : tp_G N (upd st i 2) (upd an i 0) (upd rd i 0) ak hd kn tr := tp_g_rd0 (tp_g_an0 (tp_g_st g (Or.inr (Or.inr (Or.inl rfl)))) i) i
  have g2 := tp_g_s (md := md) (kd := 3) (P := fun j => !bt (kn i) j) g1 (by decide) (by decide) hi
  refine tp_iy (fun post p => tp_ye0 hi6 (tp_ye1 hi6 p)) ?_
  refine tp_stsu (kd := 3) g1 (by decide) (by decide) hi ?_
  simp only [wpX_others, tp_x, tp_y]
  cases b : tp_an (fun j => !decide (j = i) && !bt (kn i) j) N
  · refine tp_imp (fun post p => br_t ((tp_c1 hN hi (kn i)).mpr b) p) (fun post p => tp_y36 hi hN (fun n => br_t le (br_f (by rw [b]; decide) p))) ?_
    exact tp_decK g2 hi (Or.inl rfl) (fun md st lg ws rl fl an rd ak hd kn tr g => K md st lg ws rl fl an rd ak hd kn tr g)
  · refine tp_imp (fun post p => br_f (fun z => by rw [(tp_c1 hN hi (kn i)).mp z] at b; exact nomatch b) p) (fun post p => tp_y36 hi hN (fun n => br_t le (br_t (by rw [b]; rfl) p))) ?_
    exact K md (upd st i 2) lg ws (upd rl i 3) fl (upd an i 0) (upd rd i 0) ak hd kn (tp_s md 3 i (fun j => !bt (kn i) j) tr N) g2
/-! check -/
theorem tp_y18 {post : SY → Prop} {x2 : Int32} (hi : i < N) (hN : N ≤ 6) (hx : ∀ n, wY_check_18 post (nI i) x2 (nI N) st md lg rl fl ws (tp_q (tp_F an rd ak hd kn)) tr (n + 1) (tp_b (tp_an (fun j => !decide (j = i) && (bt (kn i) j && !bt (an i) j)) N)) (tp_b (!tp_an (fun j => !decide (j = i) && !bt (an i) j) N)) (tp_b (!tp_an (fun j => !decide (j = i) && (!bt (an i) j && !bt (kn i) j)) N)) (nI N)) : ∃ n, wY_check_18 post (nI i) x2 (nI N) st md lg rl fl ws (tp_q (tp_F an rd ak hd kn)) tr n 0 1 1 0 := by
  refine tp_lp0 (fun n j => wY_check_18 post (nI i) x2 (nI N) st md lg rl fl ws (tp_q (tp_F an rd ak hd kn)) tr n (tp_b (tp_an (fun j => !decide (j = i) && (bt (kn i) j && !bt (an i) j)) j)) (tp_b (!tp_an (fun j => !decide (j = i) && !bt (an i) j) j)) (tp_b (!tp_an (fun j => !decide (j = i) && (!bt (an i) j && !bt (kn i) j)) j)) (nI j)) N hx ?_
  intro n j hj ih
  refine br_f (nI_ge hj (by omega)) ?_
  by_cases e : j = i
  · simp only [tp_an_s, decide_eq_true e, Bool.not_true, Bool.false_and, Bool.or_false] at ih
    exact br_t (congrArg nI e) (nm_r (nI_1 j) ih)
  · refine br_f (fun z => e ((nI_eq (by omega) (by omega)).mp z)) ?_
    refine tp_yh0 (by omega) (by omega) ?_
    refine tp_yh4 (by omega) (by omega) ?_
    cases a : bt (an i) j
    · cases b : bt (kn i) j
      · simp only [tp_an_s, decide_eq_false e, a, b, Bool.not_false, Bool.not_true, Bool.true_and, Bool.and_true, Bool.and_false, Bool.false_and, Bool.or_true, Bool.or_false] at ih
        exact br_t rfl (br_t rfl (br_t rfl (br_t rfl (nm_r (nI_1 j) ih))))
      · simp only [tp_an_s, decide_eq_false e, a, b, Bool.not_false, Bool.not_true, Bool.true_and, Bool.and_true, Bool.and_false, Bool.false_and, Bool.or_true, Bool.or_false] at ih
        exact br_f (by decide) (br_t rfl (br_t rfl (br_t rfl (br_f (by decide) (nm_r (nI_1 j) ih)))))
    · cases b : bt (kn i) j
      · simp only [tp_an_s, decide_eq_false e, a, b, Bool.not_false, Bool.not_true, Bool.true_and, Bool.and_true, Bool.and_false, Bool.false_and, Bool.or_true, Bool.or_false] at ih
        exact br_t rfl (br_f (by decide) (br_f (by decide) (nm_r (nI_1 j) ih)))
      · simp only [tp_an_s, decide_eq_false e, a, b, Bool.not_false, Bool.not_true, Bool.true_and, Bool.and_true, Bool.and_false, Bool.false_and, Bool.or_true, Bool.or_false] at ih
        exact br_f (by decide) (br_f (by decide) (br_f (by decide) (br_f (by decide) (nm_r (nI_1 j) ih))))
theorem tp_ychk {post : SY → Prop} (hi : i < N) (hN : N ≤ 6) (hx : ∀ n, wY_check_18 post (nI i) (rl i) (nI N) st md lg rl fl ws (tp_q (tp_F an rd ak hd kn)) tr (n + 1) (tp_b (tp_an (fun j => !decide (j = i) && (bt (kn i) j && !bt (an i) j)) N)) (tp_b (!tp_an (fun j => !decide (j = i) && !bt (an i) j) N)) (tp_b (!tp_an (fun j => !decide (j = i) && (!bt (an i) j && !bt (kn i) j)) N)) (nI N)) : wpY_check post (tp_y N md st lg ws rl fl an rd ak hd kn tr) (nI i) := by
  have hi6 : i < 6 := by omega
  simp only [wpY_check, tp_ci hi6, tp_vi hi6, true_and, and_true, true_implies, false_implies, not_true_eq_false, not_false_eq_true, forall_eq, and_self]
  exact tp_y18 hi hN hx
theorem tp_ymr {post : Int32 → Prop} (g : tp_G N st an rd ak hd kn tr) (hi : i < N) (h : post (rd i)) : wpY_members post (tp_y N md st lg ws rl fl an rd ak hd kn tr) (nI i) 1 := tp_ymw 1 rfl (by decide) hi g.2.1 (g.2.2.2.2.1 i) h
theorem tp_nf {b : Bool} {P : Prop} (h : P ↔ b = false) (hb : b = true) : ¬ P := fun z => by rw [h.mp z] at hb; exact nomatch hb
theorem tp_chkK (g : tp_G N st an rd ak hd kn tr) (hi : i < N) (K : tp_K N kX kY) : tp_L N (fun post => wpX_check (kX post) (tp_x N md st lg ws rl fl an rd ak hd kn tr) (nI i)) (fun post => wpY_check (kY post) (tp_y N md st lg ws rl fl an rd ak hd kn tr) (nI i)) := by
  have hN := g.2.1
  have hi6 : i < 6 := by omega
  have le : nI N ≤ nI N := nI_le (Nat.le_refl N) (by omega)
  have C1 := tp_c1 hN hi (an i)
  have C2 := tp_c2 hN hi (an i) (kn i)
  have C3 := tp_c3 hN hi (an i) (kn i)
  simp only [wpX_check, wpX_others, tp_x, tp_ci hi6, tp_vi hi6, true_and, and_true, true_implies, false_implies, not_true_eq_false, not_false_eq_true, forall_eq, and_self]
  by_cases r1 : rl i = 1
  · cases b2 : tp_an (fun j => !decide (j = i) && (bt (kn i) j && !bt (an i) j)) N
    · cases b1 : tp_an (fun j => !decide (j = i) && !bt (an i) j) N
      · exact tp_imp (fun post p => br_t r1 (br_t (C2.mpr b2) (br_t (C1.mpr b1) p))) (fun post p => tp_ychk hi hN (fun n => br_t le (br_t r1 (br_t (by rw [b2]; rfl) (br_f (by rw [b1]; decide) p))))) (tp_prepK g hi (fun md st lg ws rl fl an rd ak hd kn tr g => K md st lg ws rl fl an rd ak hd kn tr g))
      · exact tp_imp (fun post p => br_t r1 (br_t (C2.mpr b2) (br_f (tp_nf C1 b1) p))) (fun post p => tp_ychk hi hN (fun n => br_t le (br_t r1 (br_t (by rw [b2]; rfl) (br_t (by rw [b1]; rfl) p))))) (K md st lg ws rl fl an rd ak hd kn tr g)
    · exact tp_imp (fun post p => br_t r1 (br_f (tp_nf C2 b2) p)) (fun post p => tp_ychk hi hN (fun n => br_t le (br_t r1 (br_f (by rw [b2]; decide) p)))) (tp_decK g hi (Or.inr rfl) (fun md st lg ws rl fl an rd ak hd kn tr g => K md st lg ws rl fl an rd ak hd kn tr g))
  · by_cases r2 : rl i = 2
    · cases b3 : tp_an (fun j => !decide (j = i) && (!bt (an i) j && !bt (kn i) j)) N
      · by_cases s2 : st i = 2
        · refine tp_imp (fun post p => br_f r1 (br_t r2 (br_t (C3.mpr b3) (br_t s2 p)))) (fun post p => tp_ychk hi hN (fun n => br_t le (br_f r1 (br_t r2 (br_f (by rw [b3]; decide) (tp_ymr g hi (And.intro (tp_vi hi6) (br_t (by rw [tp_ci hi6]; exact s2) p)))))))) ?_
          unfold wX_check_117 wY_check_156
          exact tp_prepK g hi (fun md st lg ws rl fl an rd ak hd kn tr g => K md st lg ws rl fl an rd ak hd kn tr g)
        · by_cases z : rd i = 0
          · exact tp_imp (fun post p => br_f r1 (br_t r2 (br_t (C3.mpr b3) (br_f s2 (br_t z p))))) (fun post p => tp_ychk hi hN (fun n => br_t le (br_f r1 (br_t r2 (br_f (by rw [b3]; decide) (tp_ymr g hi (And.intro (tp_vi hi6) (br_f (by rw [tp_ci hi6]; exact s2) (br_t z p))))))))) (tp_decK g hi (Or.inr rfl) (fun md st lg ws rl fl an rd ak hd kn tr g => K md st lg ws rl fl an rd ak hd kn tr g))
          · refine tp_imp (fun post p => br_f r1 (br_t r2 (br_t (C3.mpr b3) (br_f s2 (br_f z p))))) (fun post p => tp_ychk hi hN (fun n => br_t le (br_f r1 (br_t r2 (br_f (by rw [b3]; decide) (tp_ymr g hi (And.intro (tp_vi hi6) (br_f (by rw [tp_ci hi6]; exact s2) (br_f z p))))))))) ?_
            unfold wX_check_117 wY_check_156
            exact tp_prepK g hi (fun md st lg ws rl fl an rd ak hd kn tr g => K md st lg ws rl fl an rd ak hd kn tr g)
      · exact tp_imp (fun post p => br_f r1 (br_t r2 (br_f (tp_nf C3 b3) p))) (fun post p => tp_ychk hi hN (fun n => br_t le (br_f r1 (br_t r2 (br_t (by rw [b3]; rfl) p))))) (K md st lg ws rl fl an rd ak hd kn tr g)
    · by_cases r3 : rl i = 3
      · cases b3 : tp_an (fun j => !decide (j = i) && (!bt (an i) j && !bt (kn i) j)) N
        · exact tp_imp (fun post p => br_f r1 (br_f r2 (br_t r3 (br_t (C3.mpr b3) p)))) (fun post p => tp_ychk hi hN (fun n => br_t le (br_f r1 (br_f r2 (br_t r3 (br_f (by rw [b3]; decide) p)))))) (tp_decK g hi (Or.inl rfl) (fun md st lg ws rl fl an rd ak hd kn tr g => K md st lg ws rl fl an rd ak hd kn tr g))
        · exact tp_imp (fun post p => br_f r1 (br_f r2 (br_t r3 (br_f (tp_nf C3 b3) p)))) (fun post p => tp_ychk hi hN (fun n => br_t le (br_f r1 (br_f r2 (br_t r3 (br_t (by rw [b3]; rfl) p)))))) (K md st lg ws rl fl an rd ak hd kn tr g)
      · exact tp_imp (fun post p => br_f r1 (br_f r2 (br_f r3 p))) (fun post p => tp_ychk hi hN (fun n => br_t le (br_f r1 (br_f r2 (br_f r3 p))))) (K md st lg ws rl fl an rd ak hd kn tr g)
/-! takeOver -/
theorem tp_xfd {post : SX → Prop} (g : tp_G N st an rd ak hd kn tr) (hi : i < N) (h : post (tp_x N md st lg ws (upd rl i 4) fl an rd ak hd kn (tp_s md (tp_kd st i) i (fun j => !bt (kn i) j) tr N))) : wpX_finishDecided post (tp_x N md st lg ws rl fl an rd ak hd kn tr) (nI i) := by
  have hN := g.2.1
  have hi6 : i < 6 := by omega
  simp only [wpX_finishDecided, tp_ci hi6, tp_vi hi6, true_and, and_true, true_implies, false_implies, not_true_eq_false, not_false_eq_true, forall_eq, and_self]
  refine tp_xkd hi6 ?_
  refine tp_xsts (tp_kd_le st i).1 (tp_kd_le st i).2 hi hN (tp_gw g) ?_
  rw [tp_xun hN]
  exact h
theorem tp_tovK (g : tp_G N st an rd ak hd kn tr) (hi : i < N) (K : tp_K N kX kY) : tp_L N (fun post => wpX_takeOver (kX post) (tp_x N md st lg ws rl fl an rd ak hd kn tr) (nI i)) (fun post => wpY_takeOver (kY post) (tp_y N md st lg ws rl fl an rd ak hd kn tr) (nI i)) := by
  have hN := g.2.1
  have hi6 : i < 6 := by omega
  simp only [wpX_takeOver, wpY_takeOver, tp_x, tp_y, tp_ci hi6, tp_vi hi6, true_and, and_true, true_implies, false_implies, not_true_eq_false, not_false_eq_true, forall_eq, and_self]
  cases hdc : tp_dc st i
  · by_cases s0 : st i = 0
    · refine tp_imp (fun post p => tp_xd0 hi6 hdc (br_t rfl (br_t s0 p))) (fun post p => tp_yd0 hi6 hdc (br_t rfl (br_t s0 p))) ?_
      exact tp_decK g hi (Or.inr rfl) (fun md st lg ws rl fl an rd ak hd kn tr g => K md st lg ws rl fl an rd ak hd kn tr g)
    · have g1 : tp_G N st (upd an i 0) (upd rd i 0) ak hd kn tr := tp_g_rd0 (tp_g_an0 g i) i
      have g2 := tp_g_s (md := md) (kd := 5) (P := fun j => !bt (kn i) j) g1 (by decide) (by decide) hi
      refine tp_imp (fun post p => tp_xd0 hi6 hdc (br_t rfl (br_f s0 p))) (fun post p => tp_yd0 hi6 hdc (br_t rfl (br_f s0 (tp_ye0 hi6 (tp_ye1 hi6 p))))) ?_
      refine tp_stsu (kd := 5) g1 (by decide) (by decide) hi ?_
      exact tp_chkK g2 hi (fun md st lg ws rl fl an rd ak hd kn tr g => K md st lg ws rl fl an rd ak hd kn tr g)
  · have g2 := tp_g_s (md := md) (kd := tp_kd st i) (P := fun j => !bt (kn i) j) g (tp_kd_le st i).1 (tp_kd_le st i).2 hi
    refine tp_imp (fun post p => tp_xd1 hi6 hdc (br_f tp_10 (tp_xfd g hi p))) (fun post p => tp_yd1 hi6 hdc (br_f tp_10 (tp_ykd hi6 (tp_ysu (tp_kd_le st i).2 hi hN p)))) ?_
    exact K md st lg ws (upd rl i 4) (upd fl i (nI i)) an rd ak hd kn (tp_s md (tp_kd st i) i (fun j => !bt (kn i) j) tr N) g2
end
end
section
/-! the verdict as a pure value -/
def tp_ls (N : Nat) (kn : Nat → Int32) (m : Int32) : Nat → Int32
  | 0 => nI (2 ^ N - 1)
  | k + 1 => if bt m k = true then tp_ls N kn m k &&& (kn k ^^^ (-1)) else tp_ls N kn m k
theorem tp_ls_s (N : Nat) (kn : Nat → Int32) (m : Int32) (k : Nat) : tp_ls N kn m (k + 1) = if bt m k = true then tp_ls N kn m k &&& (kn k ^^^ (-1)) else tp_ls N kn m k := rfl
theorem tp_ls_b {N : Nat} (hN : N ≤ 6) (kn : Nat → Int32) (m : Int32) : ∀ k j, j < 32 → bt (tp_ls N kn m k) j = (decide (j < N) && !tp_an (fun r => bt m r && bt (kn r) j) k) := by
  intro k
  induction k with
  | zero =>
    intro j hj
    show bt (nI (2 ^ N - 1)) j = (decide (j < N) && true)
    rw [tp_all N (by omega) j hj, Bool.and_true]
  | succ k ih =>
    intro j hj
    rw [tp_ls_s, tp_an_s]
    cases b : bt m k
    · rw [if_neg (by decide), ih j hj, Bool.false_and, Bool.or_false]
    · rw [if_pos rfl, b_and, ih j hj, tp_not _ hj, Bool.true_and, Bool.not_or, Bool.and_assoc]
/-- the last to fail -/
def tp_S (N : Nat) (kn : Nat → Int32) (m : Int32) (s : Nat) : Bool := bt (tp_ls N kn m N) s
theorem tp_S_in {N : Nat} (hN : N ≤ 6) (kn : Nat → Int32) (m : Int32) {s : Nat} (hs : s < N) : tp_S N kn m s = !tp_an (fun r => bt m r && bt (kn r) s) N := by
  unfold tp_S
  rw [tp_ls_b hN kn m N s (by omega), decide_eq_true hs, Bool.true_and]
theorem tp_S_N {N : Nat} (hN : N ≤ 6) (kn : Nat → Int32) (m : Int32) {s : Nat} (hs : s < 32) : tp_S N kn m s = (decide (s < N) && tp_S N kn m s) := by
  unfold tp_S
  rw [tp_ls_b hN kn m N s hs, ← Bool.and_assoc, Bool.and_self]
def tp_V0 (N : Nat) (kn : Nat → Int32) (m : Int32) (k : Nat) : Bool := tp_an (fun s => tp_S N kn m s && !bt m s) k
def tp_V1 (N : Nat) (kn lg : Nat → Int32) (m : Int32) (k : Nat) : Bool := tp_an (fun s => tp_S N kn m s && !decide (lg s = 1)) k
def tp_V2 (N : Nat) (kn lg : Nat → Int32) (m : Int32) (k : Nat) : Bool := tp_an (fun s => tp_S N kn m s && !decide (lg s = 2)) k
def tp_Vu (N : Nat) (kn : Nat → Int32) (m : Int32) (s : Nat) : Bool := tp_an (fun u => !bt (kn s) u && !bt m u) N
def tp_V3 (N : Nat) (kn : Nat → Int32) (m : Int32) (k : Nat) : Bool := tp_an (fun s => tp_S N kn m s && tp_Vu N kn m s) k
def tp_V (N : Nat) (kn lg : Nat → Int32) (m : Int32) : Int32 :=
  if tp_V0 N kn m N = true then 0 else if tp_V1 N kn lg m N = false then 4 else if tp_V2 N kn lg m N = false then 3 else if tp_V3 N kn m N = false then 3 else 0
theorem tp_Vend {post : Int32 → Prop} {N : Nat} {kn lg : Nat → Int32} {m : Int32} (v0 : tp_V0 N kn m N = false) (h : post (tp_V N kn lg m)) : ((tp_b (!tp_V1 N kn lg m N) = 0 → (((tp_b (!tp_V2 N kn lg m N) = 0 → (((tp_b (!tp_V3 N kn m N) = 0 → (post 0)) ∧ (¬ tp_b (!tp_V3 N kn m N) = 0 → (post 3))))) ∧ (¬ tp_b (!tp_V2 N kn lg m N) = 0 → (post 3))))) ∧ (¬ tp_b (!tp_V1 N kn lg m N) = 0 → (post 4))) := by
  unfold tp_V at h
  rw [if_neg (by rw [v0]; decide)] at h
  cases b1 : tp_V1 N kn lg m N
  · rw [b1, if_pos rfl] at h
    exact br_f (by decide) h
  · rw [b1, if_neg (by decide)] at h
    refine br_t rfl ?_
    cases b2 : tp_V2 N kn lg m N
    · rw [b2, if_pos rfl] at h
      exact br_f (by decide) h
    · rw [b2, if_neg (by decide)] at h
      refine br_t rfl ?_
      cases b3 : tp_V3 N kn m N
      · rw [b3, if_pos rfl] at h
        exact br_f (by decide) h
      · rw [b3, if_neg (by decide)] at h
        exact br_t rfl h
section
variable {N : Nat} {md st lg ws rl fl an rd ak hd kn tr : Nat → Int32} {i j k : Nat} {m v : Int32} {kX : (Int32 → SX → Prop) → SX → Prop} {kY : (Int32 → SY → Prop) → SY → Prop}
theorem tp_c4 (hN : N ≤ 6) (x y : Int32) : ((nI (2 ^ N - 1) &&& (x ^^^ (-1))) &&& (y ^^^ (-1))) = 0 ↔ tp_an (fun u => !bt x u && !bt y u) N = false :=
  tp_z (fun j hj => by rw [b_and, b_and, tp_all N (by omega) j hj, tp_not _ hj, tp_not _ hj, Bool.and_assoc]) (by omega)
theorem tp_c5 (hN : N ≤ 6) (kn : Nat → Int32) (m : Int32) : (tp_ls N kn m N &&& (m ^^^ (-1))) = 0 ↔ tp_V0 N kn m N = false :=
  tp_z (fun j hj => by
    rw [b_and, tp_not _ hj]
    show (tp_S N kn m j && !bt m j) = (decide (j < N) && (tp_S N kn m j && !bt m j))
    rw [← Bool.and_assoc, ← tp_S_N hN kn m hj]) (by omega)
theorem tp_x108 {J : Int32 → Int32 → Int32 → Int32 → Prop} {post : Int32 → Prop} {x2 x3 x4 : Int32} {c : Bool} (hk : k < 6) (hN : N ≤ 6) (h : J x3 x4 (tp_b (c && !tp_Vu N kn m k)) (nI (k + 1))) : wX_verdict_108 post J m x2 x3 x4 (tp_b c) (nI k) (nI N) (nI (2 ^ N - 1)) (nI (tp_cn tr)) md st lg ws rl fl an rd ak hd kn tr := by
  have C := tp_c4 hN (kn k) m
  simp only [wX_verdict_108, tp_ci hk, tp_vi hk, nI_1, true_and, and_true, true_implies, false_implies, not_true_eq_false, not_false_eq_true, forall_eq, and_self]
  cases b : tp_Vu N kn m k
  · rw [b, Bool.not_false, Bool.and_true] at h
    exact br_t (C.mpr b) h
  · rw [b, Bool.not_true, Bool.and_false] at h
    exact br_f (tp_nf C b) h
theorem tp_x94 {J : Int32 → Int32 → Int32 → Int32 → Prop} {post : Int32 → Prop} {x2 x3 : Int32} {a c : Bool} (hk : k < 6) (hN : N ≤ 6) (h : J x3 (tp_b (a && decide (lg k = 2))) (tp_b (c && !tp_Vu N kn m k)) (nI (k + 1))) : wX_verdict_94 post J m x2 x3 (tp_b a) (tp_b c) (nI k) (nI N) (nI (2 ^ N - 1)) (nI (tp_cn tr)) md st lg ws rl fl an rd ak hd kn tr := by
  simp only [wX_verdict_94, tp_ci hk, tp_vi hk, true_and, and_true, true_implies, false_implies, not_true_eq_false, not_false_eq_true, forall_eq, and_self]
  by_cases e : lg k = 2
  · rw [decide_eq_true e, Bool.and_true] at h
    exact br_t e (tp_x108 hk hN h)
  · rw [decide_eq_false e, Bool.and_false] at h
    exact br_f e (tp_x108 hk hN h)
theorem tp_x62 {post : Int32 → Prop} (hN : N ≤ 6) (v0 : tp_V0 N kn m N = false) (h : post (tp_V N kn lg m)) : ∃ n, wX_verdict_62 post m (tp_ls N kn m N) (nI N) (nI (2 ^ N - 1)) (nI (tp_cn tr)) md st lg ws rl fl an rd ak hd kn tr n 1 1 1 0 := by
  refine tp_lp0 (fun n k => wX_verdict_62 post m (tp_ls N kn m N) (nI N) (nI (2 ^ N - 1)) (nI (tp_cn tr)) md st lg ws rl fl an rd ak hd kn tr n (tp_b (!tp_V1 N kn lg m k)) (tp_b (!tp_V2 N kn lg m k)) (tp_b (!tp_V3 N kn m k)) (nI k)) N ?_ ?_
  · intro n
    exact br_t (nI_le (Nat.le_refl N) (by omega)) (tp_Vend v0 h)
  · intro n k hk ih
    have hk6 : k < 6 := by omega
    refine br_f (nI_ge hk (by omega)) ?_
    refine tp_xhas (by omega) ?_
    have e1 : tp_V1 N kn lg m (k + 1) = (tp_V1 N kn lg m k || (tp_S N kn m k && !decide (lg k = 1))) := rfl
    have e2 : tp_V2 N kn lg m (k + 1) = (tp_V2 N kn lg m k || (tp_S N kn m k && !decide (lg k = 2))) := rfl
    have e3 : tp_V3 N kn m (k + 1) = (tp_V3 N kn m k || (tp_S N kn m k && tp_Vu N kn m k)) := rfl
    simp only [e1, e2, e3] at ih
    show (tp_b (tp_S N kn m k) = 0 → _) ∧ (¬ tp_b (tp_S N kn m k) = 0 → _)
    cases b : tp_S N kn m k
    · simp only [b, Bool.false_and, Bool.or_false] at ih
      exact br_t rfl (nm_r (nI_1 k) ih)
    · simp only [b, Bool.true_and, Bool.not_or, Bool.not_not] at ih
      refine br_f (by decide) ?_
      simp only [tp_ci hk6, tp_vi hk6, true_and, and_true, true_implies, false_implies, not_true_eq_false, not_false_eq_true, forall_eq, and_self]
      by_cases e : lg k = 1
      · rw [decide_eq_true e, Bool.and_true] at ih
        exact br_t e (tp_x94 hk6 hN ih)
      · rw [decide_eq_false e, Bool.and_false] at ih
        exact br_f e (tp_x94 hk6 hN ih)
theorem tp_xver {post : Int32 → Prop} (hN : N ≤ 6) (h : post (tp_V N kn lg m)) : wpX_verdict post (tp_x N md st lg ws rl fl an rd ak hd kn tr) m := by
  refine tp_lp0 (fun n k => wX_verdict_7 post m (nI N) (nI (2 ^ N - 1)) (nI (tp_cn tr)) md st lg ws rl fl an rd ak hd kn tr n (tp_ls N kn m k) (nI k)) N ?_ ?_
  · intro n
    refine br_t (nI_le (Nat.le_refl N) (by omega)) ?_
    cases b : tp_V0 N kn m N
    · exact br_t ((tp_c5 hN kn m).mpr b) (tp_x62 hN b h)
    · refine br_f (tp_nf (tp_c5 hN kn m) b) ?_
      unfold tp_V at h
      rw [if_pos b] at h
      exact h
  · intro n k hk ih
    have hk6 : k < 6 := by omega
    refine br_f (nI_ge hk (by omega)) ?_
    refine tp_xhas (by omega) ?_
    simp only [tp_ls_s] at ih
    cases b : bt m k
    · rw [b, if_neg (by decide)] at ih
      exact br_t rfl (nm_r (nI_1 k) ih)
    · rw [b, if_pos rfl] at ih
      refine br_f (by decide) ?_
      simp only [tp_ci hk6, tp_vi hk6, nI_1, true_and, and_true, true_implies, false_implies, not_true_eq_false, not_false_eq_true, forall_eq, and_self]
      exact ih
theorem tp_yinS {post : Int32 → Prop} (hj : j < N) (hN : N ≤ 6) (h : post (tp_b (tp_S N kn m j))) : wpY_inS post (tp_y N md st lg ws rl fl an rd ak hd kn tr) m (nI j) := by
  rw [tp_S_in hN kn m hj] at h
  have L : ∃ n, (tp_an (fun r => bt m r && bt (kn r) j) 0 = false → wY_inS_2 post m (nI j) (nI N) st md lg rl fl ws (tp_q (tp_F an rd ak hd kn)) tr n (nI 0)) := by
    refine tp_lp0 (fun n k => tp_an (fun r => bt m r && bt (kn r) j) k = false → wY_inS_2 post m (nI j) (nI N) st md lg rl fl ws (tp_q (tp_F an rd ak hd kn)) tr n (nI k)) N ?_ ?_
    · intro n e
      rw [e] at h
      exact br_t (nI_le (Nat.le_refl N) (by omega)) h
    · intro n k hk ih e
      refine br_f (nI_ge hk (by omega)) ?_
      refine tp_yim (by omega) ?_
      have e1 : tp_an (fun r => bt m r && bt (kn r) j) (k + 1) = (tp_an (fun r => bt m r && bt (kn r) j) k || (bt m k && bt (kn k) j)) := rfl
      simp only [e1, e, Bool.false_or] at ih
      cases a : bt m k
      · exact br_t rfl (nm_r (nI_1 k) (ih (by rw [a]; rfl)))
      · refine br_f (by decide) (tp_yh4 (by omega) (by omega) ?_)
        cases b : bt (kn k) j
        · exact br_t rfl (nm_r (nI_1 k) (ih (by rw [a, b]; rfl)))
        · refine br_f (by decide) ?_
          rw [tp_an_t hk (show (fun r => bt m r && bt (kn r) j) k = true by simp only [a, b]; rfl)] at h
          exact h
  obtain ⟨n, hn⟩ := L
  exact ⟨n, hn rfl⟩
theorem tp_y70 {J : Int32 → Int32 → Int32 → Int32 → Prop} {post : Int32 → Prop} {x2 x3 : Int32} {c : Bool} (hk : k < 6) (hN : N ≤ 6) (h : J x2 x3 (tp_b (c && !tp_Vu N kn m k)) (nI (k + 1))) : ∃ n, wY_verdict_70 post J m x2 x3 (nI k) (nI N) st md lg rl fl ws (tp_q (tp_F an rd ak hd kn)) tr n (tp_b c) 0 := by
  have L : ∃ n, wY_verdict_70 post J m x2 x3 (nI k) (nI N) st md lg rl fl ws (tp_q (tp_F an rd ak hd kn)) tr n (tp_b (c && !tp_an (fun u => !bt (kn k) u && !bt m u) 0)) (nI 0) := by
    refine tp_lp0 (fun n u => wY_verdict_70 post J m x2 x3 (nI k) (nI N) st md lg rl fl ws (tp_q (tp_F an rd ak hd kn)) tr n (tp_b (c && !tp_an (fun u => !bt (kn k) u && !bt m u) u)) (nI u)) N ?_ ?_
    · intro n
      exact br_t (nI_le (Nat.le_refl N) (by omega)) (nm_r (nI_1 k) h)
    · intro n u hu ih
      refine br_f (nI_ge hu (by omega)) ?_
      refine tp_yh4 hk (by omega) ?_
      have e1 : tp_an (fun u => !bt (kn k) u && !bt m u) (u + 1) = (tp_an (fun u => !bt (kn k) u && !bt m u) u || (!bt (kn k) u && !bt m u)) := rfl
      simp only [e1] at ih
      cases a : bt (kn k) u
      · refine br_t rfl (tp_yim (by omega) ?_)
        cases b : bt m u
        · simp only [a, b, Bool.not_false, Bool.and_true, Bool.or_true, Bool.not_true, Bool.and_false] at ih
          exact br_t rfl (nm_r (nI_1 u) ih)
        · simp only [a, b, Bool.not_false, Bool.not_true, Bool.and_false, Bool.or_false] at ih
          exact br_f (by decide) (nm_r (nI_1 u) ih)
      · simp only [a, Bool.not_true, Bool.false_and, Bool.or_false] at ih
        exact br_f (by decide) (nm_r (nI_1 u) ih)
  obtain ⟨n, hn⟩ := L
  refine ⟨n, ?_⟩
  have e0 : (c && !tp_an (fun u => !bt (kn k) u && !bt m u) 0) = c := Bool.and_true c
  rw [e0] at hn
  exact hn
theorem tp_y54 {J : Int32 → Int32 → Int32 → Int32 → Prop} {post : Int32 → Prop} {x2 : Int32} {a c : Bool} (hk : k < 6) (hN : N ≤ 6) (h : J x2 (tp_b (a && decide (lg k = 2))) (tp_b (c && !tp_Vu N kn m k)) (nI (k + 1))) : wY_verdict_54 post J m x2 (tp_b a) (tp_b c) (nI k) (nI N) st md lg rl fl ws (tp_q (tp_F an rd ak hd kn)) tr := by
  simp only [wY_verdict_54, tp_ci hk, tp_vi hk, true_and, and_true, true_implies, false_implies, not_true_eq_false, not_false_eq_true, forall_eq, and_self]
  by_cases e : lg k = 2
  · rw [decide_eq_true e, Bool.and_true] at h
    exact br_t e (tp_y70 hk hN h)
  · rw [decide_eq_false e, Bool.and_false] at h
    exact br_f e (tp_y70 hk hN h)
theorem tp_yver {post : Int32 → Prop} (hN : N ≤ 6) (h : post (tp_V N kn lg m)) : wpY_verdict post (tp_y N md st lg ws rl fl an rd ak hd kn tr) m := by
  have L : ∃ n, (tp_V0 N kn m 0 = false → wY_verdict_10 post m (nI N) st md lg rl fl ws (tp_q (tp_F an rd ak hd kn)) tr n (tp_b (!tp_V1 N kn lg m 0)) (tp_b (!tp_V2 N kn lg m 0)) (tp_b (!tp_V3 N kn m 0)) (nI 0)) := by
    refine tp_lp0 (fun n k => tp_V0 N kn m k = false → wY_verdict_10 post m (nI N) st md lg rl fl ws (tp_q (tp_F an rd ak hd kn)) tr n (tp_b (!tp_V1 N kn lg m k)) (tp_b (!tp_V2 N kn lg m k)) (tp_b (!tp_V3 N kn m k)) (nI k)) N ?_ ?_
    · intro n v0
      exact br_t (nI_le (Nat.le_refl N) (by omega)) (tp_Vend v0 h)
    · intro n k hk ih v0
      have hk6 : k < 6 := by omega
      refine br_f (nI_ge hk (by omega)) ?_
      refine tp_yinS hk hN ?_
      have e0 : tp_V0 N kn m (k + 1) = (tp_V0 N kn m k || (tp_S N kn m k && !bt m k)) := rfl
      have e1 : tp_V1 N kn lg m (k + 1) = (tp_V1 N kn lg m k || (tp_S N kn m k && !decide (lg k = 1))) := rfl
      have e2 : tp_V2 N kn lg m (k + 1) = (tp_V2 N kn lg m k || (tp_S N kn m k && !decide (lg k = 2))) := rfl
      have e3 : tp_V3 N kn m (k + 1) = (tp_V3 N kn m k || (tp_S N kn m k && tp_Vu N kn m k)) := rfl
      simp only [e0, e1, e2, e3, v0, Bool.false_or] at ih
      cases b : tp_S N kn m k
      · simp only [b, Bool.false_and, Bool.or_false, true_implies] at ih
        exact br_t rfl (nm_r (nI_1 k) ih)
      · simp only [b, Bool.true_and, Bool.not_or, Bool.not_not] at ih
        refine br_f (by decide) (tp_yim (by omega) ?_)
        cases a : bt m k
        · refine br_t rfl ?_
          have hv : tp_V0 N kn m N = true := tp_an_t hk (show (fun s => tp_S N kn m s && !bt m s) k = true by simp only [a, b]; rfl)
          unfold tp_V at h
          rw [if_pos hv] at h
          exact h
        · have ih := ih (by rw [a]; rfl)
          refine br_f (by decide) ?_
          simp only [tp_ci hk6, tp_vi hk6, true_and, and_true, true_implies, false_implies, not_true_eq_false, not_false_eq_true, forall_eq, and_self]
          by_cases e : lg k = 1
          · rw [decide_eq_true e, Bool.and_true] at ih
            exact br_t e (tp_y54 hk6 hN ih)
          · rw [decide_eq_false e, Bool.and_false] at ih
            exact br_f e (tp_y54 hk6 hN ih)
  obtain ⟨n, hn⟩ := L
  exact ⟨n, hn rfl⟩
theorem tp_resK (g : tp_G N st an rd ak hd kn tr) (hi : i < N) (K : tp_K N kX kY) : tp_L N (fun post => wpX_resolve (kX post) (tp_x N md st lg ws rl fl an rd ak hd kn tr) (nI i)) (fun post => wpY_resolve (kY post) (tp_y N md st lg ws rl fl an rd ak hd kn tr) (nI i)) := by
  have hN := g.2.1
  have hi6 : i < 6 := by omega
  have hm : ∀ (post : Int32 → Prop), post (hd i) → wpY_members post (tp_y N md st lg ws rl fl an rd ak hd kn tr) (nI i) 3 := fun post h => tp_ymw 3 rfl (by decide) hi hN (g.2.2.2.2.2.2.1 i) h
  simp only [wpX_resolve, tp_x, tp_ci hi6, tp_vi hi6, true_and, and_true, true_implies, false_implies, not_true_eq_false, not_false_eq_true, forall_eq, and_self]
  by_cases v3 : tp_V N kn lg (hd i) = 3
  · refine tp_imp (fun post p => tp_xver hN (br_t v3 p)) (fun post p => hm _ (tp_yver hN (br_t v3 p))) ?_
    unfold wX_resolve_21 wY_resolve_23
    exact tp_decK g hi (Or.inl v3) (fun md st lg ws rl fl an rd ak hd kn tr g => K md st lg ws rl fl an rd ak hd kn tr g)
  · by_cases v4 : tp_V N kn lg (hd i) = 4
    · refine tp_imp (fun post p => tp_xver hN (br_f v3 (br_t v4 p))) (fun post p => hm _ (tp_yver hN (br_f v3 (br_t v4 p)))) ?_
      unfold wX_resolve_21 wY_resolve_23
      exact tp_decK g hi (Or.inr v4) (fun md st lg ws rl fl an rd ak hd kn tr g => K md st lg ws rl fl an rd ak hd kn tr g)
    · exact tp_imp (fun post p => tp_xver hN (br_f v3 (br_f v4 p))) (fun post p => hm _ (tp_yver hN (br_f v3 (br_f v4 p)))) (K md st lg ws rl fl an rd ak hd kn tr g)
end
end
section
section
variable {N : Nat} {md st lg ws rl fl an rd ak hd kn tr : Nat → Int32} {i s kd : Nat} {kX : (Int32 → SX → Prop) → SX → Prop} {kY : (Int32 → SY → Prop) → SY → Prop}
theorem tp_d3 {st : Nat → Int32} {i : Nat} (h : tp_dc st i = false) : ¬ st i = 3 ∧ ¬ st i = 4 := by
  unfold tp_dc at h
  rw [Bool.or_eq_false_iff] at h
  exact ⟨of_decide_eq_false h.1, of_decide_eq_false h.2⟩
theorem tp_recK (g0 : tp_G N st an rd ak hd kn tr) {p : Nat} (hp : ¬ tr p = 0) (K : tp_K N kX kY) : tp_L N (fun post => wpX_receive (kX post) (tp_x N md st lg ws rl fl an rd ak hd kn tr) (nI p)) (fun post => wpY_receive (kY post) (tp_y N md st lg ws rl fl an rd ak hd kn tr) (nI p)) := by
  have hN := g0.2.1
  obtain ⟨_, kd, s, i, h1, h2, hs, hi, hpe⟩ := (tp_gw g0 p).resolve_left hp
  have hi6 : i < 6 := by omega
  have hs6 : s < 6 := by omega
  have hp12 : p < 1200 := by omega
  have cp : (nI p).toNatClampNeg = p := nI_clamp (by omega)
  have vp : vp_in (nI p) 1200 := vp_in_nI hp12 (by decide)
  have ci := tp_ci hi6
  have vi := tp_vi hi6
  have d100 : ¬ (100 : Int32) = 0 := by decide
  have d10 : ¬ (10 : Int32) = 0 := by decide
  have e2 : nI p / 100 = nI kd := by rw [tp_d100 hp12, show p / 100 = kd by omega]
  have e3 : nI p / 10 - nI p / 10 / 10 * 10 = nI s := by rw [tp_d10 hp12, tp_m10 (by omega), show p / 10 % 10 = s by omega]
  have e4 : nI p - nI p / 10 * 10 = nI i := by rw [tp_m10 hp12, show p % 10 = i by omega]
  have eT : upd tr (nI p).toNatClampNeg (vp_nar .boolean 0) = upd tr p 0 := by rw [cp, tp_n0]
  have eC := tp_cn_dn hp hp12
  have eU : ∀ (a : Nat → Int32) (x : Int32), upd a (nI i).toNatClampNeg x = upd a i x := fun a x => by rw [ci]
  have eJ : ∀ (a : Nat → Int32) (x : Int32), upd a (nI i).toNatClampNeg (a (nI i).toNatClampNeg ||| x) = upd a i (a i ||| x) := fun a x => by rw [ci]
  have g : tp_G N st an rd ak hd kn (upd tr p 0) := tp_g_tr g0 (tp_w_0 (tp_gw g0) p)
  have hk : kd = 1 ∨ kd = 2 ∨ kd = 3 ∨ kd = 4 ∨ kd = 5 ∨ kd = 6 ∨ kd = 7 ∨ kd = 8 ∨ kd = 9 ∨ kd = 10 ∨ kd = 11 := by omega
  clear hp hpe h1 h2 g0
  by_cases hm : md (nI i).toNatClampNeg = 0
  · refine tp_imp (fun post p => And.intro d100 (nm_r e2 (And.intro d10 (And.intro d10 (nm_r e3 (And.intro d10 (nm_r e4 (tp_xin hs hN (br_f tp_10 (tp_xin hi hN (br_f tp_10 (And.intro vp (nm_r eT (nm_r eC p)))))))))))))) (fun post p => And.intro vp (nm_r eT (And.intro d100 (nm_r e2 (And.intro d10 (And.intro d10 (nm_r e3 (And.intro d10 (nm_r e4 (And.intro vi (br_t hm p))))))))))) ?_
    unfold wY_receive_41
    cases hdc : tp_dc st i
    · refine tp_imp (fun post p => tp_xd0 hi6 hdc (br_t rfl p)) (fun post p => tp_yd0 hi6 hdc (br_t rfl p)) ?_
      rcases hk with rfl | rfl | rfl | rfl | rfl | rfl | rfl | rfl | rfl | rfl | rfl
      · skip
        by_cases hs0 : st (nI i).toNatClampNeg = 0
        · by_cases hw : ws (nI i).toNatClampNeg = 0
          · skip
            exact tp_imp (fun post p => br_f (by decide) (br_f (by decide) (br_t rfl (And.intro vi (br_t hm (And.intro vi (br_t hs0 (And.intro vi (br_t hw p))))))))) (fun post p => br_t rfl (br_f tp_10 (And.intro vi (br_t hs0 (And.intro vi (br_t hw p)))))) (tp_decK g hi (Or.inr rfl) (fun md st lg ws rl fl an rd ak hd kn tr g => tp_sendK (kd := 9) g (by decide) (by decide) hi hs (fun md st lg ws rl fl an rd ak hd kn tr g => K md st lg ws rl fl an rd ak hd kn tr g)))
          · skip
            exact tp_imp (fun post p => br_f (by decide) (br_f (by decide) (br_t rfl (And.intro vi (br_t hm (And.intro vi (br_t hs0 (And.intro vi (br_f hw (And.intro vi (nm_r (eU _ _) p))))))))))) (fun post p => br_t rfl (br_f tp_10 (And.intro vi (br_t hs0 (And.intro vi (br_f hw (And.intro vi (nm_r (eU _ _) p)))))))) (tp_sendK (kd := 2) (tp_g_st g (Or.inr (Or.inl rfl))) (by decide) (by decide) hi hs (fun md st lg ws rl fl an rd ak hd kn tr g => K md st lg ws rl fl an rd ak hd kn tr g))
        · skip
          exact tp_imp (fun post p => br_f (by decide) (br_f (by decide) (br_t rfl (And.intro vi (br_t hm (And.intro vi (br_f hs0 p))))))) (fun post p => br_t rfl (br_f tp_10 (And.intro vi (br_f hs0 p)))) (K md st lg ws rl fl an rd ak hd kn (upd tr p 0) g)
      · skip
        by_cases hr : rl (nI i).toNatClampNeg = 1
        · skip
          refine tp_imp (fun post p => br_f (by decide) (br_f (by decide) (br_f (by decide) (br_f (by decide) (br_f (by decide) (br_f (by decide) (br_f (by decide) (br_t rfl (And.intro vi (br_t hr (And.intro vi (And.intro vi (nm_r (eJ _ _) (br_f (by decide) p)))))))))))))) (fun post p => br_f (by decide) (br_t rfl (And.intro vi (br_t hr (tp_yj0 hi6 hs6 p))))) ?_
          unfold wX_onReply_64
          exact tp_chkK (tp_g_anj g i hs) hi (fun md st lg ws rl fl an rd ak hd kn tr g => K md st lg ws rl fl an rd ak hd kn tr g)
        · skip
          exact tp_imp (fun post p => br_f (by decide) (br_f (by decide) (br_f (by decide) (br_f (by decide) (br_f (by decide) (br_f (by decide) (br_f (by decide) (br_t rfl (And.intro vi (br_f hr p)))))))))) (fun post p => br_f (by decide) (br_t rfl (And.intro vi (br_f hr p)))) (K md st lg ws rl fl an rd ak hd kn (upd tr p 0) g)
      · skip
        by_cases hf : fl (nI i).toNatClampNeg ≤ nI s
        · have hf2 : ¬ nI s < fl (nI i).toNatClampNeg := Int32.not_lt.mpr hf
          by_cases hs1 : st (nI i).toNatClampNeg = 1
          · skip
            exact tp_imp (fun post p => br_f (by decide) (br_f (by decide) (br_f (by decide) (br_t rfl (And.intro vi (br_t hm (And.intro vi (br_t hf (And.intro vi (br_t hs1 (And.intro vi (nm_r (eU _ _) (And.intro vi (nm_r (eU _ _) p)))))))))))))) (fun post p => br_f (by decide) (br_f (by decide) (br_t rfl (br_f tp_10 (And.intro vi (br_f hf2 (And.intro vi (br_t hs1 (And.intro vi (nm_r (eU _ _) (And.intro vi (nm_r (eU _ _) p)))))))))))) (tp_sendK (kd := 4) (tp_g_st g (Or.inr (Or.inr (Or.inl rfl)))) (by decide) (by decide) hi hs (fun md st lg ws rl fl an rd ak hd kn tr g => K md st lg ws rl fl an rd ak hd kn tr g))
          · by_cases hs2 : st (nI i).toNatClampNeg = 2
            · skip
              exact tp_imp (fun post p => br_f (by decide) (br_f (by decide) (br_f (by decide) (br_t rfl (And.intro vi (br_t hm (And.intro vi (br_t hf (And.intro vi (br_f hs1 (And.intro vi (br_t hs2 (And.intro vi (nm_r (eU _ _) (And.intro vi (nm_r (eU _ _) p)))))))))))))))) (fun post p => br_f (by decide) (br_f (by decide) (br_t rfl (br_f tp_10 (And.intro vi (br_f hf2 (And.intro vi (br_f hs1 (And.intro vi (br_t hs2 (And.intro vi (nm_r (eU _ _) (And.intro vi (nm_r (eU _ _) p)))))))))))))) (tp_sendK (kd := 4) (tp_g_st g (Or.inr (Or.inr (Or.inl rfl)))) (by decide) (by decide) hi hs (fun md st lg ws rl fl an rd ak hd kn tr g => K md st lg ws rl fl an rd ak hd kn tr g))
            · skip
              exact tp_imp (fun post p => br_f (by decide) (br_f (by decide) (br_f (by decide) (br_t rfl (And.intro vi (br_t hm (And.intro vi (br_t hf (And.intro vi (br_f hs1 (And.intro vi (br_f hs2 p)))))))))))) (fun post p => br_f (by decide) (br_f (by decide) (br_t rfl (br_f tp_10 (And.intro vi (br_f hf2 (And.intro vi (br_f hs1 (And.intro vi (br_f hs2 p)))))))))) (K md st lg ws rl fl an rd ak hd kn (upd tr p 0) g)
        · have hf2 : nI s < fl (nI i).toNatClampNeg := Int32.not_le.mp hf
          exact tp_imp (fun post p => br_f (by decide) (br_f (by decide) (br_f (by decide) (br_t rfl (And.intro vi (br_t hm (And.intro vi (br_f hf p)))))))) (fun post p => br_f (by decide) (br_f (by decide) (br_t rfl (br_f tp_10 (And.intro vi (br_t hf2 p)))))) (K md st lg ws rl fl an rd ak hd kn (upd tr p 0) g)
      · skip
        by_cases hr : rl (nI i).toNatClampNeg = 3
        · skip
          refine tp_imp (fun post p => br_f (by decide) (br_f (by decide) (br_f (by decide) (br_f (by decide) (br_f (by decide) (br_f (by decide) (br_f (by decide) (br_f (by decide) (br_t rfl (And.intro vi (br_t hr (And.intro vi (And.intro vi (nm_r (eJ _ _) (br_f (by decide) p))))))))))))))) (fun post p => br_f (by decide) (br_f (by decide) (br_f (by decide) (br_t rfl (And.intro vi (br_t hr (tp_yj0 hi6 hs6 p))))))) ?_
          unfold wX_onReply_64
          exact tp_chkK (tp_g_anj g i hs) hi (fun md st lg ws rl fl an rd ak hd kn tr g => K md st lg ws rl fl an rd ak hd kn tr g)
        · skip
          exact tp_imp (fun post p => br_f (by decide) (br_f (by decide) (br_f (by decide) (br_f (by decide) (br_f (by decide) (br_f (by decide) (br_f (by decide) (br_f (by decide) (br_t rfl (And.intro vi (br_f hr p))))))))))) (fun post p => br_f (by decide) (br_f (by decide) (br_f (by decide) (br_t rfl (And.intro vi (br_f hr p)))))) (K md st lg ws rl fl an rd ak hd kn (upd tr p 0) g)
      · skip
        by_cases hf : fl (nI i).toNatClampNeg ≤ nI s
        · have hf2 : ¬ nI s < fl (nI i).toNatClampNeg := Int32.not_lt.mpr hf
          by_cases hs0 : st (nI i).toNatClampNeg = 0
          · skip
            exact tp_imp (fun post p => br_f (by decide) (br_f (by decide) (br_f (by decide) (br_f (by decide) (br_t rfl (And.intro vi (br_t hm (And.intro vi (br_t hf (And.intro vi (br_t hs0 p))))))))))) (fun post p => br_f (by decide) (br_f (by decide) (br_f (by decide) (br_f (by decide) (br_t rfl (br_f tp_10 (And.intro vi (br_f hf2 (And.intro vi (br_t hs0 p)))))))))) (tp_decK g hi (Or.inr rfl) (fun md st lg ws rl fl an rd ak hd kn tr g => tp_sendK (kd := 9) g (by decide) (by decide) hi hs (fun md st lg ws rl fl an rd ak hd kn tr g => K md st lg ws rl fl an rd ak hd kn tr g)))
          · by_cases hs1 : st (nI i).toNatClampNeg = 1
            · skip
              exact tp_imp (fun post p => br_f (by decide) (br_f (by decide) (br_f (by decide) (br_f (by decide) (br_t rfl (And.intro vi (br_t hm (And.intro vi (br_t hf (And.intro vi (br_f hs0 (And.intro vi (br_t hs1 (And.intro vi (nm_r (eU _ _) p))))))))))))))) (fun post p => br_f (by decide) (br_f (by decide) (br_f (by decide) (br_f (by decide) (br_t rfl (br_f tp_10 (And.intro vi (br_f hf2 (And.intro vi (br_f hs0 (And.intro vi (br_t hs1 (And.intro vi (nm_r (eU _ _) p)))))))))))))) (tp_sendK (kd := 6) g (by decide) (by decide) hi hs (fun md st lg ws rl fl an rd ak hd kn tr g => K md st lg ws rl fl an rd ak hd kn tr g))
            · have hs2 : st (nI i).toNatClampNeg = 2 := by
                rw [ci] at hs0 hs1 ⊢
                rcases g.2.2.1 i with z | z | z | z | z
                · exact absurd z hs0
                · exact absurd z hs1
                · exact z
                · exact absurd z (tp_d3 hdc).1
                · exact absurd z (tp_d3 hdc).2
              exact tp_imp (fun post p => br_f (by decide) (br_f (by decide) (br_f (by decide) (br_f (by decide) (br_t rfl (And.intro vi (br_t hm (And.intro vi (br_t hf (And.intro vi (br_f hs0 (And.intro vi (br_f hs1 (And.intro vi (br_t hs2 (And.intro vi (nm_r (eU _ _) p))))))))))))))))) (fun post p => br_f (by decide) (br_f (by decide) (br_f (by decide) (br_f (by decide) (br_t rfl (br_f tp_10 (And.intro vi (br_f hf2 (And.intro vi (br_f hs0 (And.intro vi (br_f hs1 (And.intro vi (nm_r (eU _ _) p)))))))))))))) (tp_sendK (kd := 7) g (by decide) (by decide) hi hs (fun md st lg ws rl fl an rd ak hd kn tr g => K md st lg ws rl fl an rd ak hd kn tr g))
        · have hf2 : nI s < fl (nI i).toNatClampNeg := Int32.not_le.mp hf
          exact tp_imp (fun post p => br_f (by decide) (br_f (by decide) (br_f (by decide) (br_f (by decide) (br_t rfl (And.intro vi (br_t hm (And.intro vi (br_f hf p))))))))) (fun post p => br_f (by decide) (br_f (by decide) (br_f (by decide) (br_f (by decide) (br_t rfl (br_f tp_10 (And.intro vi (br_t hf2 p)))))))) (K md st lg ws rl fl an rd ak hd kn (upd tr p 0) g)
      · skip
        by_cases hr : rl (nI i).toNatClampNeg = 2
        · skip
          refine tp_imp (fun post p => br_f (by decide) (br_f (by decide) (br_f (by decide) (br_f (by decide) (br_f (by decide) (br_f (by decide) (br_f (by decide) (br_f (by decide) (br_f (by decide) (And.intro vi (br_t hr (And.intro vi (And.intro vi (nm_r (eJ _ _) (br_f (by decide) p))))))))))))))) (fun post p => br_f (by decide) (br_f (by decide) (br_f (by decide) (br_f (by decide) (br_f (by decide) (br_t rfl (And.intro vi (br_t hr (tp_yj0 hi6 hs6 p))))))))) ?_
          unfold wX_onReply_64
          exact tp_chkK (tp_g_anj g i hs) hi (fun md st lg ws rl fl an rd ak hd kn tr g => K md st lg ws rl fl an rd ak hd kn tr g)
        · skip
          exact tp_imp (fun post p => br_f (by decide) (br_f (by decide) (br_f (by decide) (br_f (by decide) (br_f (by decide) (br_f (by decide) (br_f (by decide) (br_f (by decide) (br_f (by decide) (And.intro vi (br_f hr p))))))))))) (fun post p => br_f (by decide) (br_f (by decide) (br_f (by decide) (br_f (by decide) (br_f (by decide) (br_t rfl (And.intro vi (br_f hr p)))))))) (K md st lg ws rl fl an rd ak hd kn (upd tr p 0) g)
      · skip
        by_cases hr : rl (nI i).toNatClampNeg = 2
        · skip
          refine tp_imp (fun post p => br_f (by decide) (br_f (by decide) (br_f (by decide) (br_f (by decide) (br_f (by decide) (br_f (by decide) (br_f (by decide) (br_f (by decide) (br_f (by decide) (And.intro vi (br_t hr (And.intro vi (And.intro vi (nm_r (eJ _ _) (br_t rfl (And.intro vi (And.intro vi (nm_r (eJ _ _) p)))))))))))))))))) (fun post p => br_f (by decide) (br_f (by decide) (br_f (by decide) (br_f (by decide) (br_f (by decide) (br_f (by decide) (br_t rfl (And.intro vi (br_t hr (tp_yj0 hi6 hs6 (tp_yj1 hi6 hs6 p))))))))))) ?_
          unfold wX_onReply_64
          exact tp_chkK (tp_g_rdj (tp_g_anj g i hs) i hs) hi (fun md st lg ws rl fl an rd ak hd kn tr g => K md st lg ws rl fl an rd ak hd kn tr g)
        · skip
          exact tp_imp (fun post p => br_f (by decide) (br_f (by decide) (br_f (by decide) (br_f (by decide) (br_f (by decide) (br_f (by decide) (br_f (by decide) (br_f (by decide) (br_f (by decide) (And.intro vi (br_f hr p))))))))))) (fun post p => br_f (by decide) (br_f (by decide) (br_f (by decide) (br_f (by decide) (br_f (by decide) (br_f (by decide) (br_t rfl (And.intro vi (br_f hr p))))))))) (K md st lg ws rl fl an rd ak hd kn (upd tr p 0) g)
      · skip
        exact tp_imp (fun post p => br_t rfl (p)) (fun post p => br_f (by decide) (br_f (by decide) (br_f (by decide) (br_f (by decide) (br_f (by decide) (br_f (by decide) (br_f (by decide) (br_t rfl (p))))))))) (tp_decK g hi (Or.inl rfl) (fun md st lg ws rl fl an rd ak hd kn tr g => K md st lg ws rl fl an rd ak hd kn tr g))
      · skip
        exact tp_imp (fun post p => br_f (by decide) (br_t rfl (p))) (fun post p => br_f (by decide) (br_f (by decide) (br_f (by decide) (br_f (by decide) (br_f (by decide) (br_f (by decide) (br_f (by decide) (br_f (by decide) (br_t rfl (p)))))))))) (tp_decK g hi (Or.inr rfl) (fun md st lg ws rl fl an rd ak hd kn tr g => K md st lg ws rl fl an rd ak hd kn tr g))
      · skip
        exact tp_imp (fun post p => br_f (by decide) (br_f (by decide) (br_f (by decide) (br_f (by decide) (br_f (by decide) (br_t rfl (And.intro vi (br_t hm (And.intro vi (And.intro vi (nm_r (eJ _ _) p))))))))))) (fun post p => br_f (by decide) (br_f (by decide) (br_f (by decide) (br_f (by decide) (br_f (by decide) (br_f (by decide) (br_f (by decide) (br_f (by decide) (br_f (by decide) (br_t rfl (br_f tp_10 (tp_yj2 hi6 hs6 p)))))))))))) (K md st lg ws rl fl an rd (upd ak i (ak i ||| ((1 : Int32) <<< (nI s &&& 31)))) hd kn (upd tr p 0) (tp_g_akj g i hs))
      · skip
        by_cases hm2 : md (nI i).toNatClampNeg = 2
        · skip
          exact tp_imp (fun post p => br_f (by decide) (br_f (by decide) (br_f (by decide) (br_f (by decide) (br_f (by decide) (br_f (by decide) (br_t rfl (And.intro vi (br_t hm2 (And.intro vi (And.intro vi (nm_r (eJ _ _) p)))))))))))) (fun post p => br_f (by decide) (br_f (by decide) (br_f (by decide) (br_f (by decide) (br_f (by decide) (br_f (by decide) (br_f (by decide) (br_f (by decide) (br_f (by decide) (br_f (by decide) (br_t rfl (And.intro vi (br_t hm2 (tp_yj3 hi6 hs6 p)))))))))))))) (tp_resK (tp_g_hdj g i hs) hi (fun md st lg ws rl fl an rd ak hd kn tr g => K md st lg ws rl fl an rd ak hd kn tr g))
        · skip
          exact tp_imp (fun post p => br_f (by decide) (br_f (by decide) (br_f (by decide) (br_f (by decide) (br_f (by decide) (br_f (by decide) (br_t rfl (And.intro vi (br_f hm2 p))))))))) (fun post p => br_f (by decide) (br_f (by decide) (br_f (by decide) (br_f (by decide) (br_f (by decide) (br_f (by decide) (br_f (by decide) (br_f (by decide) (br_f (by decide) (br_f (by decide) (br_t rfl (And.intro vi (br_f hm2 p))))))))))))) (K md st lg ws rl fl an rd ak hd kn (upd tr p 0) g)
    · refine tp_imp (fun post p => tp_xd1 hi6 hdc (br_f tp_10 p)) (fun post p => tp_yd1 hi6 hdc (br_f tp_10 p)) ?_
      rcases hk with rfl | rfl | rfl | rfl | rfl | rfl | rfl | rfl | rfl | rfl | rfl
      · skip
        exact tp_imp (fun post p => br_t rfl (tp_xkd hi6 p)) (fun post p => br_t rfl (tp_ykd hi6 p)) (tp_sendK (kd := tp_kd st i) g (tp_kd_le st i).1 (tp_kd_le st i).2 hi hs (fun md st lg ws rl fl an rd ak hd kn tr g => K md st lg ws rl fl an rd ak hd kn tr g))
      · skip
        exact tp_imp (fun post p => br_f (by decide) (br_f (by decide) (br_f (by decide) (br_f (by decide) (p))))) (fun post p => br_f (by decide) (br_f (by decide) (br_f (by decide) (br_f (by decide) (p))))) (K md st lg ws rl fl an rd ak hd kn (upd tr p 0) g)
      · skip
        exact tp_imp (fun post p => br_f (by decide) (br_t rfl (tp_xkd hi6 p))) (fun post p => br_f (by decide) (br_t rfl (tp_ykd hi6 p))) (tp_sendK (kd := tp_kd st i) g (tp_kd_le st i).1 (tp_kd_le st i).2 hi hs (fun md st lg ws rl fl an rd ak hd kn tr g => K md st lg ws rl fl an rd ak hd kn tr g))
      · skip
        exact tp_imp (fun post p => br_f (by decide) (br_f (by decide) (br_f (by decide) (br_f (by decide) (p))))) (fun post p => br_f (by decide) (br_f (by decide) (br_f (by decide) (br_f (by decide) (p))))) (K md st lg ws rl fl an rd ak hd kn (upd tr p 0) g)
      · skip
        exact tp_imp (fun post p => br_f (by decide) (br_f (by decide) (br_t rfl (tp_xkd hi6 p)))) (fun post p => br_f (by decide) (br_f (by decide) (br_t rfl (tp_ykd hi6 p)))) (tp_sendK (kd := tp_kd st i) g (tp_kd_le st i).1 (tp_kd_le st i).2 hi hs (fun md st lg ws rl fl an rd ak hd kn tr g => K md st lg ws rl fl an rd ak hd kn tr g))
      · skip
        exact tp_imp (fun post p => br_f (by decide) (br_f (by decide) (br_f (by decide) (br_f (by decide) (p))))) (fun post p => br_f (by decide) (br_f (by decide) (br_f (by decide) (br_f (by decide) (p))))) (K md st lg ws rl fl an rd ak hd kn (upd tr p 0) g)
      · skip
        exact tp_imp (fun post p => br_f (by decide) (br_f (by decide) (br_f (by decide) (br_f (by decide) (p))))) (fun post p => br_f (by decide) (br_f (by decide) (br_f (by decide) (br_f (by decide) (p))))) (K md st lg ws rl fl an rd ak hd kn (upd tr p 0) g)
      · skip
        exact tp_imp (fun post p => br_f (by decide) (br_f (by decide) (br_f (by decide) (br_f (by decide) (p))))) (fun post p => br_f (by decide) (br_f (by decide) (br_f (by decide) (br_f (by decide) (p))))) (K md st lg ws rl fl an rd ak hd kn (upd tr p 0) g)
      · skip
        exact tp_imp (fun post p => br_f (by decide) (br_f (by decide) (br_f (by decide) (br_f (by decide) (p))))) (fun post p => br_f (by decide) (br_f (by decide) (br_f (by decide) (br_f (by decide) (p))))) (K md st lg ws rl fl an rd ak hd kn (upd tr p 0) g)
      · skip
        exact tp_imp (fun post p => br_f (by decide) (br_f (by decide) (br_f (by decide) (br_t rfl (tp_xkd hi6 p))))) (fun post p => br_f (by decide) (br_f (by decide) (br_f (by decide) (br_t rfl (tp_ykd hi6 p))))) (tp_sendK (kd := tp_kd st i) g (tp_kd_le st i).1 (tp_kd_le st i).2 hi hs (fun md st lg ws rl fl an rd ak hd kn tr g => K md st lg ws rl fl an rd ak hd kn tr g))
      · skip
        exact tp_imp (fun post p => br_f (by decide) (br_f (by decide) (br_f (by decide) (br_f (by decide) (p))))) (fun post p => br_f (by decide) (br_f (by decide) (br_f (by decide) (br_f (by decide) (p))))) (K md st lg ws rl fl an rd ak hd kn (upd tr p 0) g)
  · refine tp_imp (fun post p => And.intro d100 (nm_r e2 (And.intro d10 (And.intro d10 (nm_r e3 (And.intro d10 (nm_r e4 (tp_xin hs hN (br_f tp_10 (tp_xin hi hN (br_f tp_10 (And.intro vp (nm_r eT (nm_r eC p)))))))))))))) (fun post p => And.intro vp (nm_r eT (And.intro d100 (nm_r e2 (And.intro d10 (And.intro d10 (nm_r e3 (And.intro d10 (nm_r e4 (And.intro vi (br_f hm p))))))))))) ?_
    unfold wY_receive_41
    cases hdc : tp_dc st i
    · refine tp_imp (fun post p => tp_xd0 hi6 hdc (br_t rfl p)) (fun post p => tp_yd0 hi6 hdc (br_t rfl p)) ?_
      rcases hk with rfl | rfl | rfl | rfl | rfl | rfl | rfl | rfl | rfl | rfl | rfl
      · skip
        exact tp_imp (fun post p => br_f (by decide) (br_f (by decide) (br_t rfl (And.intro vi (br_f hm p))))) (fun post p => br_t rfl (br_t rfl p)) (K md st lg ws rl fl an rd ak hd kn (upd tr p 0) g)
      · skip
        by_cases hr : rl (nI i).toNatClampNeg = 1
        · skip
          refine tp_imp (fun post p => br_f (by decide) (br_f (by decide) (br_f (by decide) (br_f (by decide) (br_f (by decide) (br_f (by decide) (br_f (by decide) (br_t rfl (And.intro vi (br_t hr (And.intro vi (And.intro vi (nm_r (eJ _ _) (br_f (by decide) p)))))))))))))) (fun post p => br_f (by decide) (br_t rfl (And.intro vi (br_t hr (tp_yj0 hi6 hs6 p))))) ?_
          unfold wX_onReply_64
          exact tp_chkK (tp_g_anj g i hs) hi (fun md st lg ws rl fl an rd ak hd kn tr g => K md st lg ws rl fl an rd ak hd kn tr g)
        · skip
          exact tp_imp (fun post p => br_f (by decide) (br_f (by decide) (br_f (by decide) (br_f (by decide) (br_f (by decide) (br_f (by decide) (br_f (by decide) (br_t rfl (And.intro vi (br_f hr p)))))))))) (fun post p => br_f (by decide) (br_t rfl (And.intro vi (br_f hr p)))) (K md st lg ws rl fl an rd ak hd kn (upd tr p 0) g)
      · skip
        exact tp_imp (fun post p => br_f (by decide) (br_f (by decide) (br_f (by decide) (br_t rfl (And.intro vi (br_f hm p)))))) (fun post p => br_f (by decide) (br_f (by decide) (br_t rfl (br_t rfl p)))) (K md st lg ws rl fl an rd ak hd kn (upd tr p 0) g)
      · skip
        by_cases hr : rl (nI i).toNatClampNeg = 3
        · skip
          refine tp_imp (fun post p => br_f (by decide) (br_f (by decide) (br_f (by decide) (br_f (by decide) (br_f (by decide) (br_f (by decide) (br_f (by decide) (br_f (by decide) (br_t rfl (And.intro vi (br_t hr (And.intro vi (And.intro vi (nm_r (eJ _ _) (br_f (by decide) p))))))))))))))) (fun post p => br_f (by decide) (br_f (by decide) (br_f (by decide) (br_t rfl (And.intro vi (br_t hr (tp_yj0 hi6 hs6 p))))))) ?_
          unfold wX_onReply_64
          exact tp_chkK (tp_g_anj g i hs) hi (fun md st lg ws rl fl an rd ak hd kn tr g => K md st lg ws rl fl an rd ak hd kn tr g)
        · skip
          exact tp_imp (fun post p => br_f (by decide) (br_f (by decide) (br_f (by decide) (br_f (by decide) (br_f (by decide) (br_f (by decide) (br_f (by decide) (br_f (by decide) (br_t rfl (And.intro vi (br_f hr p))))))))))) (fun post p => br_f (by decide) (br_f (by decide) (br_f (by decide) (br_t rfl (And.intro vi (br_f hr p)))))) (K md st lg ws rl fl an rd ak hd kn (upd tr p 0) g)
      · skip
        exact tp_imp (fun post p => br_f (by decide) (br_f (by decide) (br_f (by decide) (br_f (by decide) (br_t rfl (And.intro vi (br_f hm p))))))) (fun post p => br_f (by decide) (br_f (by decide) (br_f (by decide) (br_f (by decide) (br_t rfl (br_t rfl p)))))) (K md st lg ws rl fl an rd ak hd kn (upd tr p 0) g)
      · skip
        by_cases hr : rl (nI i).toNatClampNeg = 2
        · skip
          refine tp_imp (fun post p => br_f (by decide) (br_f (by decide) (br_f (by decide) (br_f (by decide) (br_f (by decide) (br_f (by decide) (br_f (by decide) (br_f (by decide) (br_f (by decide) (And.intro vi (br_t hr (And.intro vi (And.intro vi (nm_r (eJ _ _) (br_f (by decide) p))))))))))))))) (fun post p => br_f (by decide) (br_f (by decide) (br_f (by decide) (br_f (by decide) (br_f (by decide) (br_t rfl (And.intro vi (br_t hr (tp_yj0 hi6 hs6 p))))))))) ?_
          unfold wX_onReply_64
          exact tp_chkK (tp_g_anj g i hs) hi (fun md st lg ws rl fl an rd ak hd kn tr g => K md st lg ws rl fl an rd ak hd kn tr g)
        · skip
          exact tp_imp (fun post p => br_f (by decide) (br_f (by decide) (br_f (by decide) (br_f (by decide) (br_f (by decide) (br_f (by decide) (br_f (by decide) (br_f (by decide) (br_f (by decide) (And.intro vi (br_f hr p))))))))))) (fun post p => br_f (by decide) (br_f (by decide) (br_f (by decide) (br_f (by decide) (br_f (by decide) (br_t rfl (And.intro vi (br_f hr p)))))))) (K md st lg ws rl fl an rd ak hd kn (upd tr p 0) g)
      · skip
        by_cases hr : rl (nI i).toNatClampNeg = 2
        · skip
          refine tp_imp (fun post p => br_f (by decide) (br_f (by decide) (br_f (by decide) (br_f (by decide) (br_f (by decide) (br_f (by decide) (br_f (by decide) (br_f (by decide) (br_f (by decide) (And.intro vi (br_t hr (And.intro vi (And.intro vi (nm_r (eJ _ _) (br_t rfl (And.intro vi (And.intro vi (nm_r (eJ _ _) p)))))))))))))))))) (fun post p => br_f (by decide) (br_f (by decide) (br_f (by decide) (br_f (by decide) (br_f (by decide) (br_f (by decide) (br_t rfl (And.intro vi (br_t hr (tp_yj0 hi6 hs6 (tp_yj1 hi6 hs6 p))))))))))) ?_
          unfold wX_onReply_64
          exact tp_chkK (tp_g_rdj (tp_g_anj g i hs) i hs) hi (fun md st lg ws rl fl an rd ak hd kn tr g => K md st lg ws rl fl an rd ak hd kn tr g)
        · skip
          exact tp_imp (fun post p => br_f (by decide) (br_f (by decide) (br_f (by decide) (br_f (by decide) (br_f (by decide) (br_f (by decide) (br_f (by decide) (br_f (by decide) (br_f (by decide) (And.intro vi (br_f hr p))))))))))) (fun post p => br_f (by decide) (br_f (by decide) (br_f (by decide) (br_f (by decide) (br_f (by decide) (br_f (by decide) (br_t rfl (And.intro vi (br_f hr p))))))))) (K md st lg ws rl fl an rd ak hd kn (upd tr p 0) g)
      · skip
        exact tp_imp (fun post p => br_t rfl (p)) (fun post p => br_f (by decide) (br_f (by decide) (br_f (by decide) (br_f (by decide) (br_f (by decide) (br_f (by decide) (br_f (by decide) (br_t rfl (p))))))))) (tp_decK g hi (Or.inl rfl) (fun md st lg ws rl fl an rd ak hd kn tr g => K md st lg ws rl fl an rd ak hd kn tr g))
      · skip
        exact tp_imp (fun post p => br_f (by decide) (br_t rfl (p))) (fun post p => br_f (by decide) (br_f (by decide) (br_f (by decide) (br_f (by decide) (br_f (by decide) (br_f (by decide) (br_f (by decide) (br_f (by decide) (br_t rfl (p)))))))))) (tp_decK g hi (Or.inr rfl) (fun md st lg ws rl fl an rd ak hd kn tr g => K md st lg ws rl fl an rd ak hd kn tr g))
      · skip
        by_cases hm2 : md (nI i).toNatClampNeg = 2
        · skip
          exact tp_imp (fun post p => br_f (by decide) (br_f (by decide) (br_f (by decide) (br_f (by decide) (br_f (by decide) (br_t rfl (And.intro vi (br_f hm (And.intro vi (br_t hm2 (And.intro vi (And.intro vi (nm_r (eJ _ _) p))))))))))))) (fun post p => br_f (by decide) (br_f (by decide) (br_f (by decide) (br_f (by decide) (br_f (by decide) (br_f (by decide) (br_f (by decide) (br_f (by decide) (br_f (by decide) (br_t rfl (br_t rfl (And.intro vi (br_t hm2 (tp_yj3 hi6 hs6 p)))))))))))))) (tp_sendK (kd := 11) (tp_g_hdj g i hs) (by decide) (by decide) hi hs (fun md st lg ws rl fl an rd ak hd kn tr g => tp_resK g hi (fun md st lg ws rl fl an rd ak hd kn tr g => K md st lg ws rl fl an rd ak hd kn tr g)))
        · skip
          exact tp_imp (fun post p => br_f (by decide) (br_f (by decide) (br_f (by decide) (br_f (by decide) (br_f (by decide) (br_t rfl (And.intro vi (br_f hm (And.intro vi (br_f hm2 p)))))))))) (fun post p => br_f (by decide) (br_f (by decide) (br_f (by decide) (br_f (by decide) (br_f (by decide) (br_f (by decide) (br_f (by decide) (br_f (by decide) (br_f (by decide) (br_t rfl (br_t rfl (And.intro vi (br_f hm2 p))))))))))))) (K md st lg ws rl fl an rd ak hd kn (upd tr p 0) g)
      · skip
        by_cases hm2 : md (nI i).toNatClampNeg = 2
        · skip
          exact tp_imp (fun post p => br_f (by decide) (br_f (by decide) (br_f (by decide) (br_f (by decide) (br_f (by decide) (br_f (by decide) (br_t rfl (And.intro vi (br_t hm2 (And.intro vi (And.intro vi (nm_r (eJ _ _) p)))))))))))) (fun post p => br_f (by decide) (br_f (by decide) (br_f (by decide) (br_f (by decide) (br_f (by decide) (br_f (by decide) (br_f (by decide) (br_f (by decide) (br_f (by decide) (br_f (by decide) (br_t rfl (And.intro vi (br_t hm2 (tp_yj3 hi6 hs6 p)))))))))))))) (tp_resK (tp_g_hdj g i hs) hi (fun md st lg ws rl fl an rd ak hd kn tr g => K md st lg ws rl fl an rd ak hd kn tr g))
        · skip
          exact tp_imp (fun post p => br_f (by decide) (br_f (by decide) (br_f (by decide) (br_f (by decide) (br_f (by decide) (br_f (by decide) (br_t rfl (And.intro vi (br_f hm2 p))))))))) (fun post p => br_f (by decide) (br_f (by decide) (br_f (by decide) (br_f (by decide) (br_f (by decide) (br_f (by decide) (br_f (by decide) (br_f (by decide) (br_f (by decide) (br_f (by decide) (br_t rfl (And.intro vi (br_f hm2 p))))))))))))) (K md st lg ws rl fl an rd ak hd kn (upd tr p 0) g)
    · refine tp_imp (fun post p => tp_xd1 hi6 hdc (br_f tp_10 p)) (fun post p => tp_yd1 hi6 hdc (br_f tp_10 p)) ?_
      rcases hk with rfl | rfl | rfl | rfl | rfl | rfl | rfl | rfl | rfl | rfl | rfl
      · skip
        exact tp_imp (fun post p => br_t rfl (tp_xkd hi6 p)) (fun post p => br_t rfl (tp_ykd hi6 p)) (tp_sendK (kd := tp_kd st i) g (tp_kd_le st i).1 (tp_kd_le st i).2 hi hs (fun md st lg ws rl fl an rd ak hd kn tr g => K md st lg ws rl fl an rd ak hd kn tr g))
      · skip
        exact tp_imp (fun post p => br_f (by decide) (br_f (by decide) (br_f (by decide) (br_f (by decide) (p))))) (fun post p => br_f (by decide) (br_f (by decide) (br_f (by decide) (br_f (by decide) (p))))) (K md st lg ws rl fl an rd ak hd kn (upd tr p 0) g)
      · skip
        exact tp_imp (fun post p => br_f (by decide) (br_t rfl (tp_xkd hi6 p))) (fun post p => br_f (by decide) (br_t rfl (tp_ykd hi6 p))) (tp_sendK (kd := tp_kd st i) g (tp_kd_le st i).1 (tp_kd_le st i).2 hi hs (fun md st lg ws rl fl an rd ak hd kn tr g => K md st lg ws rl fl an rd ak hd kn tr g))
      · skip
        exact tp_imp (fun post p => br_f (by decide) (br_f (by decide) (br_f (by decide) (br_f (by decide) (p))))) (fun post p => br_f (by decide) (br_f (by decide) (br_f (by decide) (br_f (by decide) (p))))) (K md st lg ws rl fl an rd ak hd kn (upd tr p 0) g)
      · skip
        exact tp_imp (fun post p => br_f (by decide) (br_f (by decide) (br_t rfl (tp_xkd hi6 p)))) (fun post p => br_f (by decide) (br_f (by decide) (br_t rfl (tp_ykd hi6 p)))) (tp_sendK (kd := tp_kd st i) g (tp_kd_le st i).1 (tp_kd_le st i).2 hi hs (fun md st lg ws rl fl an rd ak hd kn tr g => K md st lg ws rl fl an rd ak hd kn tr g))
      · skip
        exact tp_imp (fun post p => br_f (by decide) (br_f (by decide) (br_f (by decide) (br_f (by decide) (p))))) (fun post p => br_f (by decide) (br_f (by decide) (br_f (by decide) (br_f (by decide) (p))))) (K md st lg ws rl fl an rd ak hd kn (upd tr p 0) g)
      · skip
        exact tp_imp (fun post p => br_f (by decide) (br_f (by decide) (br_f (by decide) (br_f (by decide) (p))))) (fun post p => br_f (by decide) (br_f (by decide) (br_f (by decide) (br_f (by decide) (p))))) (K md st lg ws rl fl an rd ak hd kn (upd tr p 0) g)
      · skip
        exact tp_imp (fun post p => br_f (by decide) (br_f (by decide) (br_f (by decide) (br_f (by decide) (p))))) (fun post p => br_f (by decide) (br_f (by decide) (br_f (by decide) (br_f (by decide) (p))))) (K md st lg ws rl fl an rd ak hd kn (upd tr p 0) g)
      · skip
        exact tp_imp (fun post p => br_f (by decide) (br_f (by decide) (br_f (by decide) (br_f (by decide) (p))))) (fun post p => br_f (by decide) (br_f (by decide) (br_f (by decide) (br_f (by decide) (p))))) (K md st lg ws rl fl an rd ak hd kn (upd tr p 0) g)
      · skip
        exact tp_imp (fun post p => br_f (by decide) (br_f (by decide) (br_f (by decide) (br_t rfl (tp_xkd hi6 p))))) (fun post p => br_f (by decide) (br_f (by decide) (br_f (by decide) (br_t rfl (tp_ykd hi6 p))))) (tp_sendK (kd := tp_kd st i) g (tp_kd_le st i).1 (tp_kd_le st i).2 hi hs (fun md st lg ws rl fl an rd ak hd kn tr g => K md st lg ws rl fl an rd ak hd kn tr g))
      · skip
        exact tp_imp (fun post p => br_f (by decide) (br_f (by decide) (br_f (by decide) (br_f (by decide) (p))))) (fun post p => br_f (by decide) (br_f (by decide) (br_f (by decide) (br_f (by decide) (p))))) (K md st lg ws rl fl an rd ak hd kn (upd tr p 0) g)
end
end
section
section
variable {N : Nat} {md st lg ws rl fl an rd ak hd kn tr : Nat → Int32} {i j k : Nat} {m v : Int32} {kX : (Int32 → SX → Prop) → SX → Prop} {kY : (Int32 → SY → Prop) → SY → Prop}
/-! notice -/
theorem tp_c6 (hi : i < 6) (x : Int32) : (nI (2 ^ i - 1) &&& (x ^^^ (-1))) = 0 ↔ tp_an (fun u => !bt x u) i = false :=
  tp_z (fun j hj => by rw [b_and, tp_all i (by omega) j hj, tp_not _ hj]) (by omega)
theorem tp_y20 {post : SY → Prop} {a : Bool} (hi : i < 6) (hx : ∀ n, wY_notice_20 post (nI i) (nI N) st md lg rl fl ws (tp_q (tp_F an rd ak hd kn)) tr (n + 1) (tp_b (a && !tp_an (fun u => !bt (kn i) u) i)) (nI i)) : ∃ n, wY_notice_20 post (nI i) (nI N) st md lg rl fl ws (tp_q (tp_F an rd ak hd kn)) tr n (tp_b a) 0 := by
  have L : ∃ n, wY_notice_20 post (nI i) (nI N) st md lg rl fl ws (tp_q (tp_F an rd ak hd kn)) tr n (tp_b (a && !tp_an (fun u => !bt (kn i) u) 0)) (nI 0) := by
    refine tp_lp0 (fun n k => wY_notice_20 post (nI i) (nI N) st md lg rl fl ws (tp_q (tp_F an rd ak hd kn)) tr n (tp_b (a && !tp_an (fun u => !bt (kn i) u) k)) (nI k)) i hx ?_
    intro n k hk ih
    refine br_f (nI_ge hk (by omega)) ?_
    refine tp_yh4 hi (by omega) ?_
    simp only [tp_an_s] at ih
    cases b : bt (kn i) k
    · simp only [b, Bool.not_false, Bool.or_true, Bool.not_true, Bool.and_false] at ih
      exact br_t rfl (nm_r (nI_1 k) ih)
    · simp only [b, Bool.not_true, Bool.or_false] at ih
      exact br_f (by decide) (nm_r (nI_1 k) ih)
  obtain ⟨n, hn⟩ := L
  refine ⟨n, ?_⟩
  have e0 : (a && !tp_an (fun u => !bt (kn i) u) 0) = a := Bool.and_true a
  rw [e0] at hn
  exact hn
theorem tp_ynot {post : SY → Prop} (hi : i < 6) (hj : j < 6) (hx : ∀ n, wY_notice_20 post (nI i) (nI N) st md lg rl fl ws (tp_q (tp_F an rd ak hd (upd kn i (kn i ||| ((1 : Int32) <<< (nI j &&& 31)))))) tr (n + 1) (tp_b (decide (0 < i) && !tp_an (fun u => !bt (upd kn i (kn i ||| ((1 : Int32) <<< (nI j &&& 31))) i) u) i)) (nI i)) : wpY_notice post (tp_y N md st lg ws rl fl an rd ak hd kn tr) (nI i) (nI j) := by
  unfold wpY_notice
  dsimp only
  refine tp_yj4 hi hj ?_
  by_cases e : 0 < i
  · rw [decide_eq_true e] at hx
    exact br_f (nI_nle e (by omega)) (tp_y20 (a := true) hi hx)
  · rw [decide_eq_false e] at hx
    have e0 : i = 0 := by omega
    refine br_t ?_ (tp_y20 (a := false) hi hx)
    rw [e0]
    decide
theorem tp_y66 {post : SY → Prop} (hi : i < 6) (r1 : ¬ rl i = 1) (r2 : ¬ rl i = 2) (r3 : ¬ rl i = 3) (h : post (tp_y N md st lg ws rl fl an rd ak hd kn tr)) : wY_notice_66 post (nI i) (nI N) st md lg rl fl ws (tp_q (tp_F an rd ak hd kn)) tr := by
  simp only [wY_notice_66, tp_ci hi, tp_vi hi, true_and, and_true, true_implies, false_implies, not_true_eq_false, not_false_eq_true, forall_eq, and_self]
  exact br_f r1 (br_f r2 (br_f r3 h))
theorem tp_xch0 {post : SX → Prop} (hi : i < 6) (r1 : ¬ rl i = 1) (r2 : ¬ rl i = 2) (r3 : ¬ rl i = 3) (h : post (tp_x N md st lg ws rl fl an rd ak hd kn tr)) : wpX_check post (tp_x N md st lg ws rl fl an rd ak hd kn tr) (nI i) := by
  simp only [wpX_check, wpX_others, tp_ci hi, tp_vi hi, true_and, and_true, true_implies, false_implies, not_true_eq_false, not_false_eq_true, forall_eq, and_self]
  exact br_f r1 (br_f r2 (br_f r3 h))
theorem tp_notK (g0 : tp_G N st an rd ak hd kn tr) (hi : i < N) (hj : j < N) (K : tp_K N kX kY) : tp_L N (fun post => wpX_notice (kX post) (tp_x N md st lg ws rl fl an rd ak hd kn tr) (nI i) (nI j)) (fun post => wpY_notice (kY post) (tp_y N md st lg ws rl fl an rd ak hd kn tr) (nI i) (nI j)) := by
  have hN := g0.2.1
  have hi6 : i < 6 := by omega
  have hj6 : j < 6 := by omega
  have ci := tp_ci hi6
  have vi := tp_vi hi6
  have le : nI i ≤ nI i := nI_le (Nat.le_refl i) (by omega)
  have g := tp_g_knj g0 i hj
  have C := tp_c6 hi6 (upd kn i (kn i ||| ((1 : Int32) <<< (nI j &&& 31))) i)
  simp only [wpX_notice, tp_ci hi6, tp_vi hi6, tp_fall i (by omega), true_and, and_true, true_implies, false_implies, not_true_eq_false, not_false_eq_true, forall_eq, and_self]
  by_cases r0 : rl i = 0
  · have r1 : ¬ rl i = 1 := by rw [r0]; decide
    have r2 : ¬ rl i = 2 := by rw [r0]; decide
    have r3 : ¬ rl i = 3 := by rw [r0]; decide
    by_cases e : 0 < i
    · cases b : tp_an (fun u => !bt (upd kn i (kn i ||| ((1 : Int32) <<< (nI j &&& 31))) i) u) i
      · exact tp_imp (fun post p => br_t r0 (br_f (nI_nle e (by omega)) (br_t (C.mpr b) p))) (fun post p => tp_ynot hi6 hj6 (fun n => br_t le (And.intro vi (br_t (by rw [ci]; exact r0) (br_f (by rw [b, decide_eq_true e]; decide) p))))) (tp_tovK g hi (fun md st lg ws rl fl an rd ak hd kn tr g => K md st lg ws rl fl an rd ak hd kn tr g))
      · exact tp_imp (fun post p => br_t r0 (br_f (nI_nle e (by omega)) (br_f (tp_nf C b) p))) (fun post p => tp_ynot hi6 hj6 (fun n => br_t le (And.intro vi (br_t (by rw [ci]; exact r0) (br_t (by rw [b, decide_eq_true e]; rfl) (tp_y66 hi6 r1 r2 r3 p)))))) (K md st lg ws rl fl an rd ak hd (upd kn i (kn i ||| ((1 : Int32) <<< (nI j &&& 31)))) tr g)
    · have e0 : nI i ≤ 0 := by
        rw [show i = 0 by omega]
        decide
      exact tp_imp (fun post p => br_t r0 (br_t e0 p)) (fun post p => tp_ynot hi6 hj6 (fun n => br_t le (And.intro vi (br_t (by rw [ci]; exact r0) (br_t (by rw [decide_eq_false e]; rfl) (tp_y66 hi6 r1 r2 r3 p)))))) (K md st lg ws rl fl an rd ak hd (upd kn i (kn i ||| ((1 : Int32) <<< (nI j &&& 31)))) tr g)
  · by_cases r1 : rl i = 1
    · refine tp_imp (fun post p => br_f r0 p) (fun post p => tp_ynot hi6 hj6 (fun n => br_t le (And.intro vi (br_f (by rw [ci]; exact r0) (And.intro vi (br_t (by rw [ci]; exact r1) p)))))) ?_
      unfold wY_notice_96
      exact tp_chkK g hi (fun md st lg ws rl fl an rd ak hd kn tr g => K md st lg ws rl fl an rd ak hd kn tr g)
    · by_cases r2 : rl i = 2
      · refine tp_imp (fun post p => br_f r0 p) (fun post p => tp_ynot hi6 hj6 (fun n => br_t le (And.intro vi (br_f (by rw [ci]; exact r0) (And.intro vi (br_f (by rw [ci]; exact r1) (And.intro vi (br_t (by rw [ci]; exact r2) p)))))))) ?_
        unfold wY_notice_96
        exact tp_chkK g hi (fun md st lg ws rl fl an rd ak hd kn tr g => K md st lg ws rl fl an rd ak hd kn tr g)
      · by_cases r3 : rl i = 3
        · refine tp_imp (fun post p => br_f r0 p) (fun post p => tp_ynot hi6 hj6 (fun n => br_t le (And.intro vi (br_f (by rw [ci]; exact r0) (And.intro vi (br_f (by rw [ci]; exact r1) (And.intro vi (br_f (by rw [ci]; exact r2) (And.intro vi (br_t (by rw [ci]; exact r3) p)))))))))) ?_
          unfold wY_notice_96
          exact tp_chkK g hi (fun md st lg ws rl fl an rd ak hd kn tr g => K md st lg ws rl fl an rd ak hd kn tr g)
        · exact tp_imp (fun post p => br_f r0 (tp_xch0 hi6 r1 r2 r3 p)) (fun post p => tp_ynot hi6 hj6 (fun n => br_t le (And.intro vi (br_f (by rw [ci]; exact r0) (tp_y66 hi6 r1 r2 r3 p))))) (K md st lg ws rl fl an rd ak hd (upd kn i (kn i ||| ((1 : Int32) <<< (nI j &&& 31)))) tr g)
end
/-! suffices, fewest -/
def tp_U0 (lg : Nat → Int32) (m : Int32) (k : Nat) : Bool := tp_an (fun s => bt m s && (!decide (lg s = 1) && !decide (lg s = 2))) k
def tp_U (N : Nat) (kn lg : Nat → Int32) (m : Int32) : Int32 := if tp_U0 lg m N = true then -1 else tp_V N kn lg m
def tp_sz (m : Int32) : Nat → Int32
  | 0 => 0
  | j + 1 => if bt m j = true then tp_sz m j + 1 else tp_sz m j
def tp_fb (N : Nat) (kn lg : Nat → Int32) : Nat → Int32
  | 0 => 0
  | k + 1 => if tp_U N kn lg (nI (k + 1)) = 3 ∨ tp_U N kn lg (nI (k + 1)) = 4 then (if tp_fb N kn lg k = 0 then tp_sz (nI (k + 1)) N else if tp_fb N kn lg k ≤ tp_sz (nI (k + 1)) N then tp_fb N kn lg k else tp_sz (nI (k + 1)) N) else tp_fb N kn lg k
section
variable {N : Nat} {md st lg ws rl fl an rd ak hd kn tr : Nat → Int32} {i j k : Nat} {m v : Int32}
theorem tp_xsuf {post : Int32 → Prop} (hN : N ≤ 6) (h1 : ¬ m < 1) (h2 : m ≤ nI (2 ^ N - 1)) (h : post (tp_U N kn lg m)) : wpX_suffices post (tp_x N md st lg ws rl fl an rd ak hd kn tr) m := by
  refine br_f h1 (br_t h2 ?_)
  unfold tp_U at h
  have L : ∃ n, (tp_U0 lg m 0 = false → wX_suffices_17 post m (nI N) (nI (2 ^ N - 1)) (nI (tp_cn tr)) md st lg ws rl fl an rd ak hd kn tr n (nI 0)) := by
    refine tp_lp0 (fun n k => tp_U0 lg m k = false → wX_suffices_17 post m (nI N) (nI (2 ^ N - 1)) (nI (tp_cn tr)) md st lg ws rl fl an rd ak hd kn tr n (nI k)) N ?_ ?_
    · intro n e
      rw [if_neg (by rw [e]; decide)] at h
      exact br_t (nI_le (Nat.le_refl N) (by omega)) (tp_xver hN h)
    · intro n k hk ih e
      have hk6 : k < 6 := by omega
      refine br_f (nI_ge hk (by omega)) ?_
      refine tp_xhas (by omega) ?_
      have e1 : tp_U0 lg m (k + 1) = (tp_U0 lg m k || (bt m k && (!decide (lg k = 1) && !decide (lg k = 2)))) := rfl
      simp only [e1, e, Bool.false_or] at ih
      cases b : bt m k
      · exact br_t rfl (nm_r (nI_1 k) (ih (by rw [b]; rfl)))
      · refine br_f (by decide) ?_
        simp only [tp_ci hk6, tp_vi hk6, nI_1, true_and, and_true, true_implies, false_implies, not_true_eq_false, not_false_eq_true, forall_eq, and_self]
        by_cases l1 : lg k = 1
        · exact br_t l1 (ih (by rw [b, decide_eq_true l1]; rfl))
        · refine br_f l1 ?_
          by_cases l2 : lg k = 2
          · exact br_t l2 (ih (by rw [b, decide_eq_true l2, decide_eq_false l1]; rfl))
          · refine br_f l2 ?_
            have hu : tp_U0 lg m N = true := tp_an_t hk (show (fun s => bt m s && (!decide (lg s = 1) && !decide (lg s = 2))) k = true by simp only [b, decide_eq_false l1, decide_eq_false l2]; rfl)
            rw [if_pos hu] at h
            exact h
  obtain ⟨n, hn⟩ := L
  exact ⟨n, hn rfl⟩
theorem tp_ysuf {post : Int32 → Prop} (hN : N ≤ 6) (h1 : ¬ m < 1) (h2 : m < nI (2 ^ N)) (h : post (tp_U N kn lg m)) : wpY_suffices post (tp_y N md st lg ws rl fl an rd ak hd kn tr) m := by
  refine br_f h1 (br_t (by rw [tp_f2N N (by omega)]; exact h2) ?_)
  unfold tp_U at h
  have L : ∃ n, (tp_U0 lg m 0 = false → wY_suffices_19 post m (nI N) st md lg rl fl ws (tp_q (tp_F an rd ak hd kn)) tr n (nI 0)) := by
    refine tp_lp0 (fun n k => tp_U0 lg m k = false → wY_suffices_19 post m (nI N) st md lg rl fl ws (tp_q (tp_F an rd ak hd kn)) tr n (nI k)) N ?_ ?_
    · intro n e
      rw [if_neg (by rw [e]; decide)] at h
      exact br_t (nI_le (Nat.le_refl N) (by omega)) (tp_yver hN h)
    · intro n k hk ih e
      have hk6 : k < 6 := by omega
      refine br_f (nI_ge hk (by omega)) ?_
      refine tp_yim (by omega) ?_
      have e1 : tp_U0 lg m (k + 1) = (tp_U0 lg m k || (bt m k && (!decide (lg k = 1) && !decide (lg k = 2)))) := rfl
      simp only [e1, e, Bool.false_or] at ih
      cases b : bt m k
      · exact br_t rfl (nm_r (nI_1 k) (ih (by rw [b]; rfl)))
      · refine br_f (by decide) ?_
        simp only [tp_ci hk6, tp_vi hk6, nI_1, true_and, and_true, true_implies, false_implies, not_true_eq_false, not_false_eq_true, forall_eq, and_self]
        by_cases l1 : lg k = 1
        · exact br_t l1 (ih (by rw [b, decide_eq_true l1]; rfl))
        · refine br_f l1 ?_
          by_cases l2 : lg k = 2
          · exact br_t l2 (ih (by rw [b, decide_eq_true l2, decide_eq_false l1]; rfl))
          · refine br_f l2 ?_
            have hu : tp_U0 lg m N = true := tp_an_t hk (show (fun s => bt m s && (!decide (lg s = 1) && !decide (lg s = 2))) k = true by simp only [b, decide_eq_false l1, decide_eq_false l2]; rfl)
            rw [if_pos hu] at h
            exact h
  obtain ⟨n, hn⟩ := L
  exact ⟨n, hn rfl⟩
theorem tp_xsz {post : Int32 → Prop} (hN : N ≤ 6) (h : post (tp_sz m N)) : wpX_sizeOf post (tp_x N md st lg ws rl fl an rd ak hd kn tr) m := by
  refine tp_lp0 (fun n k => wX_sizeOf_4 post m (nI N) (nI (2 ^ N - 1)) (nI (tp_cn tr)) md st lg ws rl fl an rd ak hd kn tr n (tp_sz m k) (nI k)) N ?_ ?_
  · intro n
    exact br_t (nI_le (Nat.le_refl N) (by omega)) h
  · intro n k hk ih
    refine br_f (nI_ge hk (by omega)) ?_
    refine tp_xhas (by omega) ?_
    by_cases b : bt m k = true
    · have e2 : tp_sz m (k + 1) = tp_sz m k + 1 := if_pos b
      simp only [e2] at ih
      exact br_f (tp_b1.mpr b) (nm_e (nm_r (nI_1 k) ih))
    · have e2 : tp_sz m (k + 1) = tp_sz m k := if_neg b
      simp only [e2] at ih
      exact br_t (tp_b0.mpr (Bool.eq_false_iff.mpr b)) (nm_r (nI_1 k) ih)
theorem tp_2N (hN : N ≤ 6) : 1 ≤ 2 ^ N ∧ 2 ^ N ≤ 64 := ⟨Nat.one_le_two_pow, Nat.pow_le_pow_right (n := 2) (by decide) hN⟩
theorem tp_xfew {post : Int32 → Prop} (hN : N ≤ 6) (h : post (tp_fb N kn lg (2 ^ N - 1))) : wpX_fewest post (tp_x N md st lg ws rl fl an rd ak hd kn tr) := by
  have h2 := tp_2N hN
  refine tp_lp0 (fun n k => wX_fewest_4 post (nI N) (nI (2 ^ N - 1)) (nI (tp_cn tr)) md st lg ws rl fl an rd ak hd kn tr n (tp_fb N kn lg k) (nI (k + 1))) (2 ^ N - 1) ?_ ?_
  · intro n
    exact br_t (nI_lt (by omega) (by omega)) h
  · intro n k hk ih
    refine br_f (nI_nlt (by omega) (by omega)) ?_
    refine tp_xsuf hN (nI_nlt (b := 1) (by omega) (by omega)) (nI_le (by omega) (by omega)) ?_
    have key : (tp_U N kn lg (nI (k + 1)) = 3 ∨ tp_U N kn lg (nI (k + 1)) = 4) → wX_fewest_28 post (wX_fewest_4 post (nI N) (nI (2 ^ N - 1)) (nI (tp_cn tr)) md st lg ws rl fl an rd ak hd kn tr n) (tp_fb N kn lg k) (nI (k + 1)) (nI N) (nI (2 ^ N - 1)) (nI (tp_cn tr)) md st lg ws rl fl an rd ak hd kn tr := by
      intro hu
      unfold wX_fewest_28
      refine tp_xsz hN ?_
      have e2 : tp_fb N kn lg (k + 1) = (if tp_fb N kn lg k = 0 then tp_sz (nI (k + 1)) N else if tp_fb N kn lg k ≤ tp_sz (nI (k + 1)) N then tp_fb N kn lg k else tp_sz (nI (k + 1)) N) := if_pos hu
      simp only [e2] at ih
      by_cases z : tp_fb N kn lg k = 0
      · rw [if_pos z] at ih
        exact br_t z (nm_r (nI_1 _) ih)
      · rw [if_neg z] at ih
        refine br_f z ?_
        by_cases y : tp_fb N kn lg k ≤ tp_sz (nI (k + 1)) N
        · rw [if_pos y] at ih
          exact br_t y (nm_r (nI_1 _) ih)
        · rw [if_neg y] at ih
          exact br_f y (nm_r (nI_1 _) ih)
    by_cases u3 : tp_U N kn lg (nI (k + 1)) = 3
    · exact br_t u3 (key (Or.inl u3))
    · refine br_f u3 ?_
      by_cases u4 : tp_U N kn lg (nI (k + 1)) = 4
      · exact br_t u4 (key (Or.inr u4))
      · refine br_f u4 ?_
        have e2 : tp_fb N kn lg (k + 1) = tp_fb N kn lg k := if_neg (fun z => z.elim u3 u4)
        simp only [e2] at ih
        exact nm_r (nI_1 _) ih
theorem tp_yfew {post : Int32 → Prop} (hN : N ≤ 6) (h : post (tp_fb N kn lg (2 ^ N - 1))) : wpY_fewest post (tp_y N md st lg ws rl fl an rd ak hd kn tr) := by
  have h2 := tp_2N hN
  have hf := tp_f2N N (by omega)
  refine tp_lp0 (fun n k => wY_fewest_4 post (nI N) st md lg rl fl ws (tp_q (tp_F an rd ak hd kn)) tr n (tp_fb N kn lg k) (nI (k + 1))) (2 ^ N - 1) ?_ ?_
  · intro n
    refine br_t ?_ h
    rw [hf]
    exact nI_le (by omega) (by omega)
  · intro n k hk ih
    refine br_f (by rw [hf]; exact nI_ge (by omega) (by omega)) ?_
    refine tp_ysuf hN (nI_nlt (b := 1) (by omega) (by omega)) (nI_lt (by omega) (by omega)) ?_
    have key : (tp_U N kn lg (nI (k + 1)) = 3 ∨ tp_U N kn lg (nI (k + 1)) = 4) → ∃ n36, wY_fewest_36 post (wY_fewest_4 post (nI N) st md lg rl fl ws (tp_q (tp_F an rd ak hd kn)) tr n) (tp_fb N kn lg k) (nI (k + 1)) (nI N) st md lg rl fl ws (tp_q (tp_F an rd ak hd kn)) tr n36 0 0 := by
      intro hu
      refine tp_lp0 (fun n' j => wY_fewest_36 post (wY_fewest_4 post (nI N) st md lg rl fl ws (tp_q (tp_F an rd ak hd kn)) tr n) (tp_fb N kn lg k) (nI (k + 1)) (nI N) st md lg rl fl ws (tp_q (tp_F an rd ak hd kn)) tr n' (tp_sz (nI (k + 1)) j) (nI j)) N ?_ ?_
      · intro n'
        refine br_t (nI_le (Nat.le_refl N) (by omega)) ?_
        have e2 : tp_fb N kn lg (k + 1) = (if tp_fb N kn lg k = 0 then tp_sz (nI (k + 1)) N else if tp_fb N kn lg k ≤ tp_sz (nI (k + 1)) N then tp_fb N kn lg k else tp_sz (nI (k + 1)) N) := if_pos hu
        simp only [e2] at ih
        by_cases z : tp_fb N kn lg k = 0
        · rw [if_pos z] at ih
          exact br_t z (nm_r (nI_1 _) ih)
        · rw [if_neg z] at ih
          refine br_f z ?_
          by_cases y : tp_fb N kn lg k ≤ tp_sz (nI (k + 1)) N
          · rw [if_pos y] at ih
            exact br_t y (nm_r (nI_1 _) ih)
          · rw [if_neg y] at ih
            exact br_f y (nm_r (nI_1 _) ih)
      · intro n' j hj ih'
        refine br_f (nI_ge hj (by omega)) ?_
        refine tp_yim (by omega) ?_
        by_cases b : bt (nI (k + 1)) j = true
        · have e2 : tp_sz (nI (k + 1)) (j + 1) = tp_sz (nI (k + 1)) j + 1 := if_pos b
          simp only [e2] at ih'
          exact br_f (tp_b1.mpr b) (nm_e (nm_r (nI_1 j) ih'))
        · have e2 : tp_sz (nI (k + 1)) (j + 1) = tp_sz (nI (k + 1)) j := if_neg b
          simp only [e2] at ih'
          exact br_t (tp_b0.mpr (Bool.eq_false_iff.mpr b)) (nm_r (nI_1 j) ih')
    by_cases u3 : tp_U N kn lg (nI (k + 1)) = 3
    · exact br_t u3 (key (Or.inl u3))
    · refine br_f u3 ?_
      by_cases u4 : tp_U N kn lg (nI (k + 1)) = 4
      · exact br_t u4 (key (Or.inr u4))
      · refine br_f u4 ?_
        have e2 : tp_fb N kn lg (k + 1) = tp_fb N kn lg k := if_neg (fun z => z.elim u3 u4)
        simp only [e2] at ih
        exact nm_r (nI_1 _) ih
end
end
section
theorem tp_least (P : Nat → Prop) : ∀ n, P n → ∃ k, P k ∧ ∀ j, j < k → ¬ P j := by
  intro n
  induction n using Nat.strongRecOn with
  | _ n ih =>
    intro hn
    by_cases h : ∃ j, j < n ∧ P j
    · obtain ⟨j, hj, hp⟩ := h
      exact ih j hj hp
    · exact ⟨n, hn, fun j hj hp => h ⟨j, hj, hp⟩⟩
theorem tp_m1l : (-1 : Int32) < 0 := by decide
def tp_o (md kn : Nat → Int32) (i j : Nat) : Bool := !decide (i = j) && (decide (md i = 0) && (!decide (md j = 0) && !bt (kn i) j))
def tp_oc (md kn : Nat → Int32) (i : Nat) (a : Int32) : Nat → Int32
  | 0 => a
  | j + 1 => if tp_o md kn i j = true then tp_oc md kn i a j + 1 else tp_oc md kn i a j
def tp_oo (md kn : Nat → Int32) (N : Nat) : Nat → Int32
  | 0 => 0
  | i + 1 => tp_oc md kn i (tp_oo md kn N i) N
section
variable {N : Nat} {md st lg ws rl fl an rd ak hd kn tr : Nat → Int32} {i j k : Nat} {m v : Int32}
/-! transitAt, transitCount -/
theorem tp_ta0 (k : Nat) (hk : k < 2 ^ 31) : ∀ d p b : Nat, p + d = 1200 → b = tp_tc tr p → b ≤ k → ∃ r : Int32, (r = -1 ∨ ∃ q : Nat, q < 1200 ∧ r = nI q ∧ ¬ tr q = 0 ∧ tp_tc tr q = k) ∧ (∀ post : Int32 → Prop, post r → wX_transitAt_18 post (nI N) (nI (2 ^ N - 1)) (nI (tp_cn tr)) md st lg ws rl fl an rd ak hd kn tr (d + 1) (nI (k - b)) (nI p)) ∧ (∀ post : Int32 → Prop, post r → wY_transitAt_10 post (nI k) (nI N) st md lg rl fl ws (tp_q (tp_F an rd ak hd kn)) tr (d + 1) (nI b) (nI p)) := by
  intro d
  induction d with
  | zero =>
    intro p b hp hb hbk
    have h : (1200 : Int32) ≤ nI p := nI_le (a := 1200) (by omega) (by omega)
    exact ⟨-1, Or.inl rfl, fun post q => br_t h q, fun post q => br_t h q⟩
  | succ d ih =>
    intro p b hp hb hbk
    have h : ¬ (1200 : Int32) ≤ nI p := nI_ge (b := 1200) (by omega) (by decide)
    have c : (nI p).toNatClampNeg = p := nI_clamp (by omega)
    have vv : vp_in (nI p) 1200 := vp_in_nI (by omega) (by decide)
    by_cases z : tr p = 0
    · have z' : tr (nI p).toNatClampNeg = 0 := by rw [c]; exact z
      obtain ⟨r, h1, h2, h3⟩ := ih (p + 1) b (by omega) (by rw [tp_tc_z z]; exact hb) hbk
      exact ⟨r, h1, fun post q => br_f h (And.intro vv (br_t z' (nm_r (nI_1 p) (h2 post q)))), fun post q => br_f h (And.intro vv (br_t z' (nm_r (nI_1 p) (h3 post q))))⟩
    · have z' : ¬ tr (nI p).toNatClampNeg = 0 := by rw [c]; exact z
      by_cases e : b = k
      · refine ⟨nI p, Or.inr ⟨p, by omega, rfl, z, by omega⟩, fun post q => br_f h (And.intro vv (br_f z' (br_t ?_ q))), fun post q => br_f h (And.intro vv (br_f z' (br_t (by rw [e]) q)))⟩
        rw [show k - b = 0 by omega]
        rfl
      · obtain ⟨r, h1, h2, h3⟩ := ih (p + 1) (b + 1) (by omega) (by rw [tp_tc_n z, hb]) (by omega)
        refine ⟨r, h1, fun post q => br_f h (And.intro vv (br_f z' (br_f (nI_ne0 (by omega) (by omega)) (nm_r (e' := nI (k - (b + 1))) ?_ (nm_r (nI_1 p) (h2 post q)))))), fun post q => br_f h (And.intro vv (br_f z' (br_f (fun y => e ((nI_eq (by omega) (by omega)).mp y)) (nm_r (nI_1 b) (nm_r (nI_1 p) (h3 post q))))))⟩
        rw [show k - b = (k - (b + 1)) + 1 by omega, pk_m1]
theorem tp_ta (md st lg ws rl fl an rd ak hd kn tr : Nat → Int32) (N : Nat) (v : Int32) : ∃ r : Int32, (r = -1 ∨ ∃ q : Nat, q < 1200 ∧ r = nI q ∧ ¬ tr q = 0) ∧ (∀ post : Int32 → Prop, post r → wpX_transitAt post (tp_x N md st lg ws rl fl an rd ak hd kn tr) v) ∧ (∀ post : Int32 → Prop, post r → wpY_transitAt post (tp_y N md st lg ws rl fl an rd ak hd kn tr) v) := by
  by_cases h : v < 0
  · exact ⟨-1, Or.inl rfl, fun post q => br_t h q, fun post q => br_f (Int32.not_le.mpr h) q⟩
  · obtain ⟨k, hk, rfl⟩ := nI_of h
    have h0 : (0 : Int32) ≤ nI k := nI_pos' hk
    have hc := tp_cn_le tr
    obtain ⟨r, h1, h2, h3⟩ := tp_ta0 (N := N) (md := md) (st := st) (lg := lg) (ws := ws) (rl := rl) (fl := fl) (an := an) (rd := rd) (ak := ak) (hd := hd) (kn := kn) (tr := tr) k hk 1200 0 0 (by omega) rfl (by omega)
    by_cases e : k < tp_cn tr
    · refine ⟨r, h1.imp id (fun ⟨q, a, b, c, _⟩ => ⟨q, a, b, c⟩), fun post q => br_f h (br_t (nI_lt e (by omega)) ⟨1201, h2 post q⟩), fun post q => br_t h0 ⟨1201, h3 post q⟩⟩
    · have hr : r = -1 := by
        rcases h1 with h1 | ⟨q, a, b, c, d⟩
        · exact h1
        · exact absurd (tp_tc_lt c a) (by omega)
      rw [hr] at h3
      exact ⟨-1, Or.inl rfl, fun post q => br_f h (br_f (nI_nlt (by omega) hk) q), fun post q => br_t h0 ⟨1201, h3 post q⟩⟩
theorem tp_ytc {post : Int32 → Prop} (h : post (nI (tp_cn tr))) : wpY_transitCount post (tp_y N md st lg ws rl fl an rd ak hd kn tr) := by
  refine tp_lp0 (fun n p => wY_transitCount_4 post (nI N) st md lg rl fl ws (tp_q (tp_F an rd ak hd kn)) tr n (nI (tp_tc tr p)) (nI p)) 1200 ?_ ?_
  · intro n
    exact br_t (nI_le (a := 1200) (Nat.le_refl _) (by decide)) h
  · intro n p hp ih
    have c : (nI p).toNatClampNeg = p := nI_clamp (by omega)
    have vv : vp_in (nI p) 1200 := vp_in_nI (by omega) (by decide)
    refine br_f (nI_ge (b := 1200) hp (by decide)) (And.intro vv ?_)
    by_cases z : tr p = 0
    · have z' : tr (nI p).toNatClampNeg = 0 := by rw [c]; exact z
      simp only [tp_tc_z z] at ih
      exact br_t z' (nm_r (nI_1 p) ih)
    · have z' : ¬ tr (nI p).toNatClampNeg = 0 := by rw [c]; exact z
      simp only [tp_tc_n z] at ih
      exact br_f z' (nm_r (nI_1 _) (nm_r (nI_1 p) ih))
/-! outstanding notices -/
theorem tp_xo {post : Int32 → Prop} (hi : i < N) (hj : j < N) (hN : N ≤ 6) (h : post (tp_b (tp_o md kn i j))) : wpX_isOutstanding post (tp_x N md st lg ws rl fl an rd ak hd kn tr) (nI i) (nI j) := by
  have hi6 : i < 6 := by omega
  have hj6 : j < 6 := by omega
  unfold wpX_isOutstanding
  dsimp only
  refine tp_xin hi hN ?_
  refine br_f tp_10 ?_
  refine tp_xin hj hN ?_
  refine br_f tp_10 ?_
  simp only [tp_ci hi6, tp_vi hi6, tp_ci hj6, tp_vi hj6, true_and, and_true, true_implies, false_implies, not_true_eq_false, not_false_eq_true, forall_eq, and_self]
  unfold tp_o at h
  by_cases e : i = j
  · rw [decide_eq_true e] at h
    exact br_t (congrArg nI e) h
  · rw [decide_eq_false e, Bool.not_false, Bool.true_and] at h
    refine br_f (fun z => e ((nI_eq (by omega) (by omega)).mp z)) ?_
    by_cases e1 : md i = 0
    · rw [decide_eq_true e1, Bool.true_and] at h
      refine br_t e1 ?_
      by_cases e2 : md j = 0
      · rw [decide_eq_true e2] at h
        exact br_t e2 h
      · rw [decide_eq_false e2, Bool.not_false, Bool.true_and] at h
        refine br_f e2 ?_
        refine tp_xhas (by omega) ?_
        cases b : bt (kn i) j
        · rw [b] at h
          exact br_t rfl h
        · rw [b] at h
          exact br_f (by decide) h
    · rw [decide_eq_false e1] at h
      exact br_f e1 h
theorem tp_yo {post : Int32 → Prop} (hi : i < 6) (hj : j < 6) (h : post (tp_b (tp_o md kn i j))) : wpY_outstanding post (tp_y N md st lg ws rl fl an rd ak hd kn tr) (nI i) (nI j) := by
  simp only [wpY_outstanding, tp_ci hi, tp_vi hi, tp_ci hj, tp_vi hj, true_and, and_true, true_implies, false_implies, not_true_eq_false, not_false_eq_true, forall_eq, and_self]
  unfold tp_o at h
  by_cases e : i = j
  · rw [decide_eq_true e] at h
    exact br_t (congrArg nI e) h
  · rw [decide_eq_false e, Bool.not_false, Bool.true_and] at h
    refine br_f (fun z => e ((nI_eq (by omega) (by omega)).mp z)) ?_
    by_cases e1 : md i = 0
    · rw [decide_eq_true e1, Bool.true_and] at h
      refine br_t e1 ?_
      by_cases e2 : md j = 0
      · rw [decide_eq_true e2] at h
        exact br_t e2 h
      · rw [decide_eq_false e2, Bool.not_false, Bool.true_and] at h
        refine br_f e2 ?_
        refine tp_yh4 hi hj ?_
        cases b : bt (kn i) j
        · rw [b] at h
          exact br_t rfl h
        · rw [b] at h
          exact br_f (by decide) h
    · rw [decide_eq_false e1] at h
      exact br_f e1 h
theorem tp_xoo {post : Int32 → Prop} {x y : Int32} (hx : (x < 0 ∨ nI N ≤ x) ∨ ((∃ i, i < N ∧ x = nI i) ∧ (y < 0 ∨ nI N ≤ y))) (hN : N ≤ 6) (h : post 0) : wpX_isOutstanding post (tp_x N md st lg ws rl fl an rd ak hd kn tr) x y := by
  unfold wpX_isOutstanding
  dsimp only
  rcases hx with hx | ⟨⟨i, hi, rfl⟩, hy⟩
  · refine tp_xout hx ?_
    exact br_t rfl h
  · refine tp_xin hi hN ?_
    refine br_f tp_10 ?_
    refine tp_xout hy ?_
    exact br_t rfl h
theorem tp_xun4 {post : Int32 → Prop} (hN : N ≤ 6) (h : post (tp_oo md kn N N)) : wpX_undetected post (tp_x N md st lg ws rl fl an rd ak hd kn tr) := by
  refine tp_lp0 (fun n i => wX_undetected_4 post (nI N) (nI (2 ^ N - 1)) (nI (tp_cn tr)) md st lg ws rl fl an rd ak hd kn tr n (tp_oo md kn N i) (nI i)) N ?_ ?_
  · intro n
    exact br_t (nI_le (Nat.le_refl N) (by omega)) h
  · intro n i hi ih
    refine br_f (nI_ge hi (by omega)) ?_
    refine tp_lp0 (fun n' j => wX_undetected_14 post (wX_undetected_4 post (nI N) (nI (2 ^ N - 1)) (nI (tp_cn tr)) md st lg ws rl fl an rd ak hd kn tr n) (nI i) (nI N) (nI (2 ^ N - 1)) (nI (tp_cn tr)) md st lg ws rl fl an rd ak hd kn tr n' (tp_oc md kn i (tp_oo md kn N i) j) (nI j)) N ?_ ?_
    · intro n'
      exact br_t (nI_le (Nat.le_refl N) (by omega)) (nm_r (nI_1 i) ih)
    · intro n' j hj ih'
      refine br_f (nI_ge hj (by omega)) ?_
      refine tp_xo hi hj hN ?_
      by_cases b : tp_o md kn i j = true
      · have e2 : tp_oc md kn i (tp_oo md kn N i) (j + 1) = tp_oc md kn i (tp_oo md kn N i) j + 1 := if_pos b
        simp only [e2] at ih'
        exact br_f (tp_b1.mpr b) (nm_e (nm_r (nI_1 j) ih'))
      · have e2 : tp_oc md kn i (tp_oo md kn N i) (j + 1) = tp_oc md kn i (tp_oo md kn N i) j := if_neg b
        simp only [e2] at ih'
        exact br_t (tp_b0.mpr (Bool.eq_false_iff.mpr b)) (nm_r (nI_1 j) ih')
theorem tp_yun4 {post : Int32 → Prop} (hN : N ≤ 6) (h : post (tp_oo md kn N N)) : wpY_undetected post (tp_y N md st lg ws rl fl an rd ak hd kn tr) := by
  refine tp_lp0 (fun n i => wY_undetected_4 post (nI N) st md lg rl fl ws (tp_q (tp_F an rd ak hd kn)) tr n (tp_oo md kn N i) (nI i)) N ?_ ?_
  · intro n
    exact br_t (nI_le (Nat.le_refl N) (by omega)) h
  · intro n i hi ih
    refine br_f (nI_ge hi (by omega)) ?_
    refine tp_lp0 (fun n' j => wY_undetected_14 post (wY_undetected_4 post (nI N) st md lg rl fl ws (tp_q (tp_F an rd ak hd kn)) tr n) (nI i) (nI N) st md lg rl fl ws (tp_q (tp_F an rd ak hd kn)) tr n' (tp_oc md kn i (tp_oo md kn N i) j) (nI j)) N ?_ ?_
    · intro n'
      exact br_t (nI_le (Nat.le_refl N) (by omega)) (nm_r (nI_1 i) ih)
    · intro n' j hj ih'
      refine br_f (nI_ge hj (by omega)) ?_
      refine tp_yo (by omega) (by omega) ?_
      by_cases b : tp_o md kn i j = true
      · have e2 : tp_oc md kn i (tp_oo md kn N i) (j + 1) = tp_oc md kn i (tp_oo md kn N i) j + 1 := if_pos b
        simp only [e2] at ih'
        exact br_f (tp_b1.mpr b) (nm_e (nm_r (nI_1 j) ih'))
      · have e2 : tp_oc md kn i (tp_oo md kn N i) (j + 1) = tp_oc md kn i (tp_oo md kn N i) j := if_neg b
        simp only [e2] at ih'
        exact br_t (tp_b0.mpr (Bool.eq_false_iff.mpr b)) (nm_r (nI_1 j) ih')
end
end
section
def tp_oP (N : Nat) (md kn : Nat → Int32) (p : Nat) : Bool := decide (p / 10 < N) && (decide (p % 10 < N) && tp_o md kn (p / 10) (p % 10))
section
variable {N : Nat} {md st lg ws rl fl an rd ak hd kn tr : Nat → Int32} {i j k : Nat} {b : Int32}
/-! the extreme code -/
theorem tp_xec0 {post : Int32 → Prop} (hz : ∀ q, q < 1200 → tr q = 0) (h : post (-1)) : wpX_extremeCode post (tp_x N md st lg ws rl fl an rd ak hd kn tr) b := by
  refine br_t ?_ h
  show nI (tp_tc tr 1200) = 0
  rw [tp_tc_0 1200 hz]
  rfl
theorem tp_1199 {c : Nat} (hc : c < 1200) : (1199 : Int32) - nI c = nI (1199 - c) := pk_sub (a := 1199) (by omega)
theorem tp_xec {post : Int32 → Prop} {c0 p : Nat} (hc : c0 < 1200) (hp : p = if b = 0 then c0 else 1199 - c0) (hz : ¬ tr p = 0) (hl : ∀ c, c < c0 → tr (if b = 0 then c else 1199 - c) = 0) (h : post (nI p)) : wpX_extremeCode post (tp_x N md st lg ws rl fl an rd ak hd kn tr) b := by
  have hp12 : p < 1200 := by rw [hp]; split <;> omega
  have hcn := tp_tc_lt hz hp12
  have hcl := tp_cn_le tr
  refine br_f (nI_ne0 (by omega) (by omega)) ?_
  refine tp_lp0 (fun n c => wX_extremeCode_11 post b (nI N) (nI (2 ^ N - 1)) (nI (tp_cn tr)) md st lg ws rl fl an rd ak hd kn tr n (nI c)) c0 ?_ ?_
  · intro n
    refine br_f (nI_ge (b := 1200) hc (by decide)) ?_
    have cp : (nI p).toNatClampNeg = p := nI_clamp (by omega)
    have vp : vp_in (nI p) 1200 := vp_in_nI hp12 (by decide)
    by_cases e : b = 0
    · rw [if_pos e] at hp
      refine br_t e ?_
      rw [← hp]
      exact And.intro vp (br_f (by rw [cp]; exact hz) h)
    · rw [if_neg e] at hp
      refine br_f e ?_
      rw [tp_1199 hc, ← hp]
      exact And.intro vp (br_f (by rw [cp]; exact hz) h)
  · intro n c hlt ih
    have hz' := hl c hlt
    refine br_f (nI_ge (b := 1200) (by omega) (by decide)) ?_
    by_cases e : b = 0
    · rw [if_pos e] at hz'
      refine br_t e (And.intro (vp_in_nI (by omega) (by decide)) (br_t ?_ (nm_r (nI_1 c) ih)))
      rw [nI_clamp (by omega)]
      exact hz'
    · rw [if_neg e] at hz'
      refine br_f e ?_
      rw [tp_1199 (by omega)]
      refine And.intro (vp_in_nI (by omega) (by decide)) (br_t ?_ (nm_r (nI_1 c) ih))
      rw [nI_clamp (by omega)]
      exact hz'
theorem tp_y40 {post : Int32 → SY → Prop} (hz : ∀ q, q < 1200 → tr q = 0) (hx : ∀ n, wY_oneEvent_4 post b (nI N) st md lg rl fl ws (tp_q (tp_F an rd ak hd kn)) tr (n + 1) (-1) (nI 1200)) : wpY_oneEvent post (tp_y N md st lg ws rl fl an rd ak hd kn tr) b := by
  refine tp_lp0 (fun n q => wY_oneEvent_4 post b (nI N) st md lg rl fl ws (tp_q (tp_F an rd ak hd kn)) tr n (-1) (nI q)) 1200 hx ?_
  intro n q hq ih
  refine br_f (nI_ge (b := 1200) hq (by decide)) (And.intro (vp_in_nI hq (by decide)) (br_t ?_ (nm_r (nI_1 q) ih)))
  rw [nI_clamp (by omega)]
  exact hz q hq
theorem tp_y4 {post : Int32 → SY → Prop} {p : Nat} (hp : p < 1200) (hl : ∀ q, q < 1200 → ¬ tr q = 0 → (b = 0 → p ≤ q) ∧ (¬ b = 0 → q ≤ p)) (hz : ¬ tr p = 0) (hx : ∀ n, wY_oneEvent_4 post b (nI N) st md lg rl fl ws (tp_q (tp_F an rd ak hd kn)) tr (n + 1) (nI p) (nI 1200)) : wpY_oneEvent post (tp_y N md st lg ws rl fl an rd ak hd kn tr) b := by
  have L : ∃ n, ∀ x : Int32, ((p < 0 → x = nI p) ∧ (b = 0 → 0 ≤ p → x = -1)) → wY_oneEvent_4 post b (nI N) st md lg rl fl ws (tp_q (tp_F an rd ak hd kn)) tr n x (nI 0) := by
    refine tp_lp0 (fun n q => ∀ x : Int32, ((p < q → x = nI p) ∧ (b = 0 → q ≤ p → x = -1)) → wY_oneEvent_4 post b (nI N) st md lg rl fl ws (tp_q (tp_F an rd ak hd kn)) tr n x (nI q)) 1200 ?_ ?_
    · intro n x h
      rw [h.1 hp]
      exact hx n
    · intro n q hq ih x h
      have cq : (nI q).toNatClampNeg = q := nI_clamp (by omega)
      refine br_f (nI_ge (b := 1200) hq (by decide)) (And.intro (vp_in_nI hq (by decide)) ?_)
      by_cases z : tr q = 0
      · have ne : q ≠ p := fun y => hz (by rw [← y]; exact z)
        exact br_t (by rw [cq]; exact z) (nm_r (nI_1 q) (ih x ⟨fun y => h.1 (by omega), fun y1 y2 => h.2 y1 (by omega)⟩))
      · have hlq := hl q hq z
        refine br_f (by rw [cq]; exact z) ?_
        by_cases xn : x < 0
        · have npq : ¬ p < q := by
            intro y
            rw [h.1 y] at xn
            exact nI_pos (by omega) xn
          refine br_t xn (nm_r (nI_1 q) (ih (nI q) ⟨fun y => ?_, fun y1 y2 => ?_⟩))
          · rw [show q = p by omega]
          · have := hlq.1 y1
            omega
        · refine br_f xn ?_
          by_cases e : b = 0
          · have h1 := hlq.1 e
            refine br_t e (nm_r (nI_1 q) (ih x ⟨fun y => ?_, fun y1 y2 => ?_⟩))
            · by_cases pq : p < q
              · exact h.1 pq
              · have h2 := h.2 e (by omega)
                rw [h2] at xn
                exact absurd tp_m1l xn
            · omega
          · have h1 := hlq.2 e
            refine br_f e (nm_r (nI_1 q) (ih (nI q) ⟨fun y => ?_, fun y1 _ => absurd y1 e⟩))
            rw [show q = p by omega]
  obtain ⟨n, hn⟩ := L
  exact ⟨n, hn (-1) ⟨fun y => absurd y (Nat.not_lt_zero p), fun _ _ => rfl⟩⟩
/-! the extreme notice -/
theorem tp_xop {post : Int32 → Prop} {p : Nat} (hp : p < 60) (hN : N ≤ 6) (h : post (tp_b (tp_oP N md kn p))) : wpX_isOutstanding post (tp_x N md st lg ws rl fl an rd ak hd kn tr) (nI (p / 10)) (nI (p % 10)) := by
  unfold tp_oP at h
  by_cases e1 : p / 10 < N
  · rw [decide_eq_true e1, Bool.true_and] at h
    by_cases e2 : p % 10 < N
    · rw [decide_eq_true e2, Bool.true_and] at h
      exact tp_xo e1 e2 hN h
    · rw [decide_eq_false e2, Bool.false_and] at h
      exact tp_xoo (Or.inr ⟨⟨_, e1, rfl⟩, Or.inr (nI_le (by omega) (by omega))⟩) hN h
  · rw [decide_eq_false e1, Bool.false_and] at h
    exact tp_xoo (Or.inl (Or.inr (nI_le (by omega) (by omega)))) hN h
theorem tp_x20 {J post : Int32 → Prop} {c z : Nat} {x : Int32} (hx : x = nI z) (hz : z < 60) (hN : N ≤ 6) (h : (tp_b (tp_oP N md kn z) = 0 → J (nI (c + 1))) ∧ (¬ tp_b (tp_oP N md kn z) = 0 → post (nI z))) : wX_extremeNotice_20 post J b (nI c) x (nI N) (nI (2 ^ N - 1)) (nI (tp_cn tr)) md st lg ws rl fl an rd ak hd kn tr := by
  have d10 : ¬ (10 : Int32) = 0 := by decide
  rw [hx]
  refine And.intro d10 (nm_r (tp_d10 (by omega)) (And.intro d10 (nm_r (tp_m10 (by omega)) ?_)))
  refine tp_xop hz hN ?_
  exact ⟨fun y => nm_r (nI_1 c) (h.1 y), h.2⟩
theorem tp_59 {c : Nat} (hc : c < 60) : (59 : Int32) - nI c = nI (59 - c) := pk_sub (a := 59) (by omega)
theorem tp_xen0 {post : Int32 → Prop} (hN : N ≤ 6) (hz : ∀ q, q < 60 → tp_oP N md kn q = false) (h : post (-1)) : wpX_extremeNotice post (tp_x N md st lg ws rl fl an rd ak hd kn tr) b := by
  refine tp_lp0 (fun n c => wX_extremeNotice_2 post b (nI N) (nI (2 ^ N - 1)) (nI (tp_cn tr)) md st lg ws rl fl an rd ak hd kn tr n (nI c)) 60 ?_ ?_
  · intro n
    exact br_t (nI_le (a := 60) (Nat.le_refl _) (by decide)) h
  · intro n c hc ih
    refine br_f (nI_ge (b := 60) hc (by decide)) ?_
    by_cases e : b = 0
    · exact br_t e (tp_x20 rfl hc hN (br_t (tp_b0.mpr (hz c hc)) ih))
    · exact br_f e (tp_x20 (tp_59 hc) (by omega) hN (br_t (tp_b0.mpr (hz (59 - c) (by omega))) ih))
theorem tp_xen {post : Int32 → Prop} {c0 p : Nat} (hN : N ≤ 6) (hc : c0 < 60) (hp : p = if b = 0 then c0 else 59 - c0) (hz : tp_oP N md kn p = true) (hl : ∀ c, c < c0 → tp_oP N md kn (if b = 0 then c else 59 - c) = false) (h : post (nI p)) : wpX_extremeNotice post (tp_x N md st lg ws rl fl an rd ak hd kn tr) b := by
  refine tp_lp0 (fun n c => wX_extremeNotice_2 post b (nI N) (nI (2 ^ N - 1)) (nI (tp_cn tr)) md st lg ws rl fl an rd ak hd kn tr n (nI c)) c0 ?_ ?_
  · intro n
    refine br_f (nI_ge (b := 60) hc (by decide)) ?_
    by_cases e : b = 0
    · rw [if_pos e] at hp
      exact br_t e (tp_x20 (congrArg nI hp.symm) (by omega) hN (br_f (tp_b1.mpr hz) h))
    · rw [if_neg e] at hp
      exact br_f e (tp_x20 (by rw [tp_59 hc, hp]) (by omega) hN (br_f (tp_b1.mpr hz) h))
  · intro n c hlt ih
    have hz' := hl c hlt
    refine br_f (nI_ge (b := 60) (by omega) (by decide)) ?_
    by_cases e : b = 0
    · rw [if_pos e] at hz'
      exact br_t e (tp_x20 rfl (by omega) hN (br_t (tp_b0.mpr hz') ih))
    · rw [if_neg e] at hz'
      exact br_f e (tp_x20 (tp_59 (by omega)) (by omega) hN (br_t (tp_b0.mpr hz') ih))
theorem tp_y550 {post : Int32 → SY → Prop} (hN : N ≤ 6) (hz : ∀ i j, i < N → j < N → tp_o md kn i j = false) (hx : ∀ n, wY_oneEvent_55 post b (nI N) st md lg rl fl ws (tp_q (tp_F an rd ak hd kn)) tr (n + 1) (-1) (-1) (nI N)) : ∃ n, wY_oneEvent_55 post b (nI N) st md lg rl fl ws (tp_q (tp_F an rd ak hd kn)) tr n (-1) (-1) 0 := by
  refine tp_lp0 (fun n i => wY_oneEvent_55 post b (nI N) st md lg rl fl ws (tp_q (tp_F an rd ak hd kn)) tr n (-1) (-1) (nI i)) N hx ?_
  intro n i hi ih
  refine br_f (nI_ge hi (by omega)) ?_
  refine tp_lp0 (fun n' j => wY_oneEvent_67 post (wY_oneEvent_55 post b (nI N) st md lg rl fl ws (tp_q (tp_F an rd ak hd kn)) tr n) b (nI i) (nI N) st md lg rl fl ws (tp_q (tp_F an rd ak hd kn)) tr n' (-1) (-1) (nI j)) N ?_ ?_
  · intro n'
    exact br_t (nI_le (Nat.le_refl N) (by omega)) (nm_r (nI_1 i) ih)
  · intro n' j hj ih'
    refine br_f (nI_ge hj (by omega)) ?_
    refine tp_yo (by omega) (by omega) ?_
    exact br_t (tp_b0.mpr (hz i j hi hj)) (nm_r (nI_1 j) ih')
/-- what the reference's search holds at (i, j), the wanted pair being (i0, j0) -/
def tp_In (b : Int32) (i0 j0 i j : Nat) (x y : Int32) : Prop := (10 * i0 + j0 < 10 * i + j → x = nI i0 ∧ y = nI j0) ∧ (b = 0 → 10 * i + j ≤ 10 * i0 + j0 → x = -1)
theorem tp_y55 {post : Int32 → SY → Prop} {i0 j0 : Nat} (hN : N ≤ 6) (hi0 : i0 < N) (hj0 : j0 < N) (hz : tp_o md kn i0 j0 = true) (hl : ∀ i j, i < N → j < N → tp_o md kn i j = true → (b = 0 → 10 * i0 + j0 ≤ 10 * i + j) ∧ (¬ b = 0 → 10 * i + j ≤ 10 * i0 + j0)) (hx : ∀ n, wY_oneEvent_55 post b (nI N) st md lg rl fl ws (tp_q (tp_F an rd ak hd kn)) tr (n + 1) (nI i0) (nI j0) (nI N)) : ∃ n, wY_oneEvent_55 post b (nI N) st md lg rl fl ws (tp_q (tp_F an rd ak hd kn)) tr n (-1) (-1) 0 := by
  have L : ∃ n, ∀ x y : Int32, tp_In b i0 j0 0 0 x y → wY_oneEvent_55 post b (nI N) st md lg rl fl ws (tp_q (tp_F an rd ak hd kn)) tr n x y (nI 0) := by
    refine tp_lp0 (fun n i => ∀ x y : Int32, tp_In b i0 j0 i 0 x y → wY_oneEvent_55 post b (nI N) st md lg rl fl ws (tp_q (tp_F an rd ak hd kn)) tr n x y (nI i)) N ?_ ?_
    · intro n x y h
      have h1 := h.1 (by omega)
      rw [h1.1, h1.2]
      exact hx n
    · intro n i hi ih x y h
      refine br_f (nI_ge hi (by omega)) ?_
      have L2 : ∀ d j, j + d = N → ∀ x y : Int32, tp_In b i0 j0 i j x y → wY_oneEvent_67 post (wY_oneEvent_55 post b (nI N) st md lg rl fl ws (tp_q (tp_F an rd ak hd kn)) tr n) b (nI i) (nI N) st md lg rl fl ws (tp_q (tp_F an rd ak hd kn)) tr (d + 1) x y (nI j) := by
        refine tp_lp (fun n' j => ∀ x y : Int32, tp_In b i0 j0 i j x y → wY_oneEvent_67 post (wY_oneEvent_55 post b (nI N) st md lg rl fl ws (tp_q (tp_F an rd ak hd kn)) tr n) b (nI i) (nI N) st md lg rl fl ws (tp_q (tp_F an rd ak hd kn)) tr n' x y (nI j)) N ?_ ?_
        · intro n' x y h
          refine br_t (nI_le (Nat.le_refl N) (by omega)) (nm_r (nI_1 i) (ih x y ⟨fun z => h.1 (by omega), fun z1 z2 => h.2 z1 (by omega)⟩))
        · intro n' j hj ih' x y h
          refine br_f (nI_ge hj (by omega)) ?_
          refine tp_yo (by omega) (by omega) ?_
          cases o : tp_o md kn i j
          · have ne : ¬ 10 * i0 + j0 = 10 * i + j := by
              intro z
              have z1 : i0 = i := by omega
              have z2 : j0 = j := by omega
              rw [z1, z2, o] at hz
              exact nomatch hz
            exact br_t rfl (nm_r (nI_1 j) (ih' x y ⟨fun z => h.1 (by omega), fun z1 z2 => h.2 z1 (by omega)⟩))
          · have hlq := hl i j hi hj o
            refine br_f (by decide) ?_
            by_cases xn : x < 0
            · have npq : ¬ 10 * i0 + j0 < 10 * i + j := by
                intro z
                rw [(h.1 z).1] at xn
                exact nI_pos (by omega) xn
              refine br_t xn (nm_r (nI_1 j) (ih' (nI i) (nI j) ⟨fun z => ?_, fun z1 z2 => ?_⟩))
              · have z1 : i = i0 := by omega
                have z2 : j = j0 := by omega
                rw [z1, z2]
                exact ⟨rfl, rfl⟩
              · have := hlq.1 z1
                omega
            · refine br_f xn ?_
              by_cases e : b = 0
              · have h1 := hlq.1 e
                refine br_t e (nm_r (nI_1 j) (ih' x y ⟨fun z => ?_, fun z1 z2 => ?_⟩))
                · by_cases pq : 10 * i0 + j0 < 10 * i + j
                  · exact h.1 pq
                  · have h2 := h.2 e (by omega)
                    rw [h2] at xn
                    exact absurd tp_m1l xn
                · omega
              · have h1 := hlq.2 e
                refine br_f e (nm_r (nI_1 j) (ih' (nI i) (nI j) ⟨fun z => ?_, fun z1 _ => absurd z1 e⟩))
                have z1 : i = i0 := by omega
                have z2 : j = j0 := by omega
                rw [z1, z2]
                exact ⟨rfl, rfl⟩
      exact ⟨N + 1, L2 N 0 (by omega) x y h⟩
  obtain ⟨n, hn⟩ := L
  exact ⟨n, hn (-1) (-1) ⟨fun z => absurd z (by omega), fun _ _ => rfl⟩⟩
end
end
section
section
variable {N : Nat} {md st lg ws rl fl an rd ak hd kn tr : Nat → Int32} {i j k : Nat} {b : Int32} {kX : (Int32 → SX → Prop) → Int32 → SX → Prop} {kY : (Int32 → SY → Prop) → Int32 → SY → Prop}
theorem tp_oneK (g : tp_G N st an rd ak hd kn tr) (K : ∀ (md st lg ws rl fl an rd ak hd kn tr : Nat → Int32), tp_G N st an rd ak hd kn tr → tp_L N (fun post => kX post 1 (tp_x N md st lg ws rl fl an rd ak hd kn tr)) (fun post => kY post 1 (tp_y N md st lg ws rl fl an rd ak hd kn tr))) (K0 : tp_L N (fun post => kX post 0 (tp_x N md st lg ws rl fl an rd ak hd kn tr)) (fun post => kY post 0 (tp_y N md st lg ws rl fl an rd ak hd kn tr))) : tp_L N (fun post => wpX_oneEvent (kX post) (tp_x N md st lg ws rl fl an rd ak hd kn tr) b) (fun post => wpY_oneEvent (kY post) (tp_y N md st lg ws rl fl an rd ak hd kn tr) b) := by
  have hN := g.2.1
  have le : nI N ≤ nI N := nI_le (Nat.le_refl N) (by omega)
  have l12 : (1200 : Int32) ≤ nI 1200 := nI_le (a := 1200) (Nat.le_refl _) (by decide)
  have d10 : ¬ (10 : Int32) = 0 := by decide
  unfold wpX_oneEvent
  dsimp only
  by_cases ex : ∃ q, q < 1200 ∧ ¬ tr q = 0
  · obtain ⟨q, hq, hqz⟩ := ex
    have hP : ∃ c0 p, c0 < 1200 ∧ p < 1200 ∧ (p = if b = 0 then c0 else 1199 - c0) ∧ ¬ tr p = 0 ∧ (∀ c, c < c0 → tr (if b = 0 then c else 1199 - c) = 0) ∧ (∀ q, q < 1200 → ¬ tr q = 0 → (b = 0 → p ≤ q) ∧ (¬ b = 0 → q ≤ p)) := by
      by_cases e : b = 0
      · obtain ⟨c0, h1, h2⟩ := tp_least (fun c => c < 1200 ∧ ¬ tr c = 0) q ⟨hq, hqz⟩
        refine ⟨c0, c0, h1.1, h1.1, by rw [if_pos e], h1.2, ?_, ?_⟩
        · intro c hc
          rw [if_pos e]
          exact Classical.byContradiction (fun z => h2 c hc ⟨by omega, z⟩)
        · intro q' hq' hz'
          refine ⟨fun _ => ?_, fun z => absurd e z⟩
          exact Nat.le_of_not_lt (fun z => h2 q' z ⟨hq', hz'⟩)
      · obtain ⟨c0, h1, h2⟩ := tp_least (fun c => c < 1200 ∧ ¬ tr (1199 - c) = 0) (1199 - q) ⟨by omega, by rw [show 1199 - (1199 - q) = q by omega]; exact hqz⟩
        have h11 := h1.1
        refine ⟨c0, 1199 - c0, h1.1, by omega, by rw [if_neg e], h1.2, ?_, ?_⟩
        · intro c hc
          rw [if_neg e]
          exact Classical.byContradiction (fun z => h2 c hc ⟨by omega, z⟩)
        · intro q' hq' hz'
          refine ⟨fun z => absurd z e, fun _ => ?_⟩
          refine Nat.le_of_not_lt (fun z => h2 (1199 - q') (by omega) ⟨by omega, ?_⟩)
          rw [show 1199 - (1199 - q') = q' by omega]
          exact hz'
    obtain ⟨c0, p, hc, hp, hpe, hz, hl, hl2⟩ := hP
    refine tp_imp (fun post h => tp_xec hc hpe hz hl (br_f (nI_pos (by omega)) h)) (fun post h => tp_y4 hp hl2 hz (fun n => br_t l12 (br_f (nI_pos (by omega)) h))) ?_
    exact tp_recK g hz (fun md st lg ws rl fl an rd ak hd kn tr g => K md st lg ws rl fl an rd ak hd kn tr g)
  · have hz : ∀ q, q < 1200 → tr q = 0 := fun q hq => Classical.byContradiction (fun z => ex ⟨q, hq, z⟩)
    by_cases ex2 : ∃ q, q < 60 ∧ tp_oP N md kn q = true
    · obtain ⟨q, hq, hqz⟩ := ex2
      have hP : ∃ c0 p, c0 < 60 ∧ p < 60 ∧ (p = if b = 0 then c0 else 59 - c0) ∧ tp_oP N md kn p = true ∧ (∀ c, c < c0 → tp_oP N md kn (if b = 0 then c else 59 - c) = false) ∧ (∀ q, q < 60 → tp_oP N md kn q = true → (b = 0 → p ≤ q) ∧ (¬ b = 0 → q ≤ p)) := by
        by_cases e : b = 0
        · obtain ⟨c0, h1, h2⟩ := tp_least (fun c => c < 60 ∧ tp_oP N md kn c = true) q ⟨hq, hqz⟩
          refine ⟨c0, c0, h1.1, h1.1, by rw [if_pos e], h1.2, ?_, ?_⟩
          · intro c hc
            have := h1.1
            rw [if_pos e]
            exact Bool.eq_false_iff.mpr (fun z => h2 c hc ⟨by omega, z⟩)
          · intro q' hq' hz'
            refine ⟨fun _ => ?_, fun z => absurd e z⟩
            exact Nat.le_of_not_lt (fun z => h2 q' z ⟨hq', hz'⟩)
        · obtain ⟨c0, h1, h2⟩ := tp_least (fun c => c < 60 ∧ tp_oP N md kn (59 - c) = true) (59 - q) ⟨by omega, by rw [show 59 - (59 - q) = q by omega]; exact hqz⟩
          have h11 := h1.1
          refine ⟨c0, 59 - c0, h1.1, by omega, by rw [if_neg e], h1.2, ?_, ?_⟩
          · intro c hc
            rw [if_neg e]
            exact Bool.eq_false_iff.mpr (fun z => h2 c hc ⟨by omega, z⟩)
          · intro q' hq' hz'
            refine ⟨fun z => absurd z e, fun _ => ?_⟩
            refine Nat.le_of_not_lt (fun z => h2 (59 - q') (by omega) ⟨by omega, ?_⟩)
            rw [show 59 - (59 - q') = q' by omega]
            exact hz'
      obtain ⟨c0, p, hc, hp, hpe, ho, hl, hl2⟩ := hP
      have ho' := ho
      unfold tp_oP at ho'
      rw [Bool.and_eq_true, Bool.and_eq_true] at ho'
      have hi0 : p / 10 < N := of_decide_eq_true ho'.1
      have hj0 : p % 10 < N := of_decide_eq_true ho'.2.1
      have hl3 : ∀ i j, i < N → j < N → tp_o md kn i j = true → (b = 0 → 10 * (p / 10) + p % 10 ≤ 10 * i + j) ∧ (¬ b = 0 → 10 * i + j ≤ 10 * (p / 10) + p % 10) := by
        intro i j hi hj h
        have e1 : (10 * i + j) / 10 = i := by omega
        have e2 : (10 * i + j) % 10 = j := by omega
        have e3 : 10 * (p / 10) + p % 10 = p := by omega
        rw [e3]
        refine hl2 (10 * i + j) (by omega) ?_
        unfold tp_oP
        rw [e1, e2, decide_eq_true hi, decide_eq_true hj, h]
        rfl
      refine tp_imp (fun post h => tp_xec0 hz (br_t tp_m1l (tp_xen hN hc hpe ho hl (br_f (nI_pos (by omega)) (And.intro d10 (nm_r (tp_d10 (by omega)) (And.intro d10 (nm_r (tp_m10 (by omega)) h)))))))) (fun post h => tp_y40 hz (fun n => br_t l12 (br_t tp_m1l (tp_y55 hN hi0 hj0 ho'.2.2 hl3 (fun n => br_t le (br_t (nI_pos' (by omega)) h)))))) ?_
      exact tp_notK g hi0 hj0 (fun md st lg ws rl fl an rd ak hd kn tr g => K md st lg ws rl fl an rd ak hd kn tr g)
    · have hz2 : ∀ q, q < 60 → tp_oP N md kn q = false := fun q hq => Bool.eq_false_iff.mpr (fun z => ex2 ⟨q, hq, z⟩)
      have hz3 : ∀ i j, i < N → j < N → tp_o md kn i j = false := by
        intro i j hi hj
        have h := hz2 (10 * i + j) (by omega)
        have e1 : (10 * i + j) / 10 = i := by omega
        have e2 : (10 * i + j) % 10 = j := by omega
        unfold tp_oP at h
        rw [e1, e2, decide_eq_true hi, decide_eq_true hj] at h
        exact h
      exact tp_imp (fun post h => tp_xec0 hz (br_t tp_m1l (tp_xen0 hN hz2 (br_t tp_m1l h)))) (fun post h => tp_y40 hz (fun n => br_t l12 (br_t tp_m1l (tp_y550 hN hz3 (fun n => br_t le (br_f (by decide) h)))))) K0
theorem tp_run0 {v : Int32} {L : Nat} (hL : L ≤ 16) (hA : ∀ e, e < L → ¬ v ≤ nI e) (hB : L = 16 ∨ v ≤ nI L) : ∀ d e, e + d = L → ∀ (md st lg ws rl fl an rd ak hd kn tr : Nat → Int32), tp_G N st an rd ak hd kn tr → tp_L N (fun post => wX_run_20 post b (nI L) (d + 1) (nI e) (nI N) (nI (2 ^ N - 1)) (nI (tp_cn tr)) md st lg ws rl fl an rd ak hd kn tr) (fun post => wY_run_5 post v b (d + 1) (nI e) (nI e) (nI N) st md lg rl fl ws (tp_q (tp_F an rd ak hd kn)) tr) := by
  intro d
  induction d with
  | zero =>
    intro e he md st lg ws rl fl an rd ak hd kn tr g
    have e0 : e = L := by omega
    rw [e0]
    refine tp_imp (fun post p => br_t (nI_le (Nat.le_refl L) (by omega)) p) (fun post p => ?_) (tp_ret (r := nI L) g)
    by_cases h16 : L = 16
    · exact br_t (nI_le (a := 16) (by omega) (by omega)) p
    · exact br_f (nI_ge (b := 16) (by omega) (by decide)) (br_t (hB.resolve_left h16) p)
  | succ d ih =>
    intro e he md st lg ws rl fl an rd ak hd kn tr g
    have x1 : ¬ nI L ≤ nI e := nI_ge (by omega) (by omega)
    have y1 : ¬ (16 : Int32) ≤ nI e := nI_ge (b := 16) (by omega) (by decide)
    have y2 := hA e (by omega)
    refine tp_imp (fun post p => br_f x1 p) (fun post p => br_f y1 (br_f y2 p)) ?_
    refine tp_oneK g ?_ ?_
    · intro md st lg ws rl fl an rd ak hd kn tr g
      exact tp_imp (fun post p => br_f tp_10 (nm_r (nI_1 e) p)) (fun post p => br_f tp_10 (nm_r (nI_1 e) (nm_r (nI_1 e) p))) (ih (e + 1) (by omega) md st lg ws rl fl an rd ak hd kn tr g)
    · exact tp_imp (fun post p => br_t rfl p) (fun post p => br_t rfl p) (tp_ret (r := nI e) g)
theorem tp_run (g : tp_G N st an rd ak hd kn tr) (v : Int32) : tp_L N (fun post => wpX_run post (tp_x N md st lg ws rl fl an rd ak hd kn tr) v b) (fun post => wpY_run post (tp_y N md st lg ws rl fl an rd ak hd kn tr) v b) := by
  by_cases h : v < 0
  · have hB : v ≤ nI 0 := Int32.le_of_lt h
    exact tp_imp (fun post p => br_f (Int32.not_le.mpr h) (br_t (by decide) ⟨1, p⟩)) (fun post p => ⟨1, p⟩) (tp_run0 (L := 0) (by decide) (fun e he => absurd he (Nat.not_lt_zero e)) (Or.inr hB) 0 0 rfl md st lg ws rl fl an rd ak hd kn tr g)
  · obtain ⟨k, hk, rfl⟩ := nI_of h
    have h0 : (0 : Int32) ≤ nI k := nI_pos' hk
    by_cases e : k ≤ 16
    · exact tp_imp (fun post p => br_t h0 (br_t (nI_le (b := 16) e (by decide)) ⟨k + 1, p⟩)) (fun post p => ⟨k + 1, p⟩) (tp_run0 (L := k) e (fun e he => nI_ge he hk) (Or.inr (nI_le (Nat.le_refl k) hk)) k 0 (by omega) md st lg ws rl fl an rd ak hd kn tr g)
    · exact tp_imp (fun post p => br_t h0 (br_f (fun z => e ((nI_leI (b := 16) hk (by decide)).mp z)) ⟨17, p⟩)) (fun post p => ⟨17, p⟩) (tp_run0 (L := 16) (by decide) (fun e he => nI_ge (by omega) hk) (Or.inl rfl) 16 0 (by omega) md st lg ws rl fl an rd ak hd kn tr g)
end
end
section
/-! messages to a crashed site -/
def tp_d1 (t : Nat → Int32) (i kd : Nat) : Nat → (Nat → Int32)
  | 0 => t
  | f + 1 => upd (tp_d1 t i kd f) (100 * kd + 10 * f + i) 0
def tp_d2 (t : Nat → Int32) (i N : Nat) : Nat → (Nat → Int32)
  | 0 => t
  | k + 1 => tp_d1 (tp_d2 t i N k) i (k + 1) N
def tp_dy (t : Nat → Int32) (i c : Nat) : Nat → Int32 := fun q => if q < c ∧ q % 10 = i then 0 else t q
theorem tp_d1C {t : Nat → Int32} {i kd c : Nat} (h : t c = 0) : ∀ f, tp_d1 t i kd f c = 0 := by
  intro f
  induction f with
  | zero => exact h
  | succ f ih =>
    show upd (tp_d1 t i kd f) (100 * kd + 10 * f + i) 0 c = 0
    by_cases e : c = 100 * kd + 10 * f + i
    · rw [e, pk_us]
    · rw [pk_un e, ih]
theorem tp_d1A {t : Nat → Int32} {i kd f' : Nat} : ∀ f, f' < f → tp_d1 t i kd f (100 * kd + 10 * f' + i) = 0 := by
  intro f
  induction f with
  | zero => intro h; omega
  | succ f ih =>
    intro h
    show upd (tp_d1 t i kd f) (100 * kd + 10 * f + i) 0 (100 * kd + 10 * f' + i) = 0
    by_cases e : f' = f
    · rw [e, pk_us]
    · rw [pk_un (by omega), ih (by omega)]
theorem tp_d1B {t : Nat → Int32} {i kd c : Nat} : ∀ f, (∀ f', f' < f → c ≠ 100 * kd + 10 * f' + i) → tp_d1 t i kd f c = t c := by
  intro f
  induction f with
  | zero => intro _; rfl
  | succ f ih =>
    intro h
    show upd (tp_d1 t i kd f) (100 * kd + 10 * f + i) 0 c = t c
    rw [pk_un (h f (by omega)), ih (fun f' hf => h f' (by omega))]
theorem tp_d2C {t : Nat → Int32} {i N c : Nat} (h : t c = 0) : ∀ k, tp_d2 t i N k c = 0 := by
  intro k
  induction k with
  | zero => exact h
  | succ k ih => exact tp_d1C ih N
theorem tp_d2A {t : Nat → Int32} {i N kd f : Nat} (h1 : 1 ≤ kd) (hf : f < N) : ∀ k, kd ≤ k → tp_d2 t i N k (100 * kd + 10 * f + i) = 0 := by
  intro k
  induction k with
  | zero => intro h; omega
  | succ k ih =>
    intro h
    by_cases e : kd = k + 1
    · rw [e]
      exact tp_d1A N hf
    · exact tp_d1C (ih (by omega)) N
theorem tp_d2B {t : Nat → Int32} {i N c : Nat} (hi : i < 6) (hN : N ≤ 6) (hc : c % 10 ≠ i ∨ 1200 ≤ c) : ∀ k, k ≤ 11 → tp_d2 t i N k c = t c := by
  intro k
  induction k with
  | zero => intro _; rfl
  | succ k ih =>
    intro hk
    show tp_d1 (tp_d2 t i N k) i (k + 1) N c = t c
    rw [tp_d1B N (fun f' hf => by omega), ih (by omega)]
theorem tp_d_eq {t : Nat → Int32} {i N : Nat} (hi : i < 6) (hN : N ≤ 6) (w : tp_w N t) : tp_d2 t i N 11 = tp_dy t i 1200 := by
  funext c
  unfold tp_dy
  by_cases e : c < 1200 ∧ c % 10 = i
  · rw [if_pos e]
    rcases w c with z | ⟨_, kd, f, q, h1, h2, hf, hq, he⟩
    · exact tp_d2C z 11
    · have hqi : q = i := by omega
      rw [he, hqi]
      exact tp_d2A h1 hf 11 h2
  · rw [if_neg e]
    exact tp_d2B hi hN (by omega) 11 (Nat.le_refl 11)
theorem tp_dy_w {N : Nat} {t : Nat → Int32} (w : tp_w N t) (i c : Nat) : tp_w N (tp_dy t i c) := by
  intro p
  unfold tp_dy
  by_cases e : p < c ∧ p % 10 = i
  · rw [if_pos e]
    exact Or.inl rfl
  · rw [if_neg e]
    exact w p
theorem tp_dy_s {t : Nat → Int32} {i c : Nat} (h : c % 10 = i) : tp_dy t i (c + 1) = upd (tp_dy t i c) c 0 := by
  funext q
  by_cases e : q = c
  · rw [e, pk_us]
    exact if_pos ⟨by omega, h⟩
  · rw [pk_un e]
    unfold tp_dy
    by_cases e2 : q < c ∧ q % 10 = i
    · rw [if_pos e2, if_pos ⟨by omega, e2.2⟩]
    · rw [if_neg e2, if_neg (by omega)]
theorem tp_dy_n {t : Nat → Int32} {i c : Nat} (h : ¬ c % 10 = i) : tp_dy t i (c + 1) = tp_dy t i c := by
  funext q
  unfold tp_dy
  by_cases e2 : q < c ∧ q % 10 = i
  · rw [if_pos e2, if_pos ⟨by omega, e2.2⟩]
  · rw [if_neg e2, if_neg]
    intro z
    by_cases e : q = c
    · rw [e] at z
      exact h z.2
    · exact e2 ⟨by omega, z.2⟩
section
variable {N : Nat} {md st lg ws rl fl an rd ak hd kn tr : Nat → Int32} {i j k : Nat} {b v : Int32} {kX : (Int32 → SX → Prop) → SX → Prop} {kY : (Int32 → SY → Prop) → SY → Prop}
theorem tp_xdm {post : SX → Prop} (hi : i < N) (hN : N ≤ 6) (w : tp_w N tr) (h : post (tp_x N md st lg ws rl fl an rd ak hd kn (tp_dy tr i 1200))) : wpX_dropMessagesTo post (tp_x N md st lg ws rl fl an rd ak hd kn tr) (nI i) := by
  rw [← tp_d_eq (by omega) hN w] at h
  refine tp_lp0 (fun n k => wX_dropMessagesTo_2 post (nI i) (nI N) (nI (2 ^ N - 1)) n (nI (k + 1)) (nI (tp_cn (tp_d2 tr i N k))) md st lg ws rl fl an rd ak hd kn (tp_d2 tr i N k)) 11 ?_ ?_
  · intro n
    exact br_t (nI_lt (a := 11) (by decide) (by decide)) h
  · intro n k hk ih
    refine br_f (nI_nlt (b := k + 1) (a := 11) (by omega) (by decide)) ?_
    refine tp_lp0 (fun n' f => wX_dropMessagesTo_10 post (wX_dropMessagesTo_2 post (nI i) (nI N) (nI (2 ^ N - 1)) n) (nI i) (nI (k + 1)) (nI N) (nI (2 ^ N - 1)) n' (nI f) (nI (tp_cn (tp_d1 (tp_d2 tr i N k) i (k + 1) f))) md st lg ws rl fl an rd ak hd kn (tp_d1 (tp_d2 tr i N k) i (k + 1) f)) N ?_ ?_
    · intro n'
      exact br_t (nI_le (Nat.le_refl N) (by omega)) (nm_r (nI_1 (k + 1)) ih)
    · intro n' f hf ih'
      have c : (nI (100 * (k + 1) + 10 * f + i)).toNatClampNeg = 100 * (k + 1) + 10 * f + i := nI_clamp (by omega)
      have vv : vp_in (nI (100 * (k + 1) + 10 * f + i)) 1200 := vp_in_nI (by omega) (by decide)
      refine br_f (nI_ge hf (by omega)) (nm_r (tp_ixc (k + 1) f i) (And.intro vv ?_))
      have e1 : tp_d1 (tp_d2 tr i N k) i (k + 1) (f + 1) = upd (tp_d1 (tp_d2 tr i N k) i (k + 1) f) (100 * (k + 1) + 10 * f + i) 0 := rfl
      simp only [e1] at ih'
      simp only [c, tp_n0]
      by_cases z : tp_d1 (tp_d2 tr i N k) i (k + 1) f (100 * (k + 1) + 10 * f + i) = 0
      · rw [tp_upd_id z] at ih'
        exact br_t z (nm_r (nI_1 f) ih')
      · exact br_f z (And.intro vv (nm_e (nm_r (tp_cn_dn z (by omega)) (nm_r (nI_1 f) ih'))))
theorem tp_y83 {post : Int32 → SY → Prop} (hi : i < 6) (h : post 1 (tp_y N md st lg ws rl fl an rd ak hd kn (tp_dy tr i 1200))) : ∃ n, wY_crash_83 post (nI i) (nI N) n 0 st md lg rl fl ws (tp_q (tp_F an rd ak hd kn)) tr := by
  have d10 : ¬ (10 : Int32) = 0 := by decide
  have L : ∃ n, wY_crash_83 post (nI i) (nI N) n (nI 0) st md lg rl fl ws (tp_q (tp_F an rd ak hd kn)) (tp_dy tr i 0) := by
    refine tp_lp0 (fun n c => wY_crash_83 post (nI i) (nI N) n (nI c) st md lg rl fl ws (tp_q (tp_F an rd ak hd kn)) (tp_dy tr i c)) 1200 ?_ ?_
    · intro n
      exact br_t (nI_le (a := 1200) (Nat.le_refl _) (by decide)) h
    · intro n c hc ih
      have cc : (nI c).toNatClampNeg = c := nI_clamp (by omega)
      have vv : vp_in (nI c) 1200 := vp_in_nI hc (by decide)
      refine br_f (nI_ge (b := 1200) hc (by decide)) (And.intro d10 ?_)
      rw [tp_m10 hc]
      by_cases e : c % 10 = i
      · simp only [tp_dy_s e] at ih
        refine br_t (congrArg nI e) (And.intro vv ?_)
        rw [cc, tp_n0]
        exact nm_e (nm_r (nI_1 c) ih)
      · simp only [tp_dy_n e] at ih
        exact br_f (fun z => e ((nI_eq (by omega) (by omega)).mp z)) (nm_r (nI_1 c) ih)
  have e0 : tp_dy tr i 0 = tr := by
    funext q
    exact if_neg (by omega)
  rw [e0] at L
  exact L
theorem tp_cr43 (g : tp_G N st an rd ak hd kn tr) (hi : i < N) : tp_L N (fun post => wX_crash_43 post (nI i) (nI N) (nI (2 ^ N - 1)) (nI (tp_cn tr)) md st lg ws rl fl an rd ak hd kn tr) (fun post => wY_crash_43 post (nI i) (nI N) st md lg rl fl ws (tp_q (tp_F an rd ak hd kn)) tr) := by
  have hN := g.2.1
  have hi6 : i < 6 := by omega
  have g1 := tp_g_tr (tp_g_hd0 (tp_g_ak0 (tp_g_rd0 (tp_g_an0 g i) i) i) i) (tp_dy_w (tp_gw g) i 1200)
  simp only [wX_crash_43, wY_crash_43, tp_ci hi6, tp_vi hi6, true_and, and_true, true_implies, false_implies, not_true_eq_false, not_false_eq_true, forall_eq, and_self]
  exact tp_imp (fun post p => tp_xcl hi6 (tp_xdm hi hN (tp_gw g) p)) (fun post p => tp_ye0 hi6 (tp_ye1 hi6 (tp_ye2 hi6 (tp_ye3 hi6 (tp_y83 hi6 p))))) (tp_ret (r := 1) (md := upd md i 1) (rl := upd rl i 0) (lg := lg) (ws := ws) (fl := fl) g1)
theorem tp_ixo (N : Nat) (hN : N ≤ 6) (x : Int32) : (x < 0 ∨ nI N ≤ x) ∨ ∃ i, i < N ∧ x = nI i := by
  rcases pk_ix x (n := N) (by omega) with h | h | h
  · exact Or.inl (Or.inl h)
  · exact Or.inl (Or.inr h)
  · exact Or.inr h
theorem tp_crash (g : tp_G N st an rd ak hd kn tr) (v : Int32) : tp_L N (fun post => wpX_crash post (tp_x N md st lg ws rl fl an rd ak hd kn tr) v) (fun post => wpY_crash post (tp_y N md st lg ws rl fl an rd ak hd kn tr) v) := by
  have hN := g.2.1
  unfold wpX_crash wpY_crash
  dsimp only
  rcases tp_ixo N hN v with h | ⟨i, hi, rfl⟩
  · exact tp_imp (fun post p => tp_xout h (br_t rfl p)) (fun post p => tp_yout h (br_f tp_10 p)) (tp_ret (r := -1) g)
  · have hi6 : i < 6 := by omega
    refine tp_imp (fun post p => tp_xin hi hN (br_f tp_10 p)) (fun post p => tp_yin hi hN (br_t rfl p)) ?_
    simp only [tp_ci hi6, tp_vi hi6, true_and, and_true, true_implies, false_implies, not_true_eq_false, not_false_eq_true, forall_eq, and_self]
    by_cases m1 : md i = 1
    · exact tp_imp (fun post p => br_t m1 p) (fun post p => br_t m1 p) (tp_ret (r := -1) g)
    · by_cases m0 : md i = 0
      · exact tp_imp (fun post p => br_f m1 (br_t m0 p)) (fun post p => br_f m1 (br_t m0 p)) (tp_cr43 g hi)
      · exact tp_imp (fun post p => br_f m1 (br_f m0 p)) (fun post p => br_f m1 (br_f m0 p)) (tp_cr43 g hi)
/-! recover -/
theorem tp_hd1 {a : Nat → Int32} {x : Int32} (i : Nat) : upd (upd a i 0) i (upd a i 0 i ||| x) = upd a i x := by
  have e : (0 : Int32) ||| x = x := b_ext (fun l _ => by rw [b_or, b_0, Bool.false_or])
  rw [pk_us, e]
  funext q
  by_cases z : q = i
  · rw [z, pk_us, pk_us]
  · rw [pk_un z, pk_un z, pk_un z]
theorem tp_re45 (g : tp_G N st an rd ak hd kn tr) (hi : i < N) : tp_L N (fun post => wX_recover_45 post (nI i) (nI N) (nI (2 ^ N - 1)) (nI (tp_cn tr)) md st lg ws rl fl an rd ak hd kn tr) (fun post => wY_recover_45 post (nI i) (nI N) st md lg rl fl ws (tp_q (tp_F an rd ak hd kn)) tr) := by
  have hN := g.2.1
  have hi6 : i < 6 := by omega
  unfold wX_recover_45 wY_recover_45
  cases hdc : tp_dc st i
  · refine tp_imp (fun post p => tp_xd0 hi6 hdc (br_t rfl p)) (fun post p => tp_yd0 hi6 hdc (br_t rfl (tp_ye3 hi6 (tp_yj3 hi6 hi6 p)))) ?_
    simp only [tp_ci hi6, tp_vi hi6, tp_hd1, true_and, and_true, true_implies, false_implies, not_true_eq_false, not_false_eq_true, forall_eq, and_self]
    refine tp_resK (tp_g_hd g (tp_bk_1 g.2.2.2.2.2.2.1 i hi hN)) hi ?_
    intro md st lg ws rl fl an rd ak hd kn tr g
    cases hdc2 : tp_dc st i
    · refine tp_imp (fun post p => tp_xd0 hi6 hdc2 (br_t rfl p)) (fun post p => tp_yd0 hi6 hdc2 (br_t rfl p)) ?_
      refine tp_stsa (kd := 10) g (by decide) (by decide) hi ?_
      exact tp_ret (r := 1) (tp_g_s g (by decide) (by decide) hi)
    · exact tp_imp (fun post p => tp_xd1 hi6 hdc2 (br_f tp_10 p)) (fun post p => tp_yd1 hi6 hdc2 (br_f tp_10 p)) (tp_ret (r := 1) g)
  · refine tp_imp (fun post p => tp_xd1 hi6 hdc (br_f tp_10 (tp_xkd hi6 p))) (fun post p => tp_yd1 hi6 hdc (br_f tp_10 (tp_ykd hi6 p))) ?_
    refine tp_stsa (kd := tp_kd st i) g (tp_kd_le st i).1 (tp_kd_le st i).2 hi ?_
    exact tp_ret (r := 1) (tp_g_s g (tp_kd_le st i).1 (tp_kd_le st i).2 hi)
theorem tp_recov (g : tp_G N st an rd ak hd kn tr) (v : Int32) : tp_L N (fun post => wpX_recover post (tp_x N md st lg ws rl fl an rd ak hd kn tr) v) (fun post => wpY_recover post (tp_y N md st lg ws rl fl an rd ak hd kn tr) v) := by
  have hN := g.2.1
  unfold wpX_recover wpY_recover
  dsimp only
  rcases tp_ixo N hN v with h | ⟨i, hi, rfl⟩
  · exact tp_imp (fun post p => tp_xout h (br_t rfl p)) (fun post p => tp_yout h (br_f tp_10 p)) (tp_ret (r := -1) g)
  · have hi6 : i < 6 := by omega
    refine tp_imp (fun post p => tp_xin hi hN (br_f tp_10 p)) (fun post p => tp_yin hi hN (br_t rfl p)) ?_
    simp only [tp_ci hi6, tp_vi hi6, true_and, and_true, true_implies, false_implies, not_true_eq_false, not_false_eq_true, forall_eq, and_self]
    by_cases m1 : md i = 1
    · by_cases s0 : st i = 0
      · exact tp_imp (fun post p => br_t m1 (br_t s0 p)) (fun post p => br_t m1 (br_t s0 p)) (tp_re45 (tp_g_st g (Or.inr (Or.inr (Or.inr (Or.inr rfl))))) hi)
      · exact tp_imp (fun post p => br_t m1 (br_f s0 p)) (fun post p => br_t m1 (br_f s0 p)) (tp_re45 g hi)
    · exact tp_imp (fun post p => br_f m1 p) (fun post p => br_f m1 p) (tp_ret (r := -1) g)
/-! setWish, begin, deliver, deliverAt, detect -/
theorem tp_swish (g : tp_G N st an rd ak hd kn tr) (v w : Int32) : tp_L N (fun post => wpX_setWish post (tp_x N md st lg ws rl fl an rd ak hd kn tr) v w) (fun post => wpY_setWish post (tp_y N md st lg ws rl fl an rd ak hd kn tr) v w) := by
  have hN := g.2.1
  unfold wpX_setWish wpY_setWish
  dsimp only
  rcases tp_ixo N hN v with h | ⟨i, hi, rfl⟩
  · exact tp_imp (fun post p => tp_xout h (br_t rfl p)) (fun post p => tp_yout h (br_f tp_10 p)) (tp_ret (r := -1) g)
  · have hi6 : i < 6 := by omega
    refine tp_imp (fun post p => tp_xin hi hN (br_f tp_10 p)) (fun post p => tp_yin hi hN (br_t rfl p)) ?_
    simp only [tp_ci hi6, tp_vi hi6, true_and, and_true, true_implies, false_implies, not_true_eq_false, not_false_eq_true, forall_eq, and_self]
    by_cases m0 : md i = 0
    · by_cases s0 : st i = 0
      · exact tp_imp (fun post p => br_t m0 (br_t s0 p)) (fun post p => br_t m0 (br_t s0 p)) (tp_ret (r := 1) g)
      · exact tp_imp (fun post p => br_t m0 (br_f s0 p)) (fun post p => br_t m0 (br_f s0 p)) (tp_ret (r := -1) g)
    · exact tp_imp (fun post p => br_f m0 p) (fun post p => br_f m0 p) (tp_ret (r := -1) g)
theorem tp_begin (g : tp_G N st an rd ak hd kn tr) : tp_L N (fun post => wpX_begin post (tp_x N md st lg ws rl fl an rd ak hd kn tr)) (fun post => wpY_begin post (tp_y N md st lg ws rl fl an rd ak hd kn tr)) := by
  have hN := g.2.1
  have h2 := g.1
  have hi : 0 < N := by omega
  have hi6 : 0 < 6 := by decide
  have K : tp_K N (fun post => fun u => post 1 u) (fun post => fun v => post 1 v) := fun md st lg ws rl fl an rd ak hd kn tr g => tp_ret (r := 1) g
  by_cases m0 : md 0 = 0
  · by_cases r0 : rl 0 = 0
    · cases hdc : tp_dc st 0
      · have hm : ∀ (post : Int32 → Prop), post (kn 0) → wpY_members post (tp_y N md st lg ws (upd rl 0 1) fl an rd ak hd kn tr) 0 4 := fun post h => tp_ymw (i := 0) 4 rfl (by decide) hi hN (g.2.2.2.2.2.2.2.1 0) h
        by_cases w0 : ws 0 = 0
        · refine tp_imp (fun post p => br_t m0 (br_t r0 (tp_xd0 (i := 0) hi6 hdc (br_t rfl (nm_e (br_t w0 p)))))) (fun post p => br_t m0 (br_t r0 (tp_yd0 (i := 0) hi6 hdc (br_t rfl (nm_e (hm _ (br_t w0 p))))))) ?_
          unfold wX_begin_60 wY_begin_76
          exact tp_decK (i := 0) g hi (Or.inr rfl) (fun md st lg ws rl fl an rd ak hd kn tr g => K md st lg ws rl fl an rd ak hd kn tr g)
        · by_cases k0 : kn 0 = 0
          · have g1 : tp_G N (upd st 0 1) (upd an 0 0) (upd rd 0 0) ak hd kn tr := tp_g_rd0 (tp_g_an0 (tp_g_st g (Or.inr (Or.inl rfl))) 0) 0
            refine tp_imp (fun post p => br_t m0 (br_t r0 (tp_xd0 (i := 0) hi6 hdc (br_t rfl (nm_e (br_f w0 (br_t k0 (nm_e (nm_e (nm_e p))))))))))  (fun post p => br_t m0 (br_t r0 (tp_yd0 (i := 0) hi6 hdc (br_t rfl (nm_e (hm _ (br_f w0 (br_t k0 (nm_e (tp_ye0 (i := 0) hi6 (tp_ye1 (i := 0) hi6 p))))))))))) ?_
            refine tp_stsa (kd := 1) (f := 0) g1 (by decide) (by decide) hi ?_
            exact tp_ret (r := 1) (tp_g_s g1 (by decide) (by decide) hi)
          · refine tp_imp (fun post p => br_t m0 (br_t r0 (tp_xd0 (i := 0) hi6 hdc (br_t rfl (nm_e (br_f w0 (br_f k0 p))))))) (fun post p => br_t m0 (br_t r0 (tp_yd0 (i := 0) hi6 hdc (br_t rfl (nm_e (hm _ (br_f w0 (br_f k0 p)))))))) ?_
            unfold wX_begin_60 wY_begin_76
            exact tp_decK (i := 0) g hi (Or.inr rfl) (fun md st lg ws rl fl an rd ak hd kn tr g => K md st lg ws rl fl an rd ak hd kn tr g)
      · have g2 := tp_g_s (md := md) (kd := tp_kd st 0) (P := fun j => !bt (kn 0) j) g (tp_kd_le st 0).1 (tp_kd_le st 0).2 hi
        exact tp_imp (fun post p => br_t m0 (br_t r0 (tp_xd1 (i := 0) hi6 hdc (br_f tp_10 (tp_xfd (i := 0) g hi p))))) (fun post p => br_t m0 (br_t r0 (tp_yd1 (i := 0) hi6 hdc (br_f tp_10 (nm_e (tp_ykd (i := 0) hi6 (tp_ysu (f := 0) (tp_kd_le st 0).2 hi hN p))))))) (tp_ret (r := 1) (md := md) (rl := upd rl 0 4) (lg := lg) (ws := ws) (fl := fl) g2)
    · exact tp_imp (fun post p => br_t m0 (br_f r0 p)) (fun post p => br_t m0 (br_f r0 p)) (tp_ret (r := -1) g)
  · exact tp_imp (fun post p => br_f m0 p) (fun post p => br_f m0 p) (tp_ret (r := -1) g)
theorem tp_deliver (g : tp_G N st an rd ak hd kn tr) (v1 v2 v3 : Int32) : tp_L N (fun post => wpX_deliver post (tp_x N md st lg ws rl fl an rd ak hd kn tr) v1 v2 v3) (fun post => wpY_deliver post (tp_y N md st lg ws rl fl an rd ak hd kn tr) v1 v2 v3) := by
  have hN := g.2.1
  unfold wpX_deliver wpY_deliver
  dsimp only
  rcases tp_ixo N hN v1 with h | ⟨f, hf, rfl⟩
  · exact tp_imp (fun post p => tp_xout h (br_t rfl p)) (fun post p => tp_yout h (br_f tp_10 p)) (tp_ret (r := -1) g)
  · rcases tp_ixo N hN v2 with h | ⟨q, hq, rfl⟩
    · exact tp_imp (fun post p => tp_xin hf hN (br_f tp_10 (tp_xout h (br_t rfl p)))) (fun post p => tp_yin hf hN (br_t rfl (tp_yout h (br_f tp_10 p)))) (tp_ret (r := -1) g)
    · refine tp_imp (fun post p => tp_xin hf hN (br_f tp_10 (tp_xin hq hN (br_f tp_10 p)))) (fun post p => tp_yin hf hN (br_t rfl (tp_yin hq hN (br_t rfl p)))) ?_
      by_cases e : nI f = nI q
      · exact tp_imp (fun post p => br_t e p) (fun post p => br_t e p) (tp_ret (r := -1) g)
      · by_cases k1 : v3 < 1
        · exact tp_imp (fun post p => br_f e (br_t k1 p)) (fun post p => br_f e (br_t k1 p)) (tp_ret (r := -1) g)
        · by_cases k11 : v3 ≤ 11
          · have hk : ∃ kd : Nat, kd ≤ 11 ∧ v3 = nI kd := by
              refine nI_of2 (M := 11) (n := 11) (by decide) ?_ k11
              intro z
              exact k1 (Int32.lt_trans z (by decide))
            obtain ⟨kd, hkd, rfl⟩ := hk
            have c : (nI (100 * kd + 10 * f + q)).toNatClampNeg = 100 * kd + 10 * f + q := nI_clamp (by omega)
            have vv : vp_in (nI (100 * kd + 10 * f + q)) 1200 := vp_in_nI (by omega) (by decide)
            by_cases z : tr (100 * kd + 10 * f + q) = 0
            · have z' : tr (nI (100 * kd + 10 * f + q)).toNatClampNeg = 0 := by rw [c]; exact z
              exact tp_imp (fun post p => br_f e (br_f k1 (br_t k11 (nm_r (tp_ixc kd f q) (And.intro vv (br_t z' p)))))) (fun post p => br_f e (br_f k1 (br_t k11 (nm_r (tp_ixc kd f q) (And.intro vv (br_t z' p)))))) (tp_ret (r := -1) g)
            · have z' : ¬ tr (nI (100 * kd + 10 * f + q)).toNatClampNeg = 0 := by rw [c]; exact z
              refine tp_imp (fun post p => br_f e (br_f k1 (br_t k11 (nm_r (tp_ixc kd f q) (And.intro vv (br_f z' p)))))) (fun post p => br_f e (br_f k1 (br_t k11 (nm_r (tp_ixc kd f q) (And.intro vv (br_f z' p)))))) ?_
              exact tp_recK g z (fun md st lg ws rl fl an rd ak hd kn tr g => tp_ret (r := 1) g)
          · exact tp_imp (fun post p => br_f e (br_f k1 (br_f k11 p))) (fun post p => br_f e (br_f k1 (br_f k11 p))) (tp_ret (r := -1) g)
theorem tp_delAt (g : tp_G N st an rd ak hd kn tr) (v : Int32) : tp_L N (fun post => wpX_deliverAt post (tp_x N md st lg ws rl fl an rd ak hd kn tr) v) (fun post => wpY_deliverAt post (tp_y N md st lg ws rl fl an rd ak hd kn tr) v) := by
  unfold wpX_deliverAt wpY_deliverAt
  dsimp only
  obtain ⟨r, hr, hx, hy⟩ := tp_ta md st lg ws rl fl an rd ak hd kn tr N v
  rcases hr with hr | ⟨q, hq, hr, hz⟩
  · have n0 : ¬ (0 : Int32) ≤ r := by rw [hr]; decide
    exact tp_imp (fun post p => hx _ (br_f n0 p)) (fun post p => hy _ (br_f n0 p)) (tp_ret (r := -1) g)
  · have n0 : (0 : Int32) ≤ r := by rw [hr]; exact nI_pos' (by omega)
    refine tp_imp (fun post p => hx _ (br_t n0 p)) (fun post p => hy _ (br_t n0 p)) ?_
    rw [hr]
    exact tp_recK g hz (fun md st lg ws rl fl an rd ak hd kn tr g => tp_ret (r := nI q) g)
theorem tp_detect (g : tp_G N st an rd ak hd kn tr) (v1 v2 : Int32) : tp_L N (fun post => wpX_detect post (tp_x N md st lg ws rl fl an rd ak hd kn tr) v1 v2) (fun post => wpY_detect post (tp_y N md st lg ws rl fl an rd ak hd kn tr) v1 v2) := by
  have hN := g.2.1
  unfold wpX_detect wpY_detect
  dsimp only
  rcases tp_ixo N hN v1 with h | ⟨i, hi, rfl⟩
  · exact tp_imp (fun post p => tp_xoo (Or.inl h) hN (br_t rfl p)) (fun post p => tp_yout h (br_f tp_10 p)) (tp_ret (r := -1) g)
  · rcases tp_ixo N hN v2 with h | ⟨j, hj, rfl⟩
    · exact tp_imp (fun post p => tp_xoo (Or.inr ⟨⟨i, hi, rfl⟩, h⟩) hN (br_t rfl p)) (fun post p => tp_yin hi hN (br_t rfl (tp_yout h (br_f tp_10 p)))) (tp_ret (r := -1) g)
    · by_cases o : tp_o md kn i j = true
      · refine tp_imp (fun post p => tp_xo hi hj hN (br_f (tp_b1.mpr o) p)) (fun post p => tp_yin hi hN (br_t rfl (tp_yin hj hN (br_t rfl (tp_yo (by omega) (by omega) (br_f (tp_b1.mpr o) p)))))) ?_
        exact tp_notK g hi hj (fun md st lg ws rl fl an rd ak hd kn tr g => tp_ret (r := 1) g)
      · have o' := tp_b0.mpr (Bool.eq_false_iff.mpr o)
        exact tp_imp (fun post p => tp_xo hi hj hN (br_t o' p)) (fun post p => tp_yin hi hN (br_t rfl (tp_yin hj hN (br_t rfl (tp_yo (by omega) (by omega) (br_t o' p)))))) (tp_ret (r := -1) g)
end
end
section
/-! the start -/
def tp_li (x : Int32) : Nat → (Nat → Int32)
  | 0 => fun _ => 0
  | k + 1 => upd (tp_li x k) k x
def tp_O : Nat → Int32 := fun _ => 0
theorem tp_cn0 : tp_cn tp_O = 0 := tp_tc_0 1200 (fun _ _ => rfl)
theorem tp_F00 (w i : Nat) : tp_F tp_O tp_O tp_O tp_O tp_O w i = 0 := by
  match w with
  | 0 => rfl
  | 1 => rfl
  | 2 => rfl
  | 3 => rfl
  | 4 => rfl
  | _ + 5 => rfl
theorem tp_q0 : tp_q (tp_F tp_O tp_O tp_O tp_O tp_O) = fun _ => 0 := by
  funext p
  unfold tp_q
  rw [tp_F00, b_0]
  rfl
theorem tp_g0 {N : Nat} (h2 : 2 ≤ N) (hN : N ≤ 6) : tp_G N tp_O tp_O tp_O tp_O tp_O tp_O tp_O := by
  have hb : tp_bk N tp_O := by
    intro i j h
    have h' : bt 0 j = true := h
    rw [b_0] at h'
    exact nomatch h'
  exact ⟨h2, hN, fun _ => Or.inl rfl, hb, hb, hb, hb, hb, fun _ => Or.inl rfl⟩
theorem tp_x119 {N : Nat} {post : SX → Prop} (hN : N ≤ 6) (h : post (tp_x N tp_O tp_O (tp_li (-2) 6) (tp_li 1 6) tp_O tp_O tp_O tp_O tp_O tp_O tp_O tp_O)) : wX_init_119 post (nI N) 0 0 0 (fun _ => 0) (fun _ => 0) (fun _ => 0) (fun _ => 0) (fun _ => 0) (fun _ => 0) (fun _ => 0) (fun _ => 0) (fun _ => 0) (fun _ => 0) (fun _ => 0) (fun _ => 0) := by
  unfold tp_x at h
  rw [tp_cn0] at h
  refine nm_r (tp_fall N (by omega)) ?_
  refine tp_lp0 (fun n k => wX_init_140 post (nI N) (nI (2 ^ N - 1)) 0 n (nI k) tp_O tp_O (tp_li (-2) k) (tp_li 1 k) tp_O tp_O tp_O tp_O tp_O tp_O tp_O tp_O) 6 ?_ ?_
  · intro n
    exact br_t (nI_le (a := 6) (Nat.le_refl _) (by decide)) h
  · intro n k hk ih
    refine br_f (nI_ge (b := 6) hk (by decide)) ?_
    simp only [tp_ci hk, tp_vi hk, tp_n1, nI_1, true_and, and_true, true_implies, false_implies, not_true_eq_false, not_false_eq_true, forall_eq, and_self]
    exact ih
theorem tp_y99 {N : Nat} {post : SY → Prop} (h : post (tp_y N tp_O tp_O (tp_li (-2) 6) (tp_li 1 6) tp_O tp_O tp_O tp_O tp_O tp_O tp_O tp_O)) : ∃ n, wY_init_99 post (nI N) n 0 (fun _ => 0) (fun _ => 0) (fun _ => 0) (fun _ => 0) (fun _ => 0) (fun _ => 0) (fun _ => 0) (fun _ => 0) := by
  unfold tp_y at h
  rw [tp_q0] at h
  refine tp_lp0 (fun n k => wY_init_99 post (nI N) n (nI k) tp_O tp_O (tp_li (-2) k) tp_O tp_O (tp_li 1 k) tp_O tp_O) 6 ?_ ?_
  · intro n
    exact br_t (nI_le (a := 6) (Nat.le_refl _) (by decide)) h
  · intro n k hk ih
    refine br_f (nI_ge (b := 6) hk (by decide)) ?_
    simp only [tp_ci hk, tp_vi hk, tp_n1, nI_1, true_and, and_true, true_implies, false_implies, not_true_eq_false, not_false_eq_true, forall_eq, and_self]
    exact ih
/-- one state for both: the component's, and the reference's as a function of it -/
def i_Rel (_ : Nat) (u : SX) (v : SY) : Prop := ∃ (N : Nat) (md st lg ws rl fl an rd ak hd kn tr : Nat → Int32), tp_G N st an rd ak hd kn tr ∧ u = (tp_x N md st lg ws rl fl an rd ak hd kn tr) ∧ v = (tp_y N md st lg ws rl fl an rd ak hd kn tr)
theorem i_up {k : Nat} {u : SX} {v : SY} (h : i_Rel k u v) : i_Rel (k + 4) u v := h
theorem tp_rel (k : Nat) {N : Nat} {md st lg ws rl fl an rd ak hd kn tr : Nat → Int32} (g : tp_G N st an rd ak hd kn tr) : i_Rel k (tp_x N md st lg ws rl fl an rd ak hd kn tr) (tp_y N md st lg ws rl fl an rd ak hd kn tr) := ⟨N, md, st, lg, ws, rl, fl, an, rd, ak, hd, kn, tr, g, rfl, rfl⟩
theorem i_vc0 (k0 : Int32) : wpX_init (fun u => wpY_init (fun v => i_Rel 1 u v) k0) k0 := by
  by_cases h2 : 2 ≤ k0
  · by_cases h6 : k0 ≤ 6
    · have hk : ∃ N : Nat, N ≤ 6 ∧ k0 = nI N := by
        refine nI_of2 (M := 6) (n := 6) (by decide) ?_ h6
        intro z
        exact absurd (Int32.lt_of_le_of_lt h2 z) (by decide)
      obtain ⟨N, hN, rfl⟩ := hk
      have h2N : 2 ≤ N := (nI_leI (a := 2) (by decide) (by omega)).mp h2
      exact br_t h2 (br_t h6 (tp_x119 hN (br_t h2 (br_t h6 (tp_y99 (tp_rel 1 (tp_g0 h2N hN)))))))
    · exact br_t h2 (br_f h6 (tp_x119 (N := 6) (by decide) (br_t h2 (br_f h6 (tp_y99 (N := 6) (tp_rel 1 (tp_g0 (by decide) (by decide))))))))
  · have h6 : k0 ≤ 6 := Int32.le_of_lt (Int32.lt_trans (Int32.not_le.mp h2) (by decide))
    exact br_f h2 (br_t (by decide) (tp_x119 (N := 2) (by decide) (br_f h2 (br_t h6 (tp_y99 (N := 2) (tp_rel 1 (tp_g0 (by decide) (by decide))))))))
theorem i_vc_setWish {k : Nat} {u : SX} {v : SY} (I : i_Rel k u v) (hk : k + 4 ≤ 2049) (v1 : Int32) (v2 : Int32) : wpX_setWish (fun r u' => wpY_setWish (fun r' v' => r' = r ∧ i_Rel (k + 4) u' v') v v1 (lw_bz v2)) u v1 (lw_bz v2) := by
  obtain ⟨N, md, st, lg, ws, rl, fl, an, rd, ak, hd, kn, tr, g, rfl, rfl⟩ := I
  exact tp_L_out (k := k + 4) (R := i_Rel) (tp_swish g v1 (lw_bz v2)) (fun _ _ _ _ _ _ _ _ _ _ _ _ g => tp_rel _ g)
theorem i_vc_begin {k : Nat} {u : SX} {v : SY} (I : i_Rel k u v) (hk : k + 4 ≤ 2049) : wpX_begin (fun r u' => wpY_begin (fun r' v' => r' = r ∧ i_Rel (k + 4) u' v') v) u := by
  obtain ⟨N, md, st, lg, ws, rl, fl, an, rd, ak, hd, kn, tr, g, rfl, rfl⟩ := I
  exact tp_L_out (k := k + 4) (R := i_Rel) (tp_begin g) (fun _ _ _ _ _ _ _ _ _ _ _ _ g => tp_rel _ g)
theorem i_vc_deliver {k : Nat} {u : SX} {v : SY} (I : i_Rel k u v) (hk : k + 4 ≤ 2049) (v1 : Int32) (v2 : Int32) (v3 : Int32) : wpX_deliver (fun r u' => wpY_deliver (fun r' v' => r' = r ∧ i_Rel (k + 4) u' v') v v1 v2 v3) u v1 v2 v3 := by
  obtain ⟨N, md, st, lg, ws, rl, fl, an, rd, ak, hd, kn, tr, g, rfl, rfl⟩ := I
  exact tp_L_out (k := k + 4) (R := i_Rel) (tp_deliver g v1 v2 v3) (fun _ _ _ _ _ _ _ _ _ _ _ _ g => tp_rel _ g)
theorem i_vc_deliverAt {k : Nat} {u : SX} {v : SY} (I : i_Rel k u v) (hk : k + 4 ≤ 2049) (v1 : Int32) : wpX_deliverAt (fun r u' => wpY_deliverAt (fun r' v' => r' = r ∧ i_Rel (k + 4) u' v') v v1) u v1 := by
  obtain ⟨N, md, st, lg, ws, rl, fl, an, rd, ak, hd, kn, tr, g, rfl, rfl⟩ := I
  exact tp_L_out (k := k + 4) (R := i_Rel) (tp_delAt g v1) (fun _ _ _ _ _ _ _ _ _ _ _ _ g => tp_rel _ g)
theorem i_vc_detect {k : Nat} {u : SX} {v : SY} (I : i_Rel k u v) (hk : k + 4 ≤ 2049) (v1 : Int32) (v2 : Int32) : wpX_detect (fun r u' => wpY_detect (fun r' v' => r' = r ∧ i_Rel (k + 4) u' v') v v1 v2) u v1 v2 := by
  obtain ⟨N, md, st, lg, ws, rl, fl, an, rd, ak, hd, kn, tr, g, rfl, rfl⟩ := I
  exact tp_L_out (k := k + 4) (R := i_Rel) (tp_detect g v1 v2) (fun _ _ _ _ _ _ _ _ _ _ _ _ g => tp_rel _ g)
theorem i_vc_crash {k : Nat} {u : SX} {v : SY} (I : i_Rel k u v) (hk : k + 4 ≤ 2049) (v1 : Int32) : wpX_crash (fun r u' => wpY_crash (fun r' v' => r' = r ∧ i_Rel (k + 4) u' v') v v1) u v1 := by
  obtain ⟨N, md, st, lg, ws, rl, fl, an, rd, ak, hd, kn, tr, g, rfl, rfl⟩ := I
  exact tp_L_out (k := k + 4) (R := i_Rel) (tp_crash g v1) (fun _ _ _ _ _ _ _ _ _ _ _ _ g => tp_rel _ g)
theorem i_vc_recover {k : Nat} {u : SX} {v : SY} (I : i_Rel k u v) (hk : k + 4 ≤ 2049) (v1 : Int32) : wpX_recover (fun r u' => wpY_recover (fun r' v' => r' = r ∧ i_Rel (k + 4) u' v') v v1) u v1 := by
  obtain ⟨N, md, st, lg, ws, rl, fl, an, rd, ak, hd, kn, tr, g, rfl, rfl⟩ := I
  exact tp_L_out (k := k + 4) (R := i_Rel) (tp_recov g v1) (fun _ _ _ _ _ _ _ _ _ _ _ _ g => tp_rel _ g)
theorem i_vc_run {k : Nat} {u : SX} {v : SY} (I : i_Rel k u v) (hk : k + 4 ≤ 2049) (v1 : Int32) (v2 : Int32) : wpX_run (fun r u' => wpY_run (fun r' v' => r' = r ∧ i_Rel (k + 4) u' v') v v1 (lw_bz v2)) u v1 (lw_bz v2) := by
  obtain ⟨N, md, st, lg, ws, rl, fl, an, rd, ak, hd, kn, tr, g, rfl, rfl⟩ := I
  exact tp_L_out (k := k + 4) (R := i_Rel) (tp_run g v1) (fun _ _ _ _ _ _ _ _ _ _ _ _ g => tp_rel _ g)
theorem i_vc_state {k : Nat} {u : SX} {v : SY} (I : i_Rel k u v) (hk : k + 4 ≤ 2049) (v1 : Int32) : wpX_state (fun r => wpY_state (fun r' => r' = r ∧ i_Rel (k + 4) u v) v v1) u v1 := by
  have J := i_up I
  obtain ⟨N, md, st, lg, ws, rl, fl, an, rd, ak, hd, kn, tr, g, rfl, rfl⟩ := I
  have hN := g.2.1
  unfold wpX_state wpY_state
  dsimp only
  rcases tp_ixo N hN v1 with h | ⟨i, hi, rfl⟩
  · exact tp_xout h (br_t rfl (tp_yout h (br_f tp_10 ⟨rfl, J⟩)))
  · have vi := tp_vi (i := i) (by omega)
    exact tp_xin hi hN (br_f tp_10 (And.intro vi (tp_yin hi hN (br_t rfl (And.intro vi ⟨rfl, J⟩)))))
theorem i_vc_mode {k : Nat} {u : SX} {v : SY} (I : i_Rel k u v) (hk : k + 4 ≤ 2049) (v1 : Int32) : wpX_mode (fun r => wpY_mode (fun r' => r' = r ∧ i_Rel (k + 4) u v) v v1) u v1 := by
  have J := i_up I
  obtain ⟨N, md, st, lg, ws, rl, fl, an, rd, ak, hd, kn, tr, g, rfl, rfl⟩ := I
  have hN := g.2.1
  unfold wpX_mode wpY_mode
  dsimp only
  rcases tp_ixo N hN v1 with h | ⟨i, hi, rfl⟩
  · exact tp_xout h (br_t rfl (tp_yout h (br_f tp_10 ⟨rfl, J⟩)))
  · have vi := tp_vi (i := i) (by omega)
    exact tp_xin hi hN (br_f tp_10 (And.intro vi (tp_yin hi hN (br_t rfl (And.intro vi ⟨rfl, J⟩)))))
theorem i_vc_logged {k : Nat} {u : SX} {v : SY} (I : i_Rel k u v) (hk : k + 4 ≤ 2049) (v1 : Int32) : wpX_logged (fun r => wpY_logged (fun r' => r' = r ∧ i_Rel (k + 4) u v) v v1) u v1 := by
  have J := i_up I
  obtain ⟨N, md, st, lg, ws, rl, fl, an, rd, ak, hd, kn, tr, g, rfl, rfl⟩ := I
  have hN := g.2.1
  unfold wpX_logged wpY_logged
  dsimp only
  rcases tp_ixo N hN v1 with h | ⟨i, hi, rfl⟩
  · exact tp_xout h (br_t rfl (tp_yout h (br_f tp_10 ⟨rfl, J⟩)))
  · have vi := tp_vi (i := i) (by omega)
    exact tp_xin hi hN (br_f tp_10 (And.intro vi (tp_yin hi hN (br_t rfl (And.intro vi ⟨rfl, J⟩)))))
theorem i_vc_wish {k : Nat} {u : SX} {v : SY} (I : i_Rel k u v) (hk : k + 4 ≤ 2049) (v1 : Int32) : wpX_wish (fun r => wpY_wish (fun r' => r' = r ∧ i_Rel (k + 4) u v) v v1) u v1 := by
  have J := i_up I
  obtain ⟨N, md, st, lg, ws, rl, fl, an, rd, ak, hd, kn, tr, g, rfl, rfl⟩ := I
  have hN := g.2.1
  unfold wpX_wish wpY_wish
  dsimp only
  rcases tp_ixo N hN v1 with h | ⟨i, hi, rfl⟩
  · exact tp_xout h (br_t rfl (tp_yout h (br_f tp_10 ⟨rfl, J⟩)))
  · have vi := tp_vi (i := i) (by omega)
    refine tp_xin hi hN ?_
    refine br_f tp_10 (And.intro vi ?_)
    by_cases z : ws (nI i).toNatClampNeg = 0
    · exact br_t z (tp_yin hi hN (br_t rfl (And.intro vi (br_t z ⟨rfl, J⟩))))
    · exact br_f z (tp_yin hi hN (br_t rfl (And.intro vi (br_f z ⟨rfl, J⟩))))
theorem i_vc_role {k : Nat} {u : SX} {v : SY} (I : i_Rel k u v) (hk : k + 4 ≤ 2049) (v1 : Int32) : wpX_role (fun r => wpY_role (fun r' => r' = r ∧ i_Rel (k + 4) u v) v v1) u v1 := by
  have J := i_up I
  obtain ⟨N, md, st, lg, ws, rl, fl, an, rd, ak, hd, kn, tr, g, rfl, rfl⟩ := I
  have hN := g.2.1
  unfold wpX_role wpY_role
  dsimp only
  rcases tp_ixo N hN v1 with h | ⟨i, hi, rfl⟩
  · exact tp_xout h (br_t rfl (tp_yout h (br_f tp_10 ⟨rfl, J⟩)))
  · have vi := tp_vi (i := i) (by omega)
    exact tp_xin hi hN (br_f tp_10 (And.intro vi (tp_yin hi hN (br_t rfl (And.intro vi ⟨rfl, J⟩)))))
theorem i_vc_follows {k : Nat} {u : SX} {v : SY} (I : i_Rel k u v) (hk : k + 4 ≤ 2049) (v1 : Int32) : wpX_follows (fun r => wpY_follows (fun r' => r' = r ∧ i_Rel (k + 4) u v) v v1) u v1 := by
  have J := i_up I
  obtain ⟨N, md, st, lg, ws, rl, fl, an, rd, ak, hd, kn, tr, g, rfl, rfl⟩ := I
  have hN := g.2.1
  unfold wpX_follows wpY_follows
  dsimp only
  rcases tp_ixo N hN v1 with h | ⟨i, hi, rfl⟩
  · exact tp_xout h (br_t rfl (tp_yout h (br_f tp_10 ⟨rfl, J⟩)))
  · have vi := tp_vi (i := i) (by omega)
    exact tp_xin hi hN (br_f tp_10 (And.intro vi (tp_yin hi hN (br_t rfl (And.intro vi ⟨rfl, J⟩)))))
theorem i_vc_members {k : Nat} {u : SX} {v : SY} (I : i_Rel k u v) (hk : k + 4 ≤ 2049) (v1 : Int32) (v2 : Int32) : wpX_members (fun r => wpY_members (fun r' => r' = r ∧ i_Rel (k + 4) u v) v v1 v2) u v1 v2 := by
  have J := i_up I
  obtain ⟨N, md, st, lg, ws, rl, fl, an, rd, ak, hd, kn, tr, g, rfl, rfl⟩ := I
  have hN := g.2.1
  unfold wpX_members
  dsimp only
  rcases tp_ixo N hN v1 with h | ⟨i, hi, rfl⟩
  · refine tp_xout h (br_t rfl ?_)
    unfold wpY_members
    dsimp only
    exact tp_yout h (br_f tp_10 ⟨rfl, J⟩)
  · have vi := tp_vi (i := i) (by omega)
    have ci := tp_ci (i := i) (by omega)
    refine tp_xin hi hN ?_
    refine br_f tp_10 ?_
    rw [ci]
    by_cases w0 : v2 = 0
    · exact br_t w0 (And.intro vi (tp_ymw 0 w0 (by decide) hi hN (g.2.2.2.1 i) ⟨rfl, J⟩))
    · by_cases w1 : v2 = 1
      · exact br_f w0 (br_t w1 (And.intro vi (tp_ymw 1 w1 (by decide) hi hN (g.2.2.2.2.1 i) ⟨rfl, J⟩)))
      · by_cases w2 : v2 = 2
        · exact br_f w0 (br_f w1 (br_t w2 (And.intro vi (tp_ymw 2 w2 (by decide) hi hN (g.2.2.2.2.2.1 i) ⟨rfl, J⟩))))
        · by_cases w3 : v2 = 3
          · exact br_f w0 (br_f w1 (br_f w2 (br_t w3 (And.intro vi (tp_ymw 3 w3 (by decide) hi hN (g.2.2.2.2.2.2.1 i) ⟨rfl, J⟩)))))
          · by_cases w4 : v2 = 4
            · exact br_f w0 (br_f w1 (br_f w2 (br_f w3 (br_t w4 (And.intro vi (tp_ymw 4 w4 (by decide) hi hN (g.2.2.2.2.2.2.2.1 i) ⟨rfl, J⟩))))))
            · refine br_f w0 (br_f w1 (br_f w2 (br_f w3 (br_f w4 ?_))))
              unfold wpY_members
              dsimp only
              refine tp_yin hi hN (br_t rfl ?_)
              by_cases n : v2 < 0
              · exact br_t n ⟨rfl, J⟩
              · refine br_f n (br_f ?_ ⟨rfl, J⟩)
                intro z
                obtain ⟨w, hw, e⟩ := nI_of2 (M := 4) (n := 4) (by decide) n z
                have hw5 : w = 0 ∨ w = 1 ∨ w = 2 ∨ w = 3 ∨ w = 4 := by omega
                rcases hw5 with rfl | rfl | rfl | rfl | rfl
                · exact w0 e
                · exact w1 e
                · exact w2 e
                · exact w3 e
                · exact w4 e
theorem i_vc_transitCount {k : Nat} {u : SX} {v : SY} (I : i_Rel k u v) (hk : k + 4 ≤ 2049) : wpX_transitCount (fun r => wpY_transitCount (fun r' => r' = r ∧ i_Rel (k + 4) u v) v) u := by
  have J := i_up I
  obtain ⟨N, md, st, lg, ws, rl, fl, an, rd, ak, hd, kn, tr, g, rfl, rfl⟩ := I
  unfold wpX_transitCount
  dsimp only
  exact tp_ytc ⟨rfl, J⟩
theorem i_vc_transitAt {k : Nat} {u : SX} {v : SY} (I : i_Rel k u v) (hk : k + 4 ≤ 2049) (v1 : Int32) : wpX_transitAt (fun r => wpY_transitAt (fun r' => r' = r ∧ i_Rel (k + 4) u v) v v1) u v1 := by
  have J := i_up I
  obtain ⟨N, md, st, lg, ws, rl, fl, an, rd, ak, hd, kn, tr, g, rfl, rfl⟩ := I
  obtain ⟨r, _, hx, hy⟩ := tp_ta md st lg ws rl fl an rd ak hd kn tr N v1
  exact hx _ (hy _ ⟨rfl, J⟩)
theorem i_vc_undetected {k : Nat} {u : SX} {v : SY} (I : i_Rel k u v) (hk : k + 4 ≤ 2049) : wpX_undetected (fun r => wpY_undetected (fun r' => r' = r ∧ i_Rel (k + 4) u v) v) u := by
  have J := i_up I
  obtain ⟨N, md, st, lg, ws, rl, fl, an, rd, ak, hd, kn, tr, g, rfl, rfl⟩ := I
  exact tp_xun4 g.2.1 (tp_yun4 g.2.1 ⟨rfl, J⟩)
theorem i_vc_suffices {k : Nat} {u : SX} {v : SY} (I : i_Rel k u v) (hk : k + 4 ≤ 2049) (v1 : Int32) : wpX_suffices (fun r => wpY_suffices (fun r' => r' = r ∧ i_Rel (k + 4) u v) v v1) u v1 := by
  have J := i_up I
  obtain ⟨N, md, st, lg, ws, rl, fl, an, rd, ak, hd, kn, tr, g, rfl, rfl⟩ := I
  have hN := g.2.1
  have h2 := tp_2N hN
  by_cases n1 : v1 < 1
  · exact br_t n1 (br_t n1 ⟨rfl, J⟩)
  · have n0 : ¬ v1 < 0 := fun z => n1 (Int32.lt_trans z (by decide))
    obtain ⟨m, hm, rfl⟩ := nI_of n0
    by_cases e : m ≤ 2 ^ N - 1
    · exact tp_xsuf hN n1 (nI_le e (by omega)) (tp_ysuf hN n1 (nI_lt (by omega) (by omega)) ⟨rfl, J⟩)
    · refine br_f n1 (br_f (nI_ge (by omega) hm) (br_f n1 (br_f ?_ ⟨rfl, J⟩)))
      rw [tp_f2N N (by omega)]
      exact nI_nlt (by omega) hm
theorem i_vc_fewest {k : Nat} {u : SX} {v : SY} (I : i_Rel k u v) (hk : k + 4 ≤ 2049) : wpX_fewest (fun r => wpY_fewest (fun r' => r' = r ∧ i_Rel (k + 4) u v) v) u := by
  have J := i_up I
  obtain ⟨N, md, st, lg, ws, rl, fl, an, rd, ak, hd, kn, tr, g, rfl, rfl⟩ := I
  exact tp_xfew g.2.1 (tp_yfew g.2.1 ⟨rfl, J⟩)
end
