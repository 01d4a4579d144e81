section
/-! rows of kit/rows, pasted (starting text) -/
theorem pk_us {f : Nat → Int32} {k : Nat} {x : Int32} : upd f k x k = x := if_pos rfl
theorem pk_un {f : Nat → Int32} {k j : Nat} {x : Int32} (h : j ≠ k) : upd f k x j = f j := if_neg h
theorem pk_sub {a b : Nat} (h : b ≤ a) : nI a - nI b = nI (a - b) := by
  obtain ⟨c, rfl⟩ : ∃ c, a = c + b := ⟨a - b, by omega⟩
  rw [← nI_add, Int32.add_sub_cancel, Nat.add_sub_cancel]
theorem pk_m1 (n : Nat) : nI (n + 1) + (-1) = nI n := by
  rw [← nI_1, Int32.add_assoc, show (1 : Int32) + (-1) = 0 from rfl, Int32.add_zero]
theorem pk_mul (a b : Nat) : nI a * nI b = nI (a * b) := (Int32.ofNat_mul a b).symm
theorem pk_div {a d : Nat} (ha : a < 2 ^ 31) (h0 : 0 < d) (hd : d < 2 ^ 31) : nI a / nI d = nI (a / d) := by
  apply Int32.toInt_inj.mp
  rw [lg_idiv_nonneg (by rw [nI_toInt ha]; omega) (by rw [nI_toInt hd]; omega), nI_toInt ha, nI_toInt hd, nI_toInt (Nat.lt_of_le_of_lt (Nat.div_le_self a d) ha)]
  first | rfl | exact (Int.natCast_ediv _ _).symm
theorem pk_rem {a d : Nat} (ha : a < 2 ^ 31) (h0 : 0 < d) (hd : d < 2 ^ 31) : nI a - nI a / nI d * nI d = nI (a % d) := by
  rw [pk_div ha h0 hd, pk_mul, pk_sub (Nat.div_mul_le_self a d)]
  exact congrArg nI (by have := Nat.div_add_mod' a d; omega)
theorem pk_sub_toInt {a b : Nat} (ha : a < 2 ^ 30) (hb : b < 2 ^ 30) : (nI a - nI b).toInt = (a : Int) - b := by
  rw [Int32.toInt_sub, nI_toInt (by omega), nI_toInt (by omega)]
  exact Int.bmod_eq_of_le (by omega) (by omega)
theorem pk_ix (x : Int32) {n : Nat} (hn : n < 2 ^ 31) : x < 0 ∨ nI n ≤ x ∨ ∃ j : Nat, j < n ∧ x = nI j := by
  by_cases h : x < 0
  · exact Or.inl h
  · obtain ⟨j, hj, rfl⟩ := nI_of h
    by_cases h2 : j < n
    · exact Or.inr (Or.inr ⟨j, h2, rfl⟩)
    · exact Or.inr (Or.inl (nI_le (by omega) hj))
theorem pk_le {x y : Int32} {A B : Prop} (a b : Nat) (f : a ≤ b → A) (g : b < a → B) (hx : x = nI a := by rfl) (hy : y = nI b := by rfl) (ha : a < 2 ^ 31 := by omega) (hb : b < 2 ^ 31 := by omega) : (x ≤ y → A) ∧ (¬ x ≤ y → B) := by
  subst hx hy
  rw [nI_leI ha hb]
  exact ⟨f, fun z => g (by omega)⟩
theorem pk_lt {x y : Int32} {A B : Prop} (a b : Nat) (f : a < b → A) (g : b ≤ a → B) (hx : x = nI a := by rfl) (hy : y = nI b := by rfl) (ha : a < 2 ^ 31 := by omega) (hb : b < 2 ^ 31 := by omega) : (x < y → A) ∧ (¬ x < y → B) := by
  subst hx hy
  rw [nI_ltI ha hb]
  exact ⟨f, fun z => g (by omega)⟩
theorem pk_eq {x y : Int32} {A B : Prop} (a b : Nat) (f : a = b → A) (g : a ≠ b → B) (hx : x = nI a := by rfl) (hy : y = nI b := by rfl) (ha : a < 2 ^ 31 := by omega) (hb : b < 2 ^ 31 := by omega) : (x = y → A) ∧ (¬ x = y → B) := by
  subst hx hy
  rw [nI_eq ha hb]
  exact ⟨f, g⟩
theorem pk_in {x : Int32} (n N : Nat) (h : n < N) (hx : x = nI n := by rfl) (hN : N < 2 ^ 31 := by omega) : vp_in x N := by
  subst hx
  exact vp_in_nI h hN
theorem pk_cl {x : Int32} (n : Nat) (hx : x = nI n := by rfl) (h : n < 2 ^ 31 := by omega) : x.toNatClampNeg = n := by
  subst hx
  exact nI_clamp h
theorem pk_tn {n : Nat} (h : n < 2 ^ 32) : (nI n).toBitVec.toNat = n := Nat.mod_eq_of_lt h
theorem ek_if {c d A B : Prop} (e : c ↔ d) (f : d → A) (g : ¬ d → B) : (c → A) ∧ (¬ c → B) :=
  ⟨fun z => f (e.mp z), fun z => g (fun y => z (e.mpr y))⟩
def bt (x : Int32) (i : Nat) : Bool := x.toBitVec.getLsbD i
theorem b_ext {x y : Int32} (h : ∀ i, i < 32 → bt x i = bt y i) : x = y := Int32.toBitVec_inj.mp (BitVec.eq_of_getLsbD_eq (fun i hi => h i hi))
theorem b_or (x y : Int32) (i : Nat) : bt (x ||| y) i = (bt x i || bt y i) := by unfold bt; rw [Int32.toBitVec_or, BitVec.getLsbD_or]
theorem b_and (x y : Int32) (i : Nat) : bt (x &&& y) i = (bt x i && bt y i) := by unfold bt; rw [Int32.toBitVec_and, BitVec.getLsbD_and]
theorem b_xor (x y : Int32) (i : Nat) : bt (x ^^^ y) i = (bt x i ^^ bt y i) := by unfold bt; rw [Int32.toBitVec_xor, BitVec.getLsbD_xor]
theorem b_big {x : Int32} {i : Nat} (h : 32 ≤ i) : bt x i = false := BitVec.getLsbD_of_ge _ _ h
theorem b_m1 : ∀ i, i < 32 → bt (-1) i = true := by decide +kernel
theorem b_0 (i : Nat) : bt 0 i = false := BitVec.getLsbD_zero
theorem s_l : ∀ n, n < 32 → ((nI n &&& 31).toBitVec.smod 32).toNat = n := by decide +kernel
theorem b_shl (n : Nat) (hn : n < 32) (x : Int32) {i : Nat} (hi : i < 32) : bt (x <<< (nI n &&& 31)) i = (decide (n ≤ i) && bt x (i - n)) := by
  unfold bt
  rw [Int32.toBitVec_shiftLeft]
  show (x.toBitVec <<< ((nI n &&& 31).toBitVec.smod 32).toNat).getLsbD i = _
  rw [s_l n hn, BitVec.getLsbD_shiftLeft]
  rcases Nat.lt_or_ge i n with h | h
  · simp [h, Nat.not_le.mpr h]
  · simp [hi, h, Nat.not_lt.mpr h]
theorem b_sshr (n : Nat) (hn : n < 32) (x : Int32) {i : Nat} (hi : i < 32) : bt (x >>> (nI n &&& 31)) i = if n + i < 32 then bt x (n + i) else bt x 31 := by
  unfold bt
  rw [Int32.toBitVec_shiftRight]
  show (x.toBitVec.sshiftRight ((nI n &&& 31).toBitVec.smod 32).toNat).getLsbD i = _
  rw [s_l n hn, BitVec.getLsbD_sshiftRight, BitVec.msb_eq_getLsbD_last]
  simp [hi]
theorem nx_and (a b : Nat) : nI a &&& nI b = nI (a &&& b) := by
  apply Int32.toBitVec_inj.1
  show BitVec.ofNat 32 a &&& BitVec.ofNat 32 b = BitVec.ofNat 32 (a &&& b)
  apply BitVec.eq_of_getLsbD_eq
  intro i hi
  simp [hi]
theorem wb_of32 (x : Int32) : ∃ n, n < 2 ^ 32 ∧ x = nI n := ⟨x.toBitVec.toNat, x.toBitVec.isLt, Int32.toBitVec_inj.mp (by show _ = BitVec.ofNat 32 _; simp)⟩
end
section
/-! ===== flags: 0 or 1 ===== -/
def rt_b (b : Bool) : Int32 := cond b 1 0
theorem rt_b0 {b : Bool} : rt_b b = 0 ↔ b = false := by cases b <;> decide
theorem rt_b1 {b : Bool} : rt_b b = 1 ↔ b = true := by cases b <;> decide
theorem rt_nar (b : Bool) : vp_nar .boolean (rt_b b) = rt_b b := by cases b <;> rfl
theorem rt_nar0 : vp_nar .boolean 0 = rt_b false := rfl
theorem rt_nar1 : vp_nar .boolean 1 = rt_b true := rfl
/-- a branch by 'is it 0' on a flag -/
theorem rt_bz {x : Int32} {A B : Prop} (b : Bool) (f : b = false → A) (g : b = true → B) (hx : x = rt_b b := by rfl) : (x = 0 → A) ∧ (¬ x = 0 → B) := by
  subst hx
  exact ek_if rt_b0 f (fun z => g (by cases b <;> simp_all))
/-! ===== -1, 0, 1, ..: by a natural one above ===== -/
def rt_e (n : Nat) : Int32 := nI n - 1
theorem rt_e0 : rt_e 0 = -1 := by decide
theorem rt_eS (v : Nat) : rt_e (v + 1) = nI v := nI_pred v
theorem rt_eP {n : Nat} (h : n ≠ 0) : rt_e n = nI (n - 1) := by
  obtain ⟨v, rfl⟩ : ∃ v, n = v + 1 := ⟨n - 1, by omega⟩
  exact rt_eS v
theorem rt_eI {n : Nat} (h : n < 2 ^ 30) : (rt_e n).toInt = (n : Int) - 1 := pk_sub_toInt (b := 1) h (by decide)
theorem rt_e_le {a b : Nat} (ha : a < 2 ^ 30) (hb : b < 2 ^ 30) : rt_e a ≤ rt_e b ↔ a ≤ b := by
  rw [Int32.le_iff_toInt_le, rt_eI ha, rt_eI hb]; omega
theorem rt_e_lt {a b : Nat} (ha : a < 2 ^ 30) (hb : b < 2 ^ 30) : rt_e a < rt_e b ↔ a < b := by
  rw [Int32.lt_iff_toInt_lt, rt_eI ha, rt_eI hb]; omega
theorem rt_e_eq {a b : Nat} (ha : a < 2 ^ 30) (hb : b < 2 ^ 30) : rt_e a = rt_e b ↔ a = b := by
  rw [← Int32.toInt_inj, rt_eI ha, rt_eI hb]; omega
theorem re_le {x y : Int32} {A B : Prop} (a b : Nat) (f : a ≤ b → A) (g : b < a → B) (hx : x = rt_e a := by rfl) (hy : y = rt_e b := by rfl) (ha : a < 2 ^ 30 := by omega) (hb : b < 2 ^ 30 := by omega) : (x ≤ y → A) ∧ (¬ x ≤ y → B) := by
  subst hx hy
  exact ek_if (rt_e_le ha hb) f (fun z => g (by omega))
theorem re_lt {x y : Int32} {A B : Prop} (a b : Nat) (f : a < b → A) (g : b ≤ a → B) (hx : x = rt_e a := by rfl) (hy : y = rt_e b := by rfl) (ha : a < 2 ^ 30 := by omega) (hb : b < 2 ^ 30 := by omega) : (x < y → A) ∧ (¬ x < y → B) := by
  subst hx hy
  exact ek_if (rt_e_lt ha hb) f (fun z => g (by omega))
theorem re_eq {x y : Int32} {A B : Prop} (a b : Nat) (f : a = b → A) (g : a ≠ b → B) (hx : x = rt_e a := by rfl) (hy : y = rt_e b := by rfl) (ha : a < 2 ^ 30 := by omega) (hb : b < 2 ^ 30 := by omega) : (x = y → A) ∧ (¬ x = y → B) := by
  subst hx hy
  exact ek_if (rt_e_eq ha hb) f g
/-! ===== indices ===== -/
theorem ix_2 (a : Nat) : (2 : Int32) * nI a = nI (2 * a) := pk_mul 2 a
theorem ix_20 (a b : Nat) : (20 : Int32) * nI a + nI b = nI (20 * a + b) := by
  rw [show (20 : Int32) = nI 20 from rfl, pk_mul, nI_add]
theorem ix_2c (a b : Nat) : (2 : Int32) * nI a + nI b = nI (2 * a + b) := by
  rw [show (2 : Int32) = nI 2 from rfl, pk_mul, nI_add]
theorem ix_21 (a : Nat) : (2 : Int32) * nI a + 1 = nI (2 * a + 1) := ix_2c a 1
theorem ix_60 (a b : Nat) : (60 : Int32) * nI a + nI b = nI (60 * a + b) := by
  rw [show (60 : Int32) = nI 60 from rfl, pk_mul, nI_add]
theorem ix_120 (a b : Nat) : (120 : Int32) * nI a + nI b = nI (120 * a + b) := by
  rw [show (120 : Int32) = nI 120 from rfl, pk_mul, nI_add]
theorem ix_183 (a : Nat) : (183 : Int32) * nI a = nI (183 * a) := pk_mul 183 a
theorem ix_k3 (a b : Nat) : (nI a + 3) + nI b = nI (a + 3 + b) := by
  rw [show (3 : Int32) = nI 3 from rfl, nI_add, nI_add]
theorem ix_k123 (a b : Nat) : (nI a + 123) + nI b = nI (a + 123 + b) := by
  rw [show (123 : Int32) = nI 123 from rfl, nI_add, nI_add]
theorem ix_40 (a b c : Nat) : ((40 : Int32) * nI a + 2 * nI b) + nI c = nI (40 * a + 2 * b + c) := by
  rw [show (40 : Int32) = nI 40 from rfl, show (2 : Int32) = nI 2 from rfl, pk_mul, pk_mul, nI_add, nI_add]
theorem ix_d2 {p : Nat} (h : p < 2 ^ 31) : nI p / 2 = nI (p / 2) := pk_div (d := 2) h (by decide) (by decide)
theorem ix_d20 {p : Nat} (h : p < 2 ^ 31) : nI p / 20 = nI (p / 20) := pk_div (d := 20) h (by decide) (by decide)
theorem ix_m20 {p : Nat} (h : p < 2 ^ 31) : nI p - nI p / 20 * 20 = nI (p % 20) := pk_rem (d := 20) h (by decide) (by decide)
theorem ix_m2 {p : Nat} (h : p < 2 ^ 31) : nI p - nI p / 2 * 2 = nI (p % 2) := pk_rem (d := 2) h (by decide) (by decide)
theorem ix_cl {p : Nat} (h : p < 2 ^ 31) : (nI p / 40) * 2 + (nI p - nI p / 2 * 2) = nI (p / 40 * 2 + p % 2) := by
  rw [ix_m2 h, show nI p / 40 = nI (p / 40) from pk_div (d := 40) h (by decide) (by decide), show (2 : Int32) = nI 2 from rfl, pk_mul, nI_add]
/-! ===== bits ===== -/
theorem rt_1b : ∀ i, i < 32 → bt 1 i = decide (i = 0) := by decide +kernel
theorem rt_bbit (w : Int32) {k : Nat} (hk : k < 32) : ((w >>> (nI k &&& 31)) &&& 1) = rt_b (bt w k) := by
  apply b_ext
  intro i hi
  rw [b_and, b_sshr k hk w hi, rt_1b i hi]
  by_cases h0 : i = 0
  · subst h0
    rw [if_pos (by omega : k + 0 < 32)]
    cases h : bt w k
    · simp [rt_b, h, b_0]
    · simp [rt_b, h, rt_1b]
  · rw [decide_eq_false h0, Bool.and_false]
    cases h : bt w k
    · exact (b_0 i).symm
    · show false = bt 1 i
      rw [rt_1b i hi, decide_eq_false h0]
theorem rt_bit1 {w : Int32} {k : Nat} (hk : k < 32) : ((w >>> (nI k &&& 31)) &&& 1) = 1 ↔ bt w k = true := by
  rw [rt_bbit w hk]; exact rt_b1
theorem rt_bit0 {w : Int32} {k : Nat} (hk : k < 32) : ((w >>> (nI k &&& 31)) &&& 1) = 0 ↔ bt w k = false := by
  rw [rt_bbit w hk]; exact rt_b0
theorem rt_shl {k : Nat} (hk : k < 32) (i : Nat) : bt ((1 : Int32) <<< (nI k &&& 31)) i = decide (i = k) := by
  rcases Nat.lt_or_ge i 32 with h | h
  · rw [b_shl k hk 1 h, rt_1b _ (by omega)]
    by_cases e : i = k
    · subst e; simp
    · rw [decide_eq_false e]
      by_cases l : k ≤ i
      · rw [decide_eq_false (by omega : ¬ i - k = 0), Bool.and_false]
      · rw [decide_eq_false l, Bool.false_and]
  · rw [b_big h, decide_eq_false (by omega)]
theorem rt_set (w : Int32) {k : Nat} (hk : k < 32) (i : Nat) : bt (w ||| ((1 : Int32) <<< (nI k &&& 31))) i = (bt w i || decide (i = k)) := by
  rw [b_or, rt_shl hk]
theorem rt_not (w g : Int32) (i : Nat) : bt (w &&& (g ^^^ (-1))) i = (bt w i && !bt g i) := by
  rcases Nat.lt_or_ge i 32 with h | h
  · rw [b_and, b_xor, b_m1 i h, Bool.xor_true]
  · rw [b_big h, b_big h, Bool.false_and]
theorem rt_clr (w : Int32) {k : Nat} (hk : k < 32) (i : Nat) : bt (w &&& (((1 : Int32) <<< (nI k &&& 31)) ^^^ (-1))) i = (bt w i && !decide (i = k)) := by
  rw [rt_not, rt_shl hk]
theorem rt_w0 {w : Int32} : w = 0 ↔ ∀ i, i < 32 → bt w i = false := by
  constructor
  · intro h i _; rw [h]; exact b_0 i
  · intro h; exact b_ext (fun i hi => (h i hi).trans (b_0 i).symm)
theorem rt_btN (n i : Nat) : bt (nI n) i = (decide (i < 32) && n.testBit i) := by
  show (BitVec.ofNat 32 n).getLsbD i = _
  rw [BitVec.getLsbD_ofNat]
/-! ===== sums ===== -/
def rt_sm (f : Nat → Nat) : Nat → Nat
  | 0 => 0
  | n + 1 => rt_sm f n + f n
theorem sm_congr {f g : Nat → Nat} : ∀ {n : Nat}, (∀ k, k < n → f k = g k) → rt_sm f n = rt_sm g n
  | 0, _ => rfl
  | n + 1, h => by
    have a := sm_congr (f := f) (g := g) (n := n) (fun k hk => h k (by omega))
    have b := h n (by omega)
    simp only [rt_sm]; omega
theorem sm_zero {f : Nat → Nat} : ∀ {n : Nat}, (∀ k, k < n → f k = 0) → rt_sm f n = 0
  | 0, _ => rfl
  | n + 1, h => by
    have a := sm_zero (f := f) (n := n) (fun k hk => h k (by omega))
    have b := h n (by omega)
    simp only [rt_sm]; omega
theorem sm_add (f g : Nat → Nat) : ∀ n : Nat, rt_sm (fun k => f k + g k) n = rt_sm f n + rt_sm g n
  | 0 => rfl
  | n + 1 => by
    have a := sm_add f g n
    simp only [rt_sm]; omega
theorem sm_app (f : Nat → Nat) (a : Nat) : ∀ b : Nat, rt_sm f (a + b) = rt_sm f a + rt_sm (fun j => f (a + j)) b
  | 0 => rfl
  | b + 1 => by
    have h := sm_app f a b
    show rt_sm f (a + b) + f (a + b) = _
    simp only [rt_sm]; omega
theorem sm_mul (f : Nat → Nat) (b : Nat) : ∀ a : Nat, rt_sm f (a * b) = rt_sm (fun i => rt_sm (fun j => f (i * b + j)) b) a
  | 0 => by rw [Nat.zero_mul]; rfl
  | a + 1 => by
    rw [Nat.succ_mul, sm_app, sm_mul f b a]; rfl
theorem sm_swap (f : Nat → Nat → Nat) (b : Nat) : ∀ a : Nat, rt_sm (fun i => rt_sm (fun j => f i j) b) a = rt_sm (fun j => rt_sm (fun i => f i j) a) b
  | 0 => (sm_zero (fun _ _ => rfl)).symm
  | a + 1 => by
    have h := sm_swap f b a
    have e := sm_add (fun j => rt_sm (fun i => f i j) a) (fun j => f a j) b
    show rt_sm (fun i => rt_sm (fun j => f i j) b) a + rt_sm (fun j => f a j) b = _
    rw [h]; exact e.symm
theorem sm_le {f g : Nat → Nat} : ∀ {n : Nat}, (∀ k, k < n → f k ≤ g k) → rt_sm f n ≤ rt_sm g n
  | 0, _ => Nat.le_refl _
  | n + 1, h => by
    have a := sm_le (f := f) (g := g) (n := n) (fun k hk => h k (by omega))
    have b := h n (by omega)
    simp only [rt_sm]; omega
theorem sm_lt {f g : Nat → Nat} {a : Nat} (hl : f a < g a) : ∀ {n : Nat}, (∀ k, k < n → f k ≤ g k) → a < n → rt_sm f n < rt_sm g n
  | 0, _, h => by omega
  | n + 1, h, ha => by
    simp only [rt_sm]
    rcases Nat.lt_or_ge a n with z | z
    · have x := sm_lt hl (n := n) (fun k hk => h k (by omega)) z
      have y := h n (by omega)
      omega
    · have e : a = n := by omega
      subst e
      have x := sm_le (f := f) (g := g) (n := a) (fun k hk => h k (by omega))
      omega
theorem sm_one {f : Nat → Nat} : ∀ {n : Nat}, (∀ k, k < n → f k ≤ 1) → rt_sm f n ≤ n
  | 0, _ => Nat.le_refl _
  | n + 1, h => by
    have a := sm_one (f := f) (n := n) (fun k hk => h k (by omega))
    have b := h n (by omega)
    simp only [rt_sm]; omega
theorem sm_take (f : Nat → Nat) {a : Nat} : ∀ {n : Nat}, a < n → rt_sm f n = f a + rt_sm (fun j => if j = a then 0 else f j) n
  | 0, h => by omega
  | n + 1, h => by
    simp only [rt_sm]
    rcases Nat.lt_or_ge a n with z | z
    · rw [sm_take f z, if_neg (by omega : ¬ n = a)]; omega
    · have e : a = n := by omega
      subst e
      rw [if_pos rfl, sm_congr (f := f) (g := fun j => if j = a then 0 else f j) (n := a) (fun k hk => (if_neg (by omega : ¬ k = a)).symm)]
      omega
theorem sm_two {f g : Nat → Nat} {a b n : Nat} (ha : a < n) (hb : b < n) (hab : a ≠ b) (e : f a + f b = g a + g b) (h : ∀ k, k < n → k ≠ a → k ≠ b → f k = g k) : rt_sm f n = rt_sm g n := by
  rw [sm_take f ha, sm_take g ha, sm_take (fun j => if j = a then 0 else f j) hb, sm_take (fun j => if j = a then 0 else g j) hb, if_neg (Ne.symm hab), if_neg (Ne.symm hab)]
  rw [sm_congr (f := fun j => if j = b then 0 else if j = a then 0 else f j) (g := fun j => if j = b then 0 else if j = a then 0 else g j) (n := n) ?_]
  · omega
  · intro k hk
    show (if k = b then 0 else if k = a then 0 else f k) = (if k = b then 0 else if k = a then 0 else g k)
    by_cases h1 : k = b
    · rw [if_pos h1, if_pos h1]
    · by_cases h2 : k = a
      · rw [if_neg h1, if_neg h1, if_pos h2, if_pos h2]
      · rw [if_neg h1, if_neg h1, if_neg h2, if_neg h2, h k hk h2 h1]
theorem sm_pt (x a : Nat) {n : Nat} (h : a < n) : rt_sm (fun k => if k = a then x else 0) n = x := by
  rw [sm_take _ h, if_pos rfl, sm_zero]
  · rfl
  · intro k _
    by_cases e : k = a
    · rw [if_pos e]
    · rw [if_neg e, if_neg e]
theorem sm_sh (f : Nat → Nat) : ∀ n : Nat, rt_sm f (n + 1) = f 0 + rt_sm (fun i => f (i + 1)) n
  | 0 => by simp only [rt_sm]; omega
  | n + 1 => by
    have h := sm_sh f n
    show rt_sm f (n + 1) + f (n + 1) = _
    rw [h]; simp only [rt_sm]; omega
/-- how many of the first n -/
def rt_cn (P : Nat → Bool) (n : Nat) : Nat := rt_sm (fun k => (P k).toNat) n
theorem cn_S (P : Nat → Bool) (n : Nat) : rt_cn P (n + 1) = rt_cn P n + (P n).toNat := rfl
theorem cn_cg {P Q : Nat → Bool} {n : Nat} (h : ∀ k, k < n → P k = Q k) : rt_cn P n = rt_cn Q n := sm_congr (fun k hk => by rw [h k hk])
theorem cn_le {P Q : Nat → Bool} {n : Nat} (h : ∀ k, k < n → P k = true → Q k = true) : rt_cn P n ≤ rt_cn Q n := by
  refine sm_le (fun k hk => ?_)
  have := h k hk
  cases hp : P k
  · exact Nat.zero_le _
  · rw [this hp]; exact Nat.le_refl _
theorem cn_lt {P Q : Nat → Bool} {n a : Nat} (h : ∀ k, k < n → P k = true → Q k = true) (ha : a < n) (hp : P a = false) (hq : Q a = true) : rt_cn P n < rt_cn Q n := by
  refine sm_lt (a := a) (by rw [hp, hq]; decide) (fun k hk => ?_) ha
  have := h k hk
  cases hp : P k
  · exact Nat.zero_le _
  · rw [this hp]; exact Nat.le_refl _
theorem cn_n (P : Nat → Bool) (n : Nat) : rt_cn P n ≤ n := sm_one (fun k _ => by cases P k <;> decide)
theorem cn_pos {P : Nat → Bool} {n a : Nat} (ha : a < n) (h : P a = true) : 0 < rt_cn P n := by
  have x := cn_lt (P := fun _ => false) (Q := P) (n := n) (a := a) (fun k _ z => absurd z (by decide)) ha rfl h
  omega
theorem cn_z {P : Nat → Bool} {n : Nat} (h : ∀ k, k < n → P k = false) : rt_cn P n = 0 := sm_zero (fun k hk => by rw [h k hk]; rfl)
theorem cn_0 {P : Nat → Bool} {n : Nat} (h : rt_cn P n = 0) : ∀ k, k < n → P k = false := by
  intro k hk
  cases e : P k
  · rfl
  · have := cn_pos hk e; omega
end
section
/-! ===== the picture of both states ===== -/
def rt_u (F : Nat → Nat → Nat) (C k x : Nat) : Nat → Nat → Nat := fun c j => if c = C ∧ j = k then x else F c j
theorem ru_s {F : Nat → Nat → Nat} {C k x : Nat} : rt_u F C k x C k = x := if_pos ⟨rfl, rfl⟩
theorem ru_n {F : Nat → Nat → Nat} {C k x c j : Nat} (h : ¬ (c = C ∧ j = k)) : rt_u F C k x c j = F c j := if_neg h
def rt_ub (A : Nat → Bool) (r : Nat) (x : Bool) : Nat → Bool := fun q => if q = r then x else A q
theorem ub_s {A : Nat → Bool} {r : Nat} {x : Bool} : rt_ub A r x r = x := if_pos rfl
theorem ub_n {A : Nat → Bool} {r q : Nat} {x : Bool} (h : q ≠ r) : rt_ub A r x q = A q := if_neg h
/-- references are 0 (none) or v + 1 -/
def rt_FB (F : Nat → Nat → Nat) : Prop := ∀ C, C < 6 → ∀ k, k < 20 → F C k ≤ 20
/-- the component: rows as words of bits -/
def rt_TH (A : Nat → Bool) (xt : Nat → Int32) : Prop := ∀ t, t < 3 → ∀ k, bt (xt t) k = (decide (k < 20) && A (20 * t + k))
def rt_RF (F : Nat → Nat → Nat) (xf : Nat → Int32) : Prop := ∀ C, C < 6 → ∀ k, k < 20 → xf (20 * C + k) = rt_e (F C k)
def rt_HO (F : Nat → Nat → Nat) (xh : Nat → Int32) : Prop := ∀ C, C < 6 → ∀ v, v < 20 → ∀ k, bt (xh (20 * C + v)) k = (decide (k < 20) && decide (F C k = v + 1))
def rt_VL (V xv : Nat → Int32) : Prop := ∀ r, r < 60 → xv r = V r
/-- links, both sides -/
def rt_LK (ru li : Nat → Nat) (l r : Nat → Int32) : Prop := ∀ C, C < 6 → l C = nI (li C) ∧ r C = rt_e (ru C)
def rt_LB (ru li : Nat → Nat) : Prop := ∀ C, C < 6 → li C < 3 ∧ ru C ≤ 4
/-- the reference -/
def rt_YH (A : Nat → Bool) (yt : Nat → Int32) : Prop := ∀ r, r < 60 → yt r = rt_b (A r)
def rt_YF (A : Nat → Bool) (F : Nat → Nat → Nat) (yf : Nat → Int32) : Prop := ∀ p, p < 120 → A (p / 2) = true → yf p = rt_e (F (p / 40 * 2 + p % 2) (p / 2 % 20))
def rt_YV (A : Nat → Bool) (V yv : Nat → Int32) : Prop := ∀ r, r < 60 → A r = true → yv r = V r
/-- rows that are not there hold nothing; no more than 12 rows a table -/
def rt_CN (A : Nat → Bool) (F : Nat → Nat → Nat) (V : Nat → Int32) : Prop := (∀ r, r < 60 → A r = false → V r = 0) ∧ (∀ C, C < 6 → ∀ k, k < 20 → A (20 * (C / 2) + k) = false → F C k = 0) ∧ (∀ t, t < 3 → rt_cn (fun k => A (20 * t + k)) 20 ≤ 12)
/-- column C is sound -/
def rt_S1 (li : Nat → Nat) (A : Nat → Bool) (F : Nat → Nat → Nat) (C : Nat) : Prop := ∀ k, k < 20 → F C k ≠ 0 → A (20 * li C + (F C k - 1)) = true
/-- links that are asked (z: with rule LATER too) are sound -/
def rt_SD (ru li : Nat → Nat) (A : Nat → Bool) (F : Nat → Nat → Nat) (z : Bool) : Prop := ∀ C, C < 6 → ru C ≠ 0 → (ru C ≠ 4 ∨ z = true) → rt_S1 li A F C
/-- how many of a column dangle -/
def rt_dg (li : Nat → Nat) (A : Nat → Bool) (F : Nat → Nat → Nat) (C k : Nat) : Bool := decide (F C k ≠ 0) && !A (20 * li C + (F C k - 1))
theorem rt_dgS {li : Nat → Nat} {A : Nat → Bool} {F : Nat → Nat → Nat} {C : Nat} : rt_cn (rt_dg li A F C) 20 = 0 ↔ rt_S1 li A F C := by
  constructor
  · intro h k hk hF
    have e := cn_0 h k hk
    unfold rt_dg at e
    rw [decide_eq_true hF, Bool.true_and] at e
    cases z : A (20 * li C + (F C k - 1))
    · rw [z] at e; exact absurd e (by decide)
    · rfl
  · intro h
    refine cn_z (fun k hk => ?_)
    unfold rt_dg
    by_cases hF : F C k = 0
    · rw [decide_eq_false (fun z => z hF), Bool.false_and]
    · rw [h k hk hF, Bool.not_true, Bool.and_false]
section
variable {A : Nat → Bool} {F : Nat → Nat → Nat} {V : Nat → Int32} {ru li : Nat → Nat}
theorem rt_CNf (h : rt_CN A F V) {C k : Nat} (hC : C < 6) (hk : k < 20) (hF : F C k ≠ 0) : A (20 * (C / 2) + k) = true := by
  cases e : A (20 * (C / 2) + k)
  · exact absurd (h.2.1 C hC k hk e) hF
  · rfl
/-- the count of those that dangle, by the words of holders -/
theorem rt_dgC (hB : rt_FB F) {C : Nat} (hC : C < 6) : rt_sm (fun v => if A (20 * li C + v) = true then 0 else rt_cn (fun k => decide (F C k = v + 1)) 20) 20 = rt_cn (rt_dg li A F C) 20 := by
  have e1 : rt_sm (fun v => if A (20 * li C + v) = true then 0 else rt_cn (fun k => decide (F C k = v + 1)) 20) 20 = rt_sm (fun v => rt_sm (fun k => (decide (F C k = v + 1) && !A (20 * li C + v)).toNat) 20) 20 := by
    refine sm_congr (fun v hv => ?_)
    cases h : A (20 * li C + v)
    · rw [if_neg (by decide)]
      exact sm_congr (fun k hk => by rw [Bool.not_false, Bool.and_true])
    · rw [if_pos rfl, sm_zero (fun k hk => by rw [Bool.not_true, Bool.and_false]; rfl)]
  rw [e1, sm_swap (fun v k => (decide (F C k = v + 1) && !A (20 * li C + v)).toNat)]
  refine sm_congr (fun k hk => ?_)
  have hb := hB C hC k hk
  unfold rt_dg
  by_cases h0 : F C k = 0
  · rw [decide_eq_false (fun z => z h0), Bool.false_and, sm_zero (fun v hv => by rw [decide_eq_false (by omega), Bool.false_and]; rfl)]
    rfl
  · rw [decide_eq_true h0, Bool.true_and, ← sm_pt (!A (20 * li C + (F C k - 1))).toNat (F C k - 1) (n := 20) (by omega)]
    refine sm_congr (fun v hv => ?_)
    by_cases e : v = F C k - 1
    · rw [if_pos e, decide_eq_true (by omega), Bool.true_and, e]
    · rw [if_neg e, decide_eq_false (by omega), Bool.false_and]; rfl
/-- all 120 references in the reference's order, or by columns -/
theorem rt_120 (f : Nat → Nat → Nat) : rt_sm (fun p => f (p / 40 * 2 + p % 2) (p / 2 % 20)) 120 = rt_sm (fun C => rt_sm (fun k => f C k) 20) 6 := by
  rw [show (120 : Nat) = 3 * 40 from rfl, sm_mul, show (6 : Nat) = 3 * 2 from rfl, sm_mul]
  refine sm_congr (fun t ht => ?_)
  rw [show (40 : Nat) = 20 * 2 from rfl, sm_mul, ← sm_swap (fun k c => f (t * 2 + c) k)]
  refine sm_congr (fun k hk => sm_congr (fun c hc => ?_))
  have a : (t * (20 * 2) + (k * 2 + c)) / (20 * 2) * 2 + (t * (20 * 2) + (k * 2 + c)) % 2 = t * 2 + c := by omega
  have b : (t * (20 * 2) + (k * 2 + c)) / 2 % 20 = k := by omega
  rw [a, b]
theorem rt_e120 {P : Nat → Nat → Prop} : (∃ p, p < 120 ∧ P (p / 40 * 2 + p % 2) (p / 2 % 20)) ↔ (∃ C k, C < 6 ∧ k < 20 ∧ P C k) := by
  constructor
  · rintro ⟨p, hp, h⟩
    exact ⟨_, _, by omega, by omega, h⟩
  · rintro ⟨C, k, hC, hk, h⟩
    refine ⟨40 * (C / 2) + 2 * k + C % 2, by omega, ?_⟩
    have a : (40 * (C / 2) + 2 * k + C % 2) / 40 * 2 + (40 * (C / 2) + 2 * k + C % 2) % 2 = C := by omega
    have b : (40 * (C / 2) + 2 * k + C % 2) / 2 % 20 = k := by omega
    rw [a, b]; exact h
/-! ===== in and out of the words ===== -/
theorem rt_RFc {F' : Nat → Nat → Nat} {xf : Nat → Int32} (e : ∀ C, C < 6 → ∀ k, k < 20 → F C k = F' C k) (h : rt_RF F xf) : rt_RF F' xf := fun C hC k hk => by rw [h C hC k hk, e C hC k hk]
theorem rt_HOc {F' : Nat → Nat → Nat} {xh : Nat → Int32} (e : ∀ C, C < 6 → ∀ k, k < 20 → F C k = F' C k) (h : rt_HO F xh) : rt_HO F' xh := fun C hC v hv k => by
  rw [h C hC v hv k]
  by_cases hk : k < 20
  · rw [e C hC k hk]
  · rw [decide_eq_false hk, Bool.false_and, Bool.false_and]
theorem rt_THc {A' : Nat → Bool} {xt : Nat → Int32} (e : ∀ r, r < 60 → A r = A' r) (h : rt_TH A xt) : rt_TH A' xt := fun t ht k => by
  rw [h t ht k]
  by_cases hk : k < 20
  · rw [e _ (by omega)]
  · rw [decide_eq_false hk, Bool.false_and, Bool.false_and]
theorem rt_VLc {V' xv : Nat → Int32} (e : ∀ r, r < 60 → V r = V' r) (h : rt_VL V xv) : rt_VL V' xv := fun r hr => by rw [h r hr, e r hr]
theorem rt_FBu {C k n : Nat} (hn : n ≤ 20) (h : rt_FB F) : rt_FB (rt_u F C k n) := fun c hc j hj => by
  by_cases e : c = C ∧ j = k
  · rw [e.1, e.2, ru_s]; exact hn
  · rw [ru_n e]; exact h c hc j hj
theorem rt_RFu {C k n : Nat} {xf : Nat → Int32} (hk : k < 20) (h : rt_RF F xf) : rt_RF (rt_u F C k n) (upd xf (20 * C + k) (rt_e n)) := fun c hc j hj => by
  by_cases e : c = C ∧ j = k
  · rw [e.1, e.2, ru_s, pk_us]
  · rw [ru_n e, pk_un (by omega), h c hc j hj]
theorem rt_HOa {C k v : Nat} {xh : Nat → Int32} (hk : k < 20) (hv : v < 20) (h : rt_HO (rt_u F C k 0) xh) : rt_HO (rt_u F C k (v + 1)) (upd xh (20 * C + v) (xh (20 * C + v) ||| ((1 : Int32) <<< (nI k &&& 31)))) := fun c hc w hw j => by
  by_cases e : c = C ∧ w = v
  · obtain ⟨rfl, rfl⟩ := e
    rw [pk_us, rt_set _ (by omega), h c hc w hw j]
    by_cases ej : j = k
    · subst ej
      rw [ru_s, ru_s, decide_eq_true hk, decide_eq_true rfl, Bool.or_true, decide_eq_true rfl]; rfl
    · rw [ru_n (fun z => ej z.2), ru_n (fun z => ej z.2), decide_eq_false ej, Bool.or_false]
  · rw [pk_un (by omega), h c hc w hw j]
    by_cases ej : c = C ∧ j = k
    · rw [ej.1, ej.2, ru_s, ru_s, decide_eq_false (by omega : ¬ 0 = w + 1), decide_eq_false (by omega : ¬ v + 1 = w + 1)]
    · rw [ru_n ej, ru_n ej]
theorem rt_HOd {C k v : Nat} {xh : Nat → Int32} (hk : k < 20) (hv : v < 20) (hF : F C k = v + 1) (h : rt_HO F xh) : rt_HO (rt_u F C k 0) (upd xh (20 * C + v) (xh (20 * C + v) &&& (((1 : Int32) <<< (nI k &&& 31)) ^^^ (-1)))) := fun c hc w hw j => by
  by_cases e : c = C ∧ w = v
  · obtain ⟨rfl, rfl⟩ := e
    rw [pk_us, rt_clr _ (by omega), h c hc w hw j]
    by_cases ej : j = k
    · subst ej
      rw [ru_s, decide_eq_true rfl, Bool.not_true, Bool.and_false, decide_eq_false (by omega : ¬ 0 = w + 1), Bool.and_false]
    · rw [ru_n (fun z => ej z.2), decide_eq_false ej, Bool.not_false, Bool.and_true]
  · rw [pk_un (by omega), h c hc w hw j]
    by_cases ej : c = C ∧ j = k
    · rw [ej.1, ej.2, ru_s, hF, decide_eq_false (by omega : ¬ 0 = w + 1), decide_eq_false (by omega : ¬ v + 1 = w + 1)]
    · rw [ru_n ej]
theorem rt_HOz {C k : Nat} {xh : Nat → Int32} (hF : F C k = 0) (h : rt_HO F xh) : rt_HO (rt_u F C k 0) xh := rt_HOc (F := F) (fun c _ j _ => by
  by_cases ej : c = C ∧ j = k
  · rw [ej.1, ej.2, ru_s, hF]
  · rw [ru_n ej]) h
theorem rt_us {C k n : Nat} (e : F C k = n) : rt_u F C k n = F := by
  funext c j
  by_cases ej : c = C ∧ j = k
  · rw [ej.1, ej.2, ru_s, e]
  · rw [ru_n ej]
theorem rt_uu {C k m n : Nat} : rt_u (rt_u F C k m) C k n = rt_u F C k n := by
  funext c j
  by_cases ej : c = C ∧ j = k
  · rw [ej.1, ej.2, ru_s, ru_s]
  · rw [ru_n ej, ru_n ej, ru_n ej]
theorem rt_THs {t k : Nat} {xt : Nat → Int32} (hk : k < 20) (h : rt_TH A xt) : rt_TH (rt_ub A (20 * t + k) true) (upd xt t (xt t ||| ((1 : Int32) <<< (nI k &&& 31)))) := fun s hs j => by
  by_cases e : s = t
  · subst e
    rw [pk_us, rt_set _ (by omega), h s hs j]
    by_cases ej : j = k
    · subst ej
      rw [ub_s, decide_eq_true hk, decide_eq_true rfl, Bool.or_true]; rfl
    · rw [ub_n (by omega), decide_eq_false ej, Bool.or_false]
  · rw [pk_un e, h s hs j]
    by_cases hj : j < 20
    · rw [ub_n (by omega)]
    · rw [decide_eq_false hj, Bool.false_and, Bool.false_and]
theorem rt_THd {t k : Nat} {xt : Nat → Int32} (hk : k < 20) (h : rt_TH A xt) : rt_TH (rt_ub A (20 * t + k) false) (upd xt t (xt t &&& (((1 : Int32) <<< (nI k &&& 31)) ^^^ (-1)))) := fun s hs j => by
  by_cases e : s = t
  · subst e
    rw [pk_us, rt_clr _ (by omega), h s hs j]
    by_cases ej : j = k
    · subst ej
      rw [ub_s, decide_eq_true rfl, Bool.not_true, Bool.and_false, Bool.and_false]
    · rw [ub_n (by omega), decide_eq_false ej, Bool.not_false, Bool.and_true]
  · rw [pk_un e, h s hs j]
    by_cases hj : j < 20
    · rw [ub_n (by omega)]
    · rw [decide_eq_false hj, Bool.false_and, Bool.false_and]
theorem rt_VLu {r : Nat} {x : Int32} {xv : Nat → Int32} (h : rt_VL V xv) : rt_VL (upd V r x) (upd xv r x) := fun q hq => by
  by_cases e : q = r
  · rw [e, pk_us, pk_us]
  · rw [pk_un e, pk_un e, h q hq]
theorem rt_THb {xt : Nat → Int32} (h : rt_TH A xt) {t k : Nat} (ht : t < 3) (hk : k < 20) : bt (xt t) k = A (20 * t + k) := by
  rw [h t ht k, decide_eq_true hk, Bool.true_and]
theorem rt_THz {xt : Nat → Int32} (h : rt_TH A xt) {t : Nat} (ht : t < 3) : ∀ i, 20 ≤ i → bt (xt t) i = false := fun i hi => by
  rw [h t ht i, decide_eq_false (by omega), Bool.false_and]
theorem rt_HOb {xh : Nat → Int32} (h : rt_HO F xh) {C v k : Nat} (hC : C < 6) (hv : v < 20) (hk : k < 20) : bt (xh (20 * C + v)) k = decide (F C k = v + 1) := by
  rw [h C hC v hv k, decide_eq_true hk, Bool.true_and]
theorem rt_HOy {xh : Nat → Int32} (h : rt_HO F xh) {C v : Nat} (hC : C < 6) (hv : v < 20) : ∀ i, 20 ≤ i → bt (xh (20 * C + v)) i = false := fun i hi => by
  rw [h C hC v hv i, decide_eq_false (by omega), Bool.false_and]
theorem rt_HO0 {xh : Nat → Int32} (h : rt_HO F xh) {C v : Nat} (hC : C < 6) (hv : v < 20) : xh (20 * C + v) = 0 ↔ ∀ k, k < 20 → F C k ≠ v + 1 := by
  rw [rt_w0]
  constructor
  · intro z k hk e
    have a := z k (by omega)
    rw [rt_HOb h hC hv hk, decide_eq_true e] at a
    exact absurd a (by decide)
  · intro z i hi
    rcases Nat.lt_or_ge i 20 with g | g
    · rw [rt_HOb h hC hv g, decide_eq_false (z i g)]
    · exact rt_HOy h hC hv i g
end
/-! ===== copies ===== -/
def rt_cp (b : Nat) (s : Nat → Int32) (n : Nat) (p : Nat → Int32) : Nat → Int32 := fun j => if b ≤ j ∧ j < b + n then s (j - b) else p j
theorem cp_0 (b : Nat) (s p : Nat → Int32) : rt_cp b s 0 p = p := by
  funext j
  exact if_neg (by omega)
theorem cp_S {b n c : Nat} {s p : Nat → Int32} {x : Int32} (hc : c = b + n) (hx : x = s n) : upd (rt_cp b s n p) c x = rt_cp b s (n + 1) p := by
  subst hc hx
  funext j
  unfold upd rt_cp
  by_cases e : j = b + n
  · rw [if_pos e, if_pos (by omega), e, Nat.add_sub_cancel_left]
  · rw [if_neg e]
    by_cases h : b ≤ j ∧ j < b + n
    · rw [if_pos h, if_pos (by omega)]
    · rw [if_neg h, if_neg (by omega)]
theorem cp_i {b n j : Nat} {s p : Nat → Int32} (h : j < n) : rt_cp b s n p (b + j) = s j := by
  unfold rt_cp
  rw [if_pos (by omega), Nat.add_sub_cancel_left]
theorem cp_o {b n j : Nat} {s p : Nat → Int32} (h : j < b ∨ b + n ≤ j) : rt_cp b s n p j = p j := if_neg (by omega)
/-- what one picture of the component holds -/
def rt_src (xt xf xv : Nat → Int32) : Nat → Int32 := fun c => if c < 3 then xt c else if c < 123 then xf (c - 3) else xv (c - 123)
theorem sr_t {xt xf xv : Nat → Int32} {c : Nat} (h : c < 3) : rt_src xt xf xv c = xt c := if_pos h
theorem sr_f {xt xf xv : Nat → Int32} {c : Nat} (h : c < 120) : rt_src xt xf xv (3 + c) = xf c := by
  unfold rt_src
  rw [if_neg (by omega), if_pos (by omega), Nat.add_sub_cancel_left]
theorem sr_v {xt xf xv : Nat → Int32} {c : Nat} : rt_src xt xf xv (123 + c) = xv c := by
  unfold rt_src
  rw [if_neg (by omega), if_neg (by omega), Nat.add_sub_cancel_left]
end
section
/-! ===== the rows that go along: the least closed set ===== -/
def rt_CL (ru li : Nat → Nat) (F : Nat → Nat → Nat) (r0 r : Nat) : Prop := ∀ S : Nat → Prop, S r0 → (∀ C, C < 6 → ∀ k, k < 20 → ru C = 2 → F C k ≠ 0 → S (20 * li C + (F C k - 1)) → S (20 * (C / 2) + k)) → S r
def rt_c1 (ru li : Nat → Nat) (F : Nat → Nat → Nat) (G : Nat → Bool) (C k : Nat) : Prop := ru C = 2 → F C k ≠ 0 → G (20 * li C + (F C k - 1)) = true → G (20 * (C / 2) + k) = true
def rt_SU (ru li : Nat → Nat) (F : Nat → Nat → Nat) (r0 : Nat) (G : Nat → Bool) : Prop := G r0 = true ∧ (∀ r, G r = true → rt_CL ru li F r0 r) ∧ (∀ r, 60 ≤ r → G r = false)
def rt_IC (ru li : Nat → Nat) (F : Nat → Nat → Nat) (r0 : Nat) (G : Nat → Bool) : Prop := rt_SU ru li F r0 G ∧ ∀ C, C < 6 → ∀ k, k < 20 → rt_c1 ru li F G C k
/-- a row that stays forbids it -/
def rt_RE (ru li : Nat → Nat) (F : Nat → Nat → Nat) (G : Nat → Bool) : Prop := ∃ C k, C < 6 ∧ k < 20 ∧ (ru C = 1 ∧ F C k ≠ 0 ∧ G (20 * li C + (F C k - 1)) = true ∧ G (20 * (C / 2) + k) = false)
def rt_gw (li : Nat → Nat) (F : Nat → Nat → Nat) (G : Nat → Bool) (C : Nat) : Nat → Bool := fun r => G r || (decide (r < 60 ∧ r / 20 = C / 2 ∧ F C (r % 20) ≠ 0) && G (20 * li C + (F C (r % 20) - 1)))
section
variable {A : Nat → Bool} {F : Nat → Nat → Nat} {V : Nat → Int32} {ru li : Nat → Nat} {r0 r : Nat} {G G' : Nat → Bool}
theorem rt_ICs (h : rt_IC ru li F r0 G) (c : rt_CL ru li F r0 r) : G r = true := c (fun r => G r = true) h.1.1 (fun C hC k hk e f g => h.2 C hC k hk e f g)
theorem rt_ICu (h : rt_IC ru li F r0 G) (h' : rt_IC ru li F r0 G') : G = G' := by
  funext r
  cases e : G r
  · cases e' : G' r
    · rfl
    · have := rt_ICs h (h'.1.2.1 r e')
      rw [this] at e; exact absurd e (by decide)
  · exact (rt_ICs h' (h.1.2.1 r e)).symm
theorem rt_ICA (c : rt_CN A F V) (h : A r0 = true) (hc : rt_CL ru li F r0 r) : A r = true := hc (fun r => A r = true) h (fun C hC k hk _ f _ => rt_CNf c hC hk f)
theorem rt_SUu {C k : Nat} (hC : C < 6) (hk : k < 20) (e : ru C = 2) (f : F C k ≠ 0) (h : rt_SU ru li F r0 G) (g : G (20 * li C + (F C k - 1)) = true) : rt_SU ru li F r0 (rt_ub G (20 * (C / 2) + k) true) := by
  refine ⟨?_, fun r hr => ?_, fun r hr => ?_⟩
  · by_cases z : r0 = 20 * (C / 2) + k
    · rw [z, ub_s]
    · rw [ub_n z]; exact h.1
  · by_cases z : r = 20 * (C / 2) + k
    · subst z
      intro S s0 st
      exact st C hC k hk e f (h.2.1 _ g S s0 st)
    · rw [ub_n z] at hr; exact h.2.1 r hr
  · rw [ub_n (by omega)]; exact h.2.2 r hr
theorem gw_SU {C : Nat} (hC : C < 6) (e : ru C = 2) (h : rt_SU ru li F r0 G) : rt_SU ru li F r0 (rt_gw li F G C) := by
  refine ⟨?_, fun r hr => ?_, fun r hr => ?_⟩
  · unfold rt_gw; rw [h.1, Bool.true_or]
  · unfold rt_gw at hr
    rcases Bool.or_eq_true_iff.mp hr with a | a
    · exact h.2.1 r a
    · obtain ⟨b, c⟩ := Bool.and_eq_true_iff.mp a
      obtain ⟨b1, b2, b3⟩ := of_decide_eq_true b
      have er : r = 20 * (C / 2) + r % 20 := by omega
      intro S s0 st
      rw [er]
      exact st C hC (r % 20) (by omega) e b3 (h.2.1 _ c S s0 st)
  · unfold rt_gw; rw [h.2.2 r hr, decide_eq_false (by omega), Bool.false_and, Bool.or_false]
theorem gw_le {C : Nat} : rt_cn G 60 ≤ rt_cn (rt_gw li F G C) 60 := cn_le (fun k _ h => by unfold rt_gw; rw [h, Bool.true_or])
theorem gw_lt {C k : Nat} (hC : C < 6) (hk : k < 20) (f : F C k ≠ 0) (g : G (20 * li C + (F C k - 1)) = true) (n : G (20 * (C / 2) + k) = false) : rt_cn G 60 < rt_cn (rt_gw li F G C) 60 := by
  refine cn_lt (a := 20 * (C / 2) + k) (fun k _ h => by unfold rt_gw; rw [h, Bool.true_or]) (by omega) n ?_
  unfold rt_gw
  have e : (20 * (C / 2) + k) % 20 = k := by omega
  rw [e, g, decide_eq_true ⟨by omega, by omega, f⟩, Bool.and_true, Bool.or_true]
theorem gw_eq {C : Nat} (h : ∀ k, k < 20 → F C k ≠ 0 → G (20 * li C + (F C k - 1)) = true → G (20 * (C / 2) + k) = true) : rt_gw li F G C = G := by
  funext r
  unfold rt_gw
  cases e : G r
  · rw [Bool.false_or]
    by_cases z : r < 60 ∧ r / 20 = C / 2 ∧ F C (r % 20) ≠ 0
    · cases g : G (20 * li C + (F C (r % 20) - 1))
      · rw [Bool.and_false]
      · have := h (r % 20) (by omega) z.2.2 g
        rw [show 20 * (C / 2) + r % 20 = r from by omega, e] at this
        exact absurd this (by decide)
    · rw [decide_eq_false z, Bool.false_and]
  · rw [Bool.true_or]
/-- G is a part of the least closed set, hence of any that is closed -/
theorem rt_SUle (h : rt_SU ru li F r0 G) (h' : rt_IC ru li F r0 G') : rt_cn G 60 ≤ rt_cn G' 60 := cn_le (fun r _ g => rt_ICs h' (h.2.1 r g))
theorem rt_ub_lt {a : Nat} (ha : a < 60) (h : G a = false) : rt_cn G 60 < rt_cn (rt_ub G a true) 60 := by
  refine cn_lt (a := a) (fun k _ g => ?_) ha h ub_s
  by_cases e : k = a
  · rw [e, ub_s]
  · rw [ub_n e]; exact g
/-- one round over things 0 .. n - 1: nothing new and all of them closed, or more -/
def rt_P (ok : Nat → Prop) (G0 : Nat → Bool) (i : Nat) (m : Bool) (G : Nat → Bool) : Prop := (m = false ∧ G = G0 ∧ ∀ j, j < i → ok j) ∨ (m = true ∧ rt_cn G0 60 < rt_cn G 60)
end
/-! ===== the ones of a word ===== -/
theorem pc_S (n L : Nat) : rt_cn n.testBit (L + 1) = (n.testBit 0).toNat + rt_cn (n / 2).testBit L := by
  unfold rt_cn
  rw [sm_sh]
  exact congrArg _ (sm_congr (fun k _ => by rw [Nat.testBit_succ]))
theorem pc_low : ∀ (L n : Nat), 0 < n → n < 2 ^ L → rt_cn (n &&& (n - 1)).testBit L + 1 = rt_cn n.testBit L
  | 0, n, h0, h => by rw [Nat.pow_zero] at h; omega
  | L + 1, n, h0, h => by
    rw [Nat.pow_succ] at h
    rw [pc_S, pc_S, Nat.and_div_two, Nat.testBit_and, Nat.testBit_zero, Nat.testBit_zero]
    by_cases e : n % 2 = 1
    · have e2 : (n - 1) / 2 = n / 2 := by omega
      rw [e2, Nat.and_self, decide_eq_true e, decide_eq_false (by omega : ¬ (n - 1) % 2 = 1)]
      show 0 + _ + 1 = 1 + _
      omega
    · have e2 : (n - 1) / 2 = n / 2 - 1 := by omega
      have ih := pc_low L (n / 2) (by omega) (by omega)
      rw [e2, decide_eq_false e, Bool.false_and]
      show 0 + _ + 1 = 0 + _
      omega
theorem pc_lt {n L : Nat} (h : n < 2 ^ L) : n &&& (n - 1) < 2 ^ L := Nat.lt_of_le_of_lt Nat.and_le_left h
theorem pc_z {n : Nat} (h : n < 2 ^ 20) (z : rt_cn n.testBit 20 = 0) : n = 0 := by
  refine Nat.eq_of_testBit_eq (fun i => ?_)
  rw [Nat.zero_testBit]
  rcases Nat.lt_or_ge i 20 with a | a
  · exact cn_0 z i a
  · exact Nat.testBit_lt_two_pow (Nat.lt_of_lt_of_le h (Nat.pow_le_pow_right (by decide) a))
theorem rx_ones6 {post : Int32 → Prop} : ∀ (d j r : Nat), j + d = 20 → r < 2 ^ 20 → rt_cn r.testBit 20 ≤ d → post (nI (j + rt_cn r.testBit 20)) → wX_ones_6 post (d + 1) (nI j) (nI r) (nI j)
  | 0, j, r, hj, hr, hd, h => by
    have e : rt_cn r.testBit 20 = 0 := by omega
    rw [e, Nat.add_zero] at h
    exact pk_le 20 j (fun _ => h) (fun z => absurd z (by omega))
  | d + 1, j, r, hj, hr, hd, h => by
    refine pk_le 20 j (fun z => absurd z (by omega)) (fun _ => ?_)
    refine pk_eq r 0 (fun z => ?_) (fun z => ?_) rfl rfl (by omega) (by omega)
    · subst z
      have e : rt_cn (Nat.testBit 0) 20 = 0 := cn_z (fun k _ => Nat.zero_testBit k)
      rw [e, Nat.add_zero] at h
      exact h
    · have lo := pc_low 20 r (by omega) hr
      have e1 : nI r &&& (nI r - 1) = nI (r &&& (r - 1)) := by
        rw [← nx_and]
        exact congrArg (fun q => nI r &&& q) (pk_sub (b := 1) (by omega))
      refine nm_r e1 (nm_r (nI_1 j) (nm_r (nI_1 j) ?_))
      refine rx_ones6 d (j + 1) (r &&& (r - 1)) (by omega) (pc_lt hr) (by omega) ?_
      rw [show j + 1 + rt_cn (r &&& (r - 1)).testBit 20 = j + rt_cn r.testBit 20 from by omega]
      exact h
theorem rx_ones {post : Int32 → Prop} {w : Int32} (hs : ∀ i, 20 ≤ i → bt w i = false) (h : post (nI (rt_cn (bt w) 20))) : wpX_ones post w := by
  obtain ⟨n, hn, rfl⟩ := wb_of32 w
  have hb : ∀ i, i < 32 → bt (nI n) i = n.testBit i := fun i hi => by rw [rt_btN, decide_eq_true hi, Bool.true_and]
  have hn2 : n < 2 ^ 20 := by
    refine Nat.lt_pow_two_of_testBit n (fun i hi => ?_)
    rcases Nat.lt_or_ge i 32 with a | a
    · rw [← hb i a]; exact hs i hi
    · exact Nat.testBit_lt_two_pow (Nat.lt_of_lt_of_le hn (Nat.pow_le_pow_right (by decide) a))
  have e : rt_cn (bt (nI n)) 20 = rt_cn n.testBit 20 := cn_cg (fun k hk => hb k (by omega))
  rw [e] at h
  refine ⟨21, rx_ones6 20 0 n rfl hn2 (cn_n _ _) ?_⟩
  rw [Nat.zero_add]; exact h
end
section
/-! ===== the component: small methods ===== -/
/-- a branch by 'is it 1' on a flag -/
theorem rt_bo {x : Int32} {P Q : Prop} (b : Bool) (f : b = true → P) (g : b = false → Q) (hx : x = rt_b b := by rfl) : (x = 1 → P) ∧ (¬ x = 1 → Q) := by
  subst hx
  exact ek_if rt_b1 f (fun z => g (by cases b <;> simp_all))
theorem rt_gt {x : Int32} {n : Nat} (hn : n + 1 < 2 ^ 31) (h : nI (n + 1) ≤ x) : nI n < x := by
  rw [Int32.le_iff_toInt_le, nI_toInt hn] at h
  rw [Int32.lt_iff_toInt_lt, nI_toInt (by omega)]
  omega
theorem rt_ngt {x : Int32} {n : Nat} (hn : n + 1 < 2 ^ 31) (h : nI (n + 1) ≤ x) : ¬ x ≤ nI n := fun z => by
  rw [Int32.le_iff_toInt_le, nI_toInt hn] at h
  rw [Int32.le_iff_toInt_le, nI_toInt (by omega)] at z
  omega
section
variable {xo xm : Int32} {xl xr xt xf xv xh xp xg : Nat → Int32}
variable {A : Nat → Bool} {F : Nat → Nat → Nat} {V : Nat → Int32} {ru li : Nat → Nat}
theorem rx_isT {post : Int32 → Prop} {t : Nat} (ht : t < 3) (h : post 1) : wpX_isTable post (nI t) :=
  br_f (nI_pos (by omega)) (br_f (nI_ge (b := 3) ht (by decide)) h)
theorem rx_isT0 {post : Int32 → Prop} {x : Int32} (hx : x < 0 ∨ nI 3 ≤ x) (h : post 0) : wpX_isTable post x := by
  by_cases a : x < 0
  · exact br_t a h
  · exact br_f a (br_t (hx.resolve_left a) h)
theorem rx_isK {post : Int32 → Prop} {t : Nat} (ht : t < 20) (h : post 1) : wpX_isKey post (nI t) :=
  br_f (nI_pos (by omega)) (br_f (nI_ge (b := 20) ht (by decide)) h)
theorem rx_isK0 {post : Int32 → Prop} {x : Int32} (hx : x < 0 ∨ nI 20 ≤ x) (h : post 0) : wpX_isKey post x := by
  by_cases a : x < 0
  · exact br_t a h
  · exact br_f a (br_t (hx.resolve_left a) h)
theorem rx_isC {post : Int32 → Prop} {c : Nat} (hc : c < 2) (h : post 1) : wpX_isColumn post (nI c) := by
  rcases (by omega : c = 0 ∨ c = 1) with rfl | rfl
  · exact br_t rfl h
  · exact br_f (by decide) (br_t rfl h)
theorem rx_isC0 {post : Int32 → Prop} {x : Int32} (hx : x < 0 ∨ nI 2 ≤ x) (h : post 0) : wpX_isColumn post x := by
  refine br_f ?_ (br_f ?_ h)
  · rintro rfl
    exact absurd hx (by decide)
  · rintro rfl
    exact absurd hx (by decide)
theorem rx_has {post : Int32 → Prop} {t k : Nat} (ht : t < 3) (hk : k < 20) (hT : rt_TH A xt) (h1 : A (20 * t + k) = true → post 1) (h0 : A (20 * t + k) = false → post 0) : wpX_hasRow post (xo, xm, xl, xr, xt, xf, xv, xh, xp, xg) (nI t) (nI k) := by
  unfold wpX_hasRow
  refine rx_isK hk (br_f (by decide) ⟨vp_in_nI ht (by decide), ?_⟩)
  exact rt_bo (A (20 * t + k)) h1 h0 (by rw [nI_clamp (by omega), rt_bbit _ (by omega), rt_THb hT ht hk])
theorem rx_has0 {post : Int32 → Prop} {p x : Int32} (hx : x < 0 ∨ nI 20 ≤ x) (h0 : post 0) : wpX_hasRow post (xo, xm, xl, xr, xt, xf, xv, xh, xp, xg) p x := by
  unfold wpX_hasRow
  exact rx_isK0 hx (br_t rfl h0)
/-! ===== one reference ===== -/
theorem rx_set50 {post : Int32 → SX → Prop} {C k n : Nat} (hC : C < 6) (hk : k < 20) (hn : n ≤ 20) (hR : rt_RF F xf) (hH : rt_HO (rt_u F C k 0) xh) (h : ∀ r xf' xh', rt_RF (rt_u F C k n) xf' → rt_HO (rt_u F C k n) xh' → post r (xo, xm, xl, xr, xt, xf', xv, xh', xp, xg)) : wX_setRef_50 post (nI C) (nI k) (rt_e n) (nI (20 * C + k)) xo xm xl xr xt xf xv xh xp xg := by
  have ck : (nI (20 * C + k)).toNatClampNeg = 20 * C + k := nI_clamp (by omega)
  have hi : vp_in (nI (20 * C + k)) 120 := vp_in_nI (by omega) (by decide)
  unfold wX_setRef_50
  refine re_lt n 1 (fun z => ?_) (fun z => ?_)
  · obtain rfl : n = 0 := by omega
    exact ⟨hi, nm_r (by rw [ck]) (h 1 _ _ (rt_RFu hk hR) hH)⟩
  · obtain ⟨v, rfl⟩ : ∃ v, n = v + 1 := ⟨n - 1, by omega⟩
    have ev : (20 : Int32) * nI C + rt_e (v + 1) = nI (20 * C + v) := by rw [rt_eS, ix_20]
    have hv : vp_in ((20 : Int32) * nI C + rt_e (v + 1)) 120 := pk_in (20 * C + v) 120 (by omega) ev
    refine ⟨hv, hv, nm_r (e' := upd xh (20 * C + v) (xh (20 * C + v) ||| ((1 : Int32) <<< (nI k &&& 31)))) (by rw [ev, nI_clamp (by omega)]) ⟨hi, nm_r (by rw [ck]) (h 1 _ _ (rt_RFu hk hR) (rt_HOa hk (by omega) hH))⟩⟩
theorem rx_setRef {post : Int32 → SX → Prop} {p0 p1 p2 : Int32} {C k n : Nat} (e0 : p0 = nI C) (e1 : p1 = nI k) (e2 : p2 = rt_e n) (hC : C < 6) (hk : k < 20) (hn : n ≤ 20) (hB : rt_FB F) (hR : rt_RF F xf) (hH : rt_HO F xh) (h : ∀ r xf' xh', rt_RF (rt_u F C k n) xf' → rt_HO (rt_u F C k n) xh' → post r (xo, xm, xl, xr, xt, xf', xv, xh', xp, xg)) : wpX_setRef post (xo, xm, xl, xr, xt, xf, xv, xh, xp, xg) p0 p1 p2 := by
  subst e0 e1 e2
  have hF := hB C hC k hk
  unfold wpX_setRef
  refine nm_r (ix_20 C k) ⟨vp_in_nI (by omega) (by decide), nm_r (e' := rt_e (F C k)) (by rw [nI_clamp (by omega), hR C hC k hk]) ?_⟩
  refine re_eq (F C k) n (fun e => ?_) (fun e => ?_)
  · rw [rt_us e] at h
    exact h 0 _ _ hR hH
  · refine re_lt (F C k) 1 (fun z => ?_) (fun z => ?_)
    · exact rx_set50 hC hk hn hR (rt_HOz (by omega) hH) h
    · obtain ⟨v, ev⟩ : ∃ v, F C k = v + 1 := ⟨F C k - 1, by omega⟩
      have e3 : (20 : Int32) * nI C + rt_e (F C k) = nI (20 * C + v) := by rw [ev, rt_eS, ix_20]
      have hv : vp_in ((20 : Int32) * nI C + rt_e (F C k)) 120 := pk_in (20 * C + v) 120 (by omega) e3
      refine ⟨hv, hv, nm_r (e' := upd xh (20 * C + v) (xh (20 * C + v) &&& (((1 : Int32) <<< (nI k &&& 31)) ^^^ (-1)))) (by rw [e3, nI_clamp (by omega)]) ?_⟩
      exact rx_set50 hC hk hn hR (rt_HOd hk (by omega) ev hH) h
/-- a row goes -/
theorem rx_drop {post : SX → Prop} {p0 p1 : Int32} {t k : Nat} (e0 : p0 = nI t) (e1 : p1 = nI k) (ht : t < 3) (hk : k < 20) (hB : rt_FB F) (hT : rt_TH A xt) (hR : rt_RF F xf) (hV : rt_VL V xv) (hH : rt_HO F xh) (h : ∀ xt' xf' xv' xh', rt_TH (rt_ub A (20 * t + k) false) xt' → rt_RF (rt_u (rt_u F (2 * t) k 0) (2 * t + 1) k 0) xf' → rt_VL (upd V (20 * t + k) 0) xv' → rt_HO (rt_u (rt_u F (2 * t) k 0) (2 * t + 1) k 0) xh' → post (xo, xm, xl, xr, xt', xf', xv', xh', xp, xg)) : wpX_dropRow post (xo, xm, xl, xr, xt, xf, xv, xh, xp, xg) p0 p1 := by
  subst e0 e1
  unfold wpX_dropRow
  refine rx_setRef (C := 2 * t) (n := 0) (ix_2 t) rfl rfl (by omega) hk (by omega) hB hR hH (fun r xf1 xh1 r1 h1 => ?_)
  refine rx_setRef (C := 2 * t + 1) (n := 0) (ix_21 t) rfl rfl (by omega) hk (by omega) (rt_FBu (by omega) hB) r1 h1 (fun r xf2 xh2 r2 h2 => ?_)
  have v3 : vp_in (nI t) 3 := vp_in_nI ht (by decide)
  refine ⟨pk_in (20 * t + k) 60 (by omega) (ix_20 t k), nm_r (e' := upd xv (20 * t + k) 0) (by rw [ix_20, nI_clamp (by omega)]) ⟨v3, v3, nm_r (e' := upd xt t (xt t &&& (((1 : Int32) <<< (nI k &&& 31)) ^^^ (-1)))) (by rw [nI_clamp (by omega)]) ?_⟩⟩
  exact h _ _ _ _ (rt_THd hk hT) r2 (rt_VLu hV) h2
/-! ===== links: do they dangle ===== -/
theorem rx_dang4 {post : Int32 → Prop} {C : Nat} (hC : C < 6) (hLB : rt_LB ru li) (hLK : rt_LK ru li xl xr) (hT : rt_TH A xt) (hH : rt_HO F xh) : ∀ (d i : Nat), i + d = 20 → post (nI (rt_sm (fun v => if A (20 * li C + v) = true then 0 else rt_cn (fun k => decide (F C k = v + 1)) 20) 20)) → wX_danglingIn_4 post (nI C) xo xm xl xr xt xf xv xh xp xg (d + 1) (nI (rt_sm (fun v => if A (20 * li C + v) = true then 0 else rt_cn (fun k => decide (F C k = v + 1)) 20) i)) (nI i)
  | 0, i, hi, h => by
    obtain rfl : i = 20 := by omega
    exact pk_le 20 20 (fun _ => h) (fun z => absurd z (by omega))
  | d + 1, i, hi, h => by
    have ih := rx_dang4 hC hLB hLK hT hH d (i + 1) (by omega) h
    have eC : (nI C).toNatClampNeg = C := nI_clamp (by omega)
    have hl := (hLB C hC).1
    have eL : (xl (nI C).toNatClampNeg).toNatClampNeg = li C := by rw [eC, (hLK C hC).1, nI_clamp (by omega)]
    refine pk_le 20 i (fun z => absurd z (by omega)) (fun z => ⟨vp_in_nI hC (by decide), pk_in (li C) 3 hl (by rw [eC, (hLK C hC).1]), ?_⟩)
    refine rt_bz (A (20 * li C + i)) (fun e => ?_) (fun e => ?_) (by rw [eL, rt_bbit _ (by omega), rt_THb hT hl z])
    · refine ⟨pk_in (20 * C + i) 120 (by omega) (ix_20 C i), ?_⟩
      rw [ix_20, nI_clamp (by omega)]
      refine rx_ones (rt_HOy hH hC z) (nm_r (e' := nI (rt_sm (fun v => if A (20 * li C + v) = true then 0 else rt_cn (fun k => decide (F C k = v + 1)) 20) (i + 1))) ?_ (nm_r (nI_1 i) ih))
      rw [nI_add, cn_cg (Q := fun k => decide (F C k = i + 1)) (fun k hk => rt_HOb hH hC z hk)]
      refine congrArg nI ?_
      show _ = rt_sm _ i + (if A (20 * li C + i) = true then 0 else _)
      rw [e, if_neg (by decide)]
    · refine nm_r (nI_1 i) ?_
      have e2 : rt_sm (fun v => if A (20 * li C + v) = true then 0 else rt_cn (fun k => decide (F C k = v + 1)) 20) (i + 1) = rt_sm (fun v => if A (20 * li C + v) = true then 0 else rt_cn (fun k => decide (F C k = v + 1)) 20) i := by
        show rt_sm _ i + (if A (20 * li C + i) = true then 0 else _) = _
        rw [e, if_pos rfl, Nat.add_zero]
      rw [e2] at ih
      exact ih
theorem rx_dang {post : Int32 → Prop} {C : Nat} (hC : C < 6) (hLB : rt_LB ru li) (hLK : rt_LK ru li xl xr) (hB : rt_FB F) (hT : rt_TH A xt) (hH : rt_HO F xh) (h : post (nI (rt_cn (rt_dg li A F C) 20))) : wpX_danglingIn post (xo, xm, xl, xr, xt, xf, xv, xh, xp, xg) (nI C) := by
  rw [← rt_dgC hB hC] at h
  exact ⟨21, rx_dang4 hC hLB hLK hT hH 20 0 rfl h⟩
theorem rx_s36 {post : Int32 → Prop} {J : Int32 → Prop} {x1 : Int32} {C : Nat} (hC : C < 6) (hLB : rt_LB ru li) (hLK : rt_LK ru li xl xr) (hB : rt_FB F) (hT : rt_TH A xt) (hH : rt_HO F xh) (h1 : rt_S1 li A F C → J (nI (C + 1))) (h0 : ¬ rt_S1 li A F C → post 0) : wX_isSound_36 post J x1 (nI C) 1 xo xm xl xr xt xf xv xh xp xg := by
  unfold wX_isSound_36
  refine br_f (by decide) (rx_dang hC hLB hLK hB hT hH ?_)
  have hc := cn_n (rt_dg li A F C) 20
  refine pk_le (rt_cn (rt_dg li A F C) 20) 0 (fun z => nm_r (nI_1 C) (h1 (rt_dgS.mp (by omega)))) (fun z => h0 (fun s => ?_))
  have := rt_dgS.mpr s
  omega
theorem rx_sound2 {post : Int32 → Prop} {z : Bool} (hLB : rt_LB ru li) (hLK : rt_LK ru li xl xr) (hB : rt_FB F) (hT : rt_TH A xt) (hH : rt_HO F xh) (h1 : rt_SD ru li A F z → post 1) (h0 : ¬ rt_SD ru li A F z → post 0) : ∀ (d C : Nat), C + d = 6 → (∀ c, c < C → ru c ≠ 0 → (ru c ≠ 4 ∨ z = true) → rt_S1 li A F c) → wX_isSound_2 post (rt_b z) xo xm xl xr xt xf xv xh xp xg (d + 1) (nI C)
  | 0, C, hd, hs => by
    obtain rfl : C = 6 := by omega
    exact pk_le 6 6 (fun _ => h1 hs) (fun y => absurd y (by omega))
  | d + 1, C, hd, hs => by
    have hC : C < 6 := by omega
    have hu := (hLB C hC).2
    have vC : vp_in (nI C) 6 := vp_in_nI hC (by decide)
    have eC : (nI C).toNatClampNeg = C := nI_clamp (by omega)
    have ih := rx_sound2 hLB hLK hB hT hH h1 h0 d (C + 1) (by omega)
    have step : (ru C ≠ 0 → (ru C ≠ 4 ∨ z = true) → rt_S1 li A F C) → wX_isSound_2 post (rt_b z) xo xm xl xr xt xf xv xh xp xg (d + 1) (nI (C + 1)) := fun g => ih (fun c hc => by
      by_cases e : c = C
      · rw [e]; exact g
      · exact hs c (by omega))
    have asked : ru C ≠ 0 → (ru C ≠ 4 ∨ z = true) → wX_isSound_31 post (wX_isSound_2 post (rt_b z) xo xm xl xr xt xf xv xh xp xg (d + 1)) (rt_b z) (nI C) xo xm xl xr xt xf xv xh xp xg := fun a b => by
      unfold wX_isSound_31
      exact rx_s36 hC hLB hLK hB hT hH (fun s => step (fun _ _ => s)) (fun s => h0 (fun w => s (w C hC a b)))
    have skip : ¬ (ru C ≠ 0 ∧ (ru C ≠ 4 ∨ z = true)) → wX_isSound_35 post (wX_isSound_2 post (rt_b z) xo xm xl xr xt xf xv xh xp xg (d + 1)) (rt_b z) (nI C) xo xm xl xr xt xf xv xh xp xg := fun a => by
      unfold wX_isSound_35 wX_isSound_36
      exact br_t rfl (nm_r (nI_1 C) (step (fun x y => absurd ⟨x, y⟩ a)))
    refine pk_le 6 C (fun y => absurd y (by omega)) (fun _ => ⟨vC, ?_⟩)
    refine re_lt (ru C) 1 (fun y => skip (fun w => w.1 (by omega))) (fun y => ⟨vC, ?_⟩) (by rw [eC, (hLK C hC).2]) rfl
    refine re_eq (ru C) 4 (fun y => ?_) (fun y => asked (by omega) (Or.inl y)) (by rw [eC, (hLK C hC).2]) rfl
    exact rt_bz z (fun w => skip (fun q => q.2.elim (fun u => u y) (fun u => by rw [w] at u; exact absurd u (by decide)))) (fun w => asked (by omega) (Or.inr w))
theorem rx_sound {post : Int32 → Prop} {z : Bool} (hLB : rt_LB ru li) (hLK : rt_LK ru li xl xr) (hB : rt_FB F) (hT : rt_TH A xt) (hH : rt_HO F xh) (h1 : rt_SD ru li A F z → post 1) (h0 : ¬ rt_SD ru li A F z → post 0) : wpX_isSound post (xo, xm, xl, xr, xt, xf, xv, xh, xp, xg) (rt_b z) :=
  ⟨7, rx_sound2 hLB hLK hB hT hH h1 h0 6 0 rfl (fun c hc => absurd hc (by omega))⟩
/-! ===== holders of a set ===== -/
theorem rx_hold5 {post : Int32 → Prop} {C : Nat} {w : Int32} (hC : C < 6) (hH : rt_HO F xh) (h : ∀ x, (∀ k, bt x k = (decide (k < 20 ∧ F C k ≠ 0 ∧ F C k - 1 < 20) && bt w (F C k - 1))) → post x) : ∀ (d i : Nat) (x : Int32), i + d = 20 → (∀ k, bt x k = (decide (k < 20 ∧ F C k ≠ 0 ∧ F C k - 1 < i) && bt w (F C k - 1))) → wX_holdersOf_5 post (nI C) w xo xm xl xr xt xf xv xh xp xg (d + 1) x (nI i)
  | 0, i, x, hi, hx => by
    obtain rfl : i = 20 := by omega
    exact pk_le 20 20 (fun _ => h x hx) (fun z => absurd z (by omega))
  | d + 1, i, x, hi, hx => by
    have ih := rx_hold5 hC hH h d (i + 1)
    refine pk_le 20 i (fun z => absurd z (by omega)) (fun z => ?_)
    refine rt_bo (bt w i) (fun e => ?_) (fun e => ?_) (by rw [rt_bbit _ (by omega)])
    · refine ⟨pk_in (20 * C + i) 120 (by omega) (ix_20 C i), nm_r (e' := x ||| xh (20 * C + i)) (by rw [ix_20, nI_clamp (by omega)]) (nm_r (nI_1 i) (ih _ (by omega) (fun k => ?_)))⟩
      rw [b_or, hx k, hH C hC i z k]
      by_cases a : k < 20 ∧ F C k ≠ 0 ∧ F C k - 1 < i
      · rw [decide_eq_true a, decide_eq_true (by omega : k < 20 ∧ F C k ≠ 0 ∧ F C k - 1 < i + 1), decide_eq_false (by omega : ¬ F C k = i + 1), Bool.and_false, Bool.or_false]
      · rw [decide_eq_false a, Bool.false_and, Bool.false_or]
        by_cases b : k < 20 ∧ F C k = i + 1
        · rw [decide_eq_true b.1, decide_eq_true b.2, decide_eq_true (by omega : k < 20 ∧ F C k ≠ 0 ∧ F C k - 1 < i + 1), b.2, Nat.add_sub_cancel, e]
        · rw [decide_eq_false (by omega : ¬ (k < 20 ∧ F C k ≠ 0 ∧ F C k - 1 < i + 1)), Bool.false_and]
          by_cases c : k < 20
          · rw [decide_eq_false (fun q => b ⟨c, q⟩), Bool.and_false]
          · rw [decide_eq_false c, Bool.false_and]
    · refine nm_r (e' := x) (by apply b_ext; intro k _; rw [b_or, b_0, Bool.or_false]) (nm_r (nI_1 i) (ih _ (by omega) (fun k => ?_)))
      rw [hx k]
      by_cases a : k < 20 ∧ F C k ≠ 0 ∧ F C k - 1 < i
      · rw [decide_eq_true a, decide_eq_true (by omega : k < 20 ∧ F C k ≠ 0 ∧ F C k - 1 < i + 1)]
      · rw [decide_eq_false a, Bool.false_and]
        by_cases b : k < 20 ∧ F C k ≠ 0 ∧ F C k - 1 < i + 1
        · rw [decide_eq_true b, show F C k - 1 = i from by omega, e]; rfl
        · rw [decide_eq_false b, Bool.false_and]
theorem rx_hold {post : Int32 → Prop} {C : Nat} {w : Int32} (hC : C < 6) (hB : rt_FB F) (hH : rt_HO F xh) (h : ∀ x, (∀ k, bt x k = (decide (k < 20 ∧ F C k ≠ 0) && bt w (F C k - 1))) → post x) : wpX_holdersOf post (xo, xm, xl, xr, xt, xf, xv, xh, xp, xg) (nI C) w := by
  refine ⟨21, rx_hold5 hC hH (fun x hx => h x (fun k => ?_)) 20 0 0 rfl (fun k => ?_)⟩
  · rw [hx k]
    by_cases a : k < 20 ∧ F C k ≠ 0
    · have := hB C hC k a.1
      rw [decide_eq_true a, decide_eq_true (by omega)]
    · rw [decide_eq_false a, decide_eq_false (by omega)]
  · rw [b_0, decide_eq_false (by omega), Bool.false_and]
end
end
section
/-! ===== the component: pictures ===== -/
/-- picture s holds these tables -/
def rt_XS (s : Nat) (xp : Nat → Int32) (A : Nat → Bool) (F : Nat → Nat → Nat) (V : Nat → Int32) : Prop := rt_TH A (fun t => xp (183 * s + t)) ∧ rt_RF F (fun j => xp (183 * s + 3 + j)) ∧ rt_VL V (fun r => xp (183 * s + 123 + r))
/-- F2 below i, F1 from i on -/
def rt_mx (F2 F1 : Nat → Nat → Nat) (i : Nat) : Nat → Nat → Nat := fun C k => if 20 * C + k < i then F2 C k else F1 C k
section
variable {xo xm : Int32} {xl xr xt xf xv xh xp xg : Nat → Int32}
variable {A : Nat → Bool} {F : Nat → Nat → Nat} {V : Nat → Int32} {ru li : Nat → Nat}
theorem rt_XSk {s : Nat} (hT : rt_TH A xt) (hR : rt_RF F xf) (hV : rt_VL V xv) : rt_XS s (rt_cp (183 * s) (rt_src xt xf xv) 183 xp) A F V := by
  refine ⟨fun t ht k => ?_, fun C hC k hk => ?_, fun r hr => ?_⟩
  · show bt (rt_cp (183 * s) (rt_src xt xf xv) 183 xp (183 * s + t)) k = _
    rw [cp_i (by omega), sr_t ht]; exact hT t ht k
  · show rt_cp (183 * s) (rt_src xt xf xv) 183 xp (183 * s + 3 + (20 * C + k)) = _
    rw [Nat.add_assoc, cp_i (by omega), sr_f (by omega)]; exact hR C hC k hk
  · show rt_cp (183 * s) (rt_src xt xf xv) 183 xp (183 * s + 123 + r) = _
    rw [Nat.add_assoc, cp_i (by omega), sr_v]; exact hV r hr
theorem rt_XSo {s q : Nat} {f : Nat → Int32} (hq : s ≠ q) (h : rt_XS s xp A F V) : rt_XS s (rt_cp (183 * q) f 183 xp) A F V := by
  refine ⟨fun t ht k => ?_, fun C hC k hk => ?_, fun r hr => ?_⟩
  · show bt (rt_cp (183 * q) f 183 xp (183 * s + t)) k = _
    rw [cp_o (by omega)]; exact h.1 t ht k
  · show rt_cp (183 * q) f 183 xp (183 * s + 3 + (20 * C + k)) = _
    rw [cp_o (by omega)]; exact h.2.1 C hC k hk
  · show rt_cp (183 * q) f 183 xp (183 * s + 123 + r) = _
    rw [cp_o (by omega)]; exact h.2.2 r hr
theorem rx_keep65 {post : SX → Prop} {b : Nat} (hb : b + 183 ≤ 915) (h : post (xo, xm, xl, xr, xt, xf, xv, xh, rt_cp b (rt_src xt xf xv) 183 xp, xg)) : ∀ (d i : Nat), i + d = 60 → wX_keep_65 post (nI b) xo xm (d + 1) (nI i) xl xr xt xf xv xh (rt_cp b (rt_src xt xf xv) (123 + i) xp) xg
  | 0, i, hi => by
    obtain rfl : i = 60 := by omega
    exact pk_le 60 60 (fun _ => h) (fun z => absurd z (by omega))
  | d + 1, i, hi => by
    have ih := rx_keep65 hb h d (i + 1) (by omega)
    refine pk_le 60 i (fun z => absurd z (by omega)) (fun z => ⟨vp_in_nI z (by decide), pk_in (b + 123 + i) 915 (by omega) (ix_k123 b i), nm_r (e' := rt_cp b (rt_src xt xf xv) (123 + (i + 1)) xp) ?_ (nm_r (nI_1 i) ih)⟩)
    rw [ix_k123, nI_clamp (n := b + 123 + i) (by omega), nI_clamp (n := i) (by omega)]
    exact cp_S (n := 123 + i) (by omega) sr_v.symm
theorem rx_keep35 {post : SX → Prop} {b : Nat} (hb : b + 183 ≤ 915) (h : post (xo, xm, xl, xr, xt, xf, xv, xh, rt_cp b (rt_src xt xf xv) 183 xp, xg)) : ∀ (d i : Nat), i + d = 120 → wX_keep_35 post (nI b) xo xm (d + 1) (nI i) xl xr xt xf xv xh (rt_cp b (rt_src xt xf xv) (3 + i) xp) xg
  | 0, i, hi => by
    obtain rfl : i = 120 := by omega
    exact pk_le 120 120 (fun _ => ⟨61, rx_keep65 hb h 60 0 rfl⟩) (fun z => absurd z (by omega))
  | d + 1, i, hi => by
    have ih := rx_keep35 hb h d (i + 1) (by omega)
    refine pk_le 120 i (fun z => absurd z (by omega)) (fun z => ⟨vp_in_nI z (by decide), pk_in (b + 3 + i) 915 (by omega) (ix_k3 b i), nm_r (e' := rt_cp b (rt_src xt xf xv) (3 + (i + 1)) xp) ?_ (nm_r (nI_1 i) ih)⟩)
    rw [ix_k3, nI_clamp (n := b + 3 + i) (by omega), nI_clamp (n := i) (by omega)]
    exact cp_S (n := 3 + i) (by omega) (sr_f z).symm
theorem rx_keep8 {post : SX → Prop} {b : Nat} (hb : b + 183 ≤ 915) (h : post (xo, xm, xl, xr, xt, xf, xv, xh, rt_cp b (rt_src xt xf xv) 183 xp, xg)) : ∀ (d i : Nat), i + d = 3 → wX_keep_8 post (nI b) xo xm (d + 1) (nI i) xl xr xt xf xv xh (rt_cp b (rt_src xt xf xv) i xp) xg
  | 0, i, hi => by
    obtain rfl : i = 3 := by omega
    exact pk_le 3 3 (fun _ => ⟨121, rx_keep35 hb h 120 0 rfl⟩) (fun z => absurd z (by omega))
  | d + 1, i, hi => by
    have ih := rx_keep8 hb h d (i + 1) (by omega)
    refine pk_le 3 i (fun z => absurd z (by omega)) (fun z => ⟨vp_in_nI z (by decide), pk_in (b + i) 915 (by omega) (nI_add b i), nm_r (e' := rt_cp b (rt_src xt xf xv) (i + 1) xp) ?_ (nm_r (nI_1 i) ih)⟩)
    rw [nI_add, nI_clamp (n := b + i) (by omega), nI_clamp (n := i) (by omega)]
    exact cp_S (n := i) rfl (sr_t z).symm
theorem rx_keep {post : SX → Prop} {s : Nat} (hs : s ≤ 4) (h : post (xo, xm, xl, xr, xt, xf, xv, xh, rt_cp (183 * s) (rt_src xt xf xv) 183 xp, xg)) : wpX_keep post (xo, xm, xl, xr, xt, xf, xv, xh, xp, xg) (nI s) := by
  unfold wpX_keep
  refine nm_r (ix_183 s) ⟨4, ?_⟩
  have k := rx_keep8 (by omega : 183 * s + 183 ≤ 915) h 3 0 rfl
  rw [cp_0] at k
  exact k
/-! ===== going back ===== -/
theorem rx_rest72 {post : SX → Prop} {b : Nat} (hb : b + 183 ≤ 915) (h : post (xo, xm, xl, xr, xt, xf, rt_cp 0 (fun r => xp (b + 123 + r)) 60 xv, xh, xp, xg)) : ∀ (d i : Nat), i + d = 60 → wX_restore_72 post (nI b) xo xm (d + 1) (nI i) xl xr xt xf (rt_cp 0 (fun r => xp (b + 123 + r)) i xv) xh xp xg
  | 0, i, hi => by
    obtain rfl : i = 60 := by omega
    exact pk_le 60 60 (fun _ => h) (fun z => absurd z (by omega))
  | d + 1, i, hi => by
    have ih := rx_rest72 hb h d (i + 1) (by omega)
    refine pk_le 60 i (fun z => absurd z (by omega)) (fun z => ⟨pk_in (b + 123 + i) 915 (by omega) (ix_k123 b i), vp_in_nI z (by decide), nm_r (e' := rt_cp 0 (fun r => xp (b + 123 + r)) (i + 1) xv) ?_ (nm_r (nI_1 i) ih)⟩)
    rw [ix_k123, nI_clamp (n := b + 123 + i) (by omega), nI_clamp (n := i) (by omega)]
    exact cp_S (n := i) (by omega) rfl
theorem rx_rest35 {post : SX → Prop} {b : Nat} {F1 F2 : Nat → Nat → Nat} (hb : b + 183 ≤ 915) (h1 : rt_FB F1) (h2 : rt_FB F2) (hP : rt_RF F2 (fun j => xp (b + 3 + j))) (h : ∀ xf' xh', rt_RF F2 xf' → rt_HO F2 xh' → ∃ n72, wX_restore_72 post (nI b) xo xm n72 0 xl xr xt xf' xv xh' xp xg) : ∀ (d i : Nat) (xf xh : Nat → Int32), i + d = 120 → rt_RF (rt_mx F2 F1 i) xf → rt_HO (rt_mx F2 F1 i) xh → wX_restore_35 post (nI b) (d + 1) (nI i) xo xm xl xr xt xf xv xh xp xg
  | 0, i, xf, xh, hi, hR, hH => by
    obtain rfl : i = 120 := by omega
    have e : ∀ C, C < 6 → ∀ k, k < 20 → rt_mx F2 F1 120 C k = F2 C k := fun C hC k hk => if_pos (by omega)
    exact pk_le 120 120 (fun _ => h xf xh (rt_RFc e hR) (rt_HOc e hH)) (fun z => absurd z (by omega))
  | d + 1, i, xf, xh, hi, hR, hH => by
    have ih := rx_rest35 hb h1 h2 hP h d (i + 1)
    refine pk_le 120 i (fun z => absurd z (by omega)) (fun z => ⟨by decide, by decide, pk_in (b + 3 + i) 915 (by omega) (ix_k3 b i), ?_⟩)
    have hv : xp ((nI b + 3) + nI i).toNatClampNeg = rt_e (F2 (i / 20) (i % 20)) := by
      rw [ix_k3, nI_clamp (by omega)]
      have := hP (i / 20) (by omega) (i % 20) (by omega)
      rw [show 20 * (i / 20) + i % 20 = i from by omega] at this
      exact this
    have e : ∀ C, C < 6 → ∀ k, k < 20 → rt_u (rt_mx F2 F1 i) (i / 20) (i % 20) (F2 (i / 20) (i % 20)) C k = rt_mx F2 F1 (i + 1) C k := fun C hC k hk => by
      by_cases a : C = i / 20 ∧ k = i % 20
      · rw [a.1, a.2, ru_s]; exact (if_pos (by omega)).symm
      · rw [ru_n a]
        unfold rt_mx
        by_cases b : 20 * C + k < i
        · rw [if_pos b, if_pos (by omega)]
        · rw [if_neg b, if_neg (by omega)]
    have hm : rt_FB (rt_mx F2 F1 i) := fun C hC k hk => by
      unfold rt_mx
      by_cases b : 20 * C + k < i
      · rw [if_pos b]; exact h2 C hC k hk
      · rw [if_neg b]; exact h1 C hC k hk
    refine rx_setRef (C := i / 20) (k := i % 20) (n := F2 (i / 20) (i % 20)) (ix_d20 (by omega)) (ix_m20 (by omega)) hv (by omega) (by omega) (h2 _ (by omega) _ (by omega)) hm hR hH (fun r xf' xh' r1 r2 => ?_)
    exact nm_r (nI_1 i) (ih xf' xh' (by omega) (rt_RFc e r1) (rt_HOc e r2))
theorem rx_rest8 {post : SX → Prop} {b : Nat} (hb : b + 183 ≤ 915) (h : ∃ n35, wX_restore_35 post (nI b) n35 0 xo xm xl xr (rt_cp 0 (fun t => xp (b + t)) 3 xt) xf xv xh xp xg) : ∀ (d i : Nat), i + d = 3 → wX_restore_8 post (nI b) xo xm (d + 1) (nI i) xl xr (rt_cp 0 (fun t => xp (b + t)) i xt) xf xv xh xp xg
  | 0, i, hi => by
    obtain rfl : i = 3 := by omega
    exact pk_le 3 3 (fun _ => h) (fun z => absurd z (by omega))
  | d + 1, i, hi => by
    have ih := rx_rest8 hb h d (i + 1) (by omega)
    refine pk_le 3 i (fun z => absurd z (by omega)) (fun z => ⟨pk_in (b + i) 915 (by omega) (nI_add b i), vp_in_nI z (by decide), nm_r (e' := rt_cp 0 (fun t => xp (b + t)) (i + 1) xt) ?_ (nm_r (nI_1 i) ih)⟩)
    rw [nI_add, nI_clamp (n := b + i) (by omega), nI_clamp (n := i) (by omega)]
    exact cp_S (n := i) (by omega) rfl
theorem rx_restore {post : SX → Prop} {s : Nat} {A2 : Nat → Bool} {F2 : Nat → Nat → Nat} {V2 : Nat → Int32} (hs : s ≤ 4) (hB : rt_FB F) (hR : rt_RF F xf) (hH : rt_HO F xh) (hB2 : rt_FB F2) (hX : rt_XS s xp A2 F2 V2) (h : ∀ xt' xf' xv' xh', rt_TH A2 xt' → rt_RF F2 xf' → rt_VL V2 xv' → rt_HO F2 xh' → post (xo, xm, xl, xr, xt', xf', xv', xh', xp, xg)) : wpX_restore post (xo, xm, xl, xr, xt, xf, xv, xh, xp, xg) (nI s) := by
  unfold wpX_restore
  refine nm_r (ix_183 s) ⟨4, ?_⟩
  have c0 : ∀ (f p : Nat → Int32) (n j : Nat), j < n → rt_cp 0 f n p j = f j := fun f p n j hj => by
    have := cp_i (b := 0) (s := f) (p := p) hj
    rw [Nat.zero_add] at this
    exact this
  have hT : rt_TH A2 (rt_cp 0 (fun t => xp (183 * s + t)) 3 xt) := fun t ht k => by
    rw [c0 _ _ _ _ ht]; exact hX.1 t ht k
  have hV : rt_VL V2 (rt_cp 0 (fun r => xp (183 * s + 123 + r)) 60 xv) := fun r hr => by
    rw [c0 _ _ _ _ hr]; exact hX.2.2 r hr
  have k : wX_restore_8 post (nI (183 * s)) xo xm 4 (nI 0) xl xr (rt_cp 0 (fun t => xp (183 * s + t)) 0 xt) xf xv xh xp xg := by
    refine rx_rest8 (by omega) ⟨121, ?_⟩ 3 0 rfl
    refine rx_rest35 (F1 := F) (F2 := F2) (by omega) hB hB2 hX.2.1 (fun xf' xh' r1 r2 => ⟨61, ?_⟩) 120 0 xf xh rfl (rt_RFc (fun C hC k hk => (if_neg (by omega)).symm) hR) (rt_HOc (fun C hC k hk => (if_neg (by omega)).symm) hH)
    have k2 := rx_rest72 (xo := xo) (xm := xm) (xl := xl) (xr := xr) (xt := rt_cp 0 (fun t => xp (183 * s + t)) 3 xt) (xf := xf') (xv := xv) (xh := xh') (xp := xp) (xg := xg) (post := post) (by omega : 183 * s + 183 ≤ 915) (h _ _ _ _ hT r1 hV r2) 60 0 rfl
    rw [cp_0] at k2
    exact k2
  rw [cp_0] at k
  exact k
theorem rx_settle {post : Int32 → SX → Prop} {ans : Int32} {o : Bool} {A2 : Nat → Bool} {F2 : Nat → Nat → Nat} {V2 : Nat → Int32} (eo : xo = rt_b o) (hLB : rt_LB ru li) (hLK : rt_LK ru li xl xr) (hB : rt_FB F) (hT : rt_TH A xt) (hR : rt_RF F xf) (hH : rt_HO F xh) (hB2 : rt_FB F2) (hX : rt_XS 4 xp A2 F2 V2) (h1 : rt_SD ru li A F (!o) → post ans (xo, xm, xl, xr, xt, xf, xv, xh, xp, xg)) (h0 : ¬ rt_SD ru li A F (!o) → ∀ xt' xf' xv' xh', rt_TH A2 xt' → rt_RF F2 xf' → rt_VL V2 xv' → rt_HO F2 xh' → post (-9) (xo, xm, xl, xr, xt', xf', xv', xh', xp, xg)) : wpX_settle post (xo, xm, xl, xr, xt, xf, xv, xh, xp, xg) ans := by
  have key : wX_settle_13 post ans (rt_b (!o)) xo xm xl xr xt xf xv xh xp xg := by
    unfold wX_settle_13
    refine rx_sound hLB hLK hB hT hH (fun s => br_f (by decide) (h1 s)) (fun s => br_t rfl ?_)
    exact rx_restore (s := 4) (by omega) hB hR hH hB2 hX (h0 s)
  unfold wpX_settle
  refine rt_bz o (fun e => ?_) (fun e => ?_) eo
  · rw [e] at key; exact key
  · rw [e] at key; exact key
end
end
section
/-! ===== the component: what goes along ===== -/
section
variable {xo xm : Int32} {xl xr xt xf xv xh xp xg : Nat → Int32}
variable {A : Nat → Bool} {F : Nat → Nat → Nat} {V : Nat → Int32} {ru li : Nat → Nat}
variable {G : Nat → Bool}
theorem rt_fr {x : Int32} {C : Nat} (hC : C < 6) (hl : li C < 3) (hB : rt_FB F) (hG : rt_TH G xg) (hx : ∀ k, bt x k = (decide (k < 20 ∧ F C k ≠ 0) && bt (xg (li C)) (F C k - 1))) : (x &&& (xg (C / 2) ^^^ (-1))) = 0 ↔ ∀ k, k < 20 → F C k ≠ 0 → G (20 * li C + (F C k - 1)) = true → G (20 * (C / 2) + k) = true := by
  rw [rt_w0]
  constructor
  · intro h k hk f g
    have hb := hB C hC k hk
    have := h k (by omega)
    rw [rt_not, hx k, decide_eq_true ⟨hk, f⟩, Bool.true_and, rt_THb hG hl (by omega), g, Bool.true_and, rt_THb hG (by omega) hk] at this
    cases e : G (20 * (C / 2) + k)
    · rw [e] at this; exact absurd this (by decide)
    · rfl
  · intro h i hi
    rw [rt_not, hx i]
    by_cases a : i < 20 ∧ F C i ≠ 0
    · have hb := hB C hC i a.1
      rw [decide_eq_true a, Bool.true_and, rt_THb hG hl (by omega), rt_THb hG (by omega) a.1]
      cases e : G (20 * li C + (F C i - 1))
      · rfl
      · rw [h i a.1 a.2 e]; rfl
    · rw [decide_eq_false a, Bool.false_and, Bool.false_and]
theorem rt_frG {x : Int32} {C : Nat} (hC : C < 6) (hl : li C < 3) (hB : rt_FB F) (hG : rt_TH G xg) (hx : ∀ k, bt x k = (decide (k < 20 ∧ F C k ≠ 0) && bt (xg (li C)) (F C k - 1))) : rt_TH (rt_gw li F G C) (upd xg (C / 2) (xg (C / 2) ||| (x &&& (xg (C / 2) ^^^ (-1))))) := fun t ht k => by
  by_cases e : t = C / 2
  · rw [e, pk_us, b_or, rt_not, hx k, hG (C / 2) (by omega) k]
    by_cases hk : k < 20
    · have e1 : (20 * (C / 2) + k) % 20 = k := by omega
      unfold rt_gw
      rw [e1, decide_eq_true hk, Bool.true_and, Bool.true_and]
      by_cases f : F C k = 0
      · rw [decide_eq_false (by omega : ¬ (k < 20 ∧ F C k ≠ 0)), decide_eq_false (fun z => z.2.2 f), Bool.false_and, Bool.false_and, Bool.false_and]
      · have hb := hB C hC k hk
        rw [decide_eq_true ⟨hk, f⟩, decide_eq_true ⟨by omega, by omega, f⟩, rt_THb hG hl (by omega)]
        cases G (20 * (C / 2) + k) <;> cases G (20 * li C + (F C k - 1)) <;> rfl
    · rw [decide_eq_false hk, decide_eq_false (fun z => hk z.1), Bool.false_and, Bool.false_and, Bool.false_and, Bool.false_and]; rfl
  · rw [pk_un e, hG t ht k]
    by_cases hk : k < 20
    · unfold rt_gw
      rw [decide_eq_false (fun z => e (by omega) : ¬ (20 * t + k < 60 ∧ (20 * t + k) / 20 = C / 2 ∧ F C ((20 * t + k) % 20) ≠ 0)), Bool.false_and, Bool.or_false]
    · rw [decide_eq_false hk, Bool.false_and, Bool.false_and]
theorem rx_sp146 {post : Int32 → SX → Prop} (hLB : rt_LB ru li) (hLK : rt_LK ru li xl xr) (hB : rt_FB F) (hH : rt_HO F xh) (hG : rt_TH G xg) (h1 : ¬ rt_RE ru li F G → post 1 (xo, xm, xl, xr, xt, xf, xv, xh, xp, xg)) (h0 : rt_RE ru li F G → post 0 (xo, xm, xl, xr, xt, xf, xv, xh, xp, xg)) : ∀ (d C : Nat), C + d = 6 → (∀ c, c < C → ∀ k, k < 20 → ¬ (ru c = 1 ∧ F c k ≠ 0 ∧ G (20 * li c + (F c k - 1)) = true ∧ G (20 * (c / 2) + k) = false)) → wX_spread_146 post xo xm xl xr xt xf xv xh xp xg (d + 1) (nI C)
  | 0, C, hd, hs => by
    obtain rfl : C = 6 := by omega
    exact pk_le 6 6 (fun _ => h1 (fun ⟨c, k, hc, hk, w⟩ => hs c hc k hk w)) (fun y => absurd y (by omega))
  | d + 1, C, hd, hs => by
    have hC : C < 6 := by omega
    have hl := (hLB C hC).1
    have vC : vp_in (nI C) 6 := vp_in_nI hC (by decide)
    have eC : (nI C).toNatClampNeg = C := nI_clamp (by omega)
    have eD : (nI C / 2).toNatClampNeg = C / 2 := by rw [ix_d2 (by omega), nI_clamp (by omega)]
    have eL : (xl (nI C).toNatClampNeg).toNatClampNeg = li C := by rw [eC, (hLK C hC).1, nI_clamp (by omega)]
    have ih := rx_sp146 hLB hLK hB hH hG h1 h0 d (C + 1) (by omega)
    have step : (∀ k, k < 20 → ¬ (ru C = 1 ∧ F C k ≠ 0 ∧ G (20 * li C + (F C k - 1)) = true ∧ G (20 * (C / 2) + k) = false)) → wX_spread_146 post xo xm xl xr xt xf xv xh xp xg (d + 1) (nI (C + 1)) := fun g => ih (fun c hc => by
      by_cases e : c = C
      · rw [e]; exact g
      · exact hs c (by omega))
    have hu := (hLB C hC).2
    refine pk_le 6 C (fun y => absurd y (by omega)) (fun _ => ⟨vC, ?_⟩)
    refine re_eq (ru C) 1 (fun y => ⟨vC, pk_in (li C) 3 hl (by rw [eC, (hLK C hC).1]), ?_⟩) (fun y => nm_r (nI_1 C) (step (fun k hk w => y w.1))) (by rw [eC, (hLK C hC).2]) rfl
    rw [eL]
    refine rx_hold hC hB hH (fun x hx => ⟨by decide, pk_in (C / 2) 3 (by omega) (ix_d2 (by omega)), nm_r (e' := x &&& (xg (C / 2) ^^^ (-1))) (by rw [eD]) ?_⟩)
    refine ek_if (rt_fr hC hl hB hG hx) (fun w => nm_r (nI_1 C) (step (fun k hk q => ?_))) (fun w => h0 ?_)
    · have := w k hk q.2.1 q.2.2.1
      rw [q.2.2.2] at this
      exact absurd this (by decide)
    · apply Classical.byContradiction
      intro n
      refine w (fun k hk f g => ?_)
      cases e : G (20 * (C / 2) + k)
      · exact absurd ⟨C, k, hC, hk, y, f, g, e⟩ n
      · rfl
theorem rx_sp52 {post : Int32 → SX → Prop} {J : Int32 → Int32 → (Nat → Int32) → (Nat → Int32) → (Nat → Int32) → (Nat → Int32) → (Nat → Int32) → (Nat → Int32) → (Nat → Int32) → (Nat → Int32) → Prop} {G0 : Nat → Bool} {r0 i : Nat} (hLB : rt_LB ru li) (hLK : rt_LK ru li xl xr) (hB : rt_FB F) (hH : rt_HO F xh) (hJ : ∀ m G xg', rt_TH G xg' → rt_SU ru li F r0 G → rt_P (fun C => ∀ k, k < 20 → rt_c1 ru li F G0 C k) G0 6 m G → J (rt_b m) (nI (i + 1)) xl xr xt xf xv xh xp xg') : ∀ (d C : Nat) (m : Bool) (G : Nat → Bool) (xg : Nat → Int32), C + d = 6 → rt_TH G xg → rt_SU ru li F r0 G → rt_P (fun C => ∀ k, k < 20 → rt_c1 ru li F G0 C k) G0 C m G → wX_spread_52 post J (nI i) xo xm (d + 1) (rt_b m) (nI C) xl xr xt xf xv xh xp xg
  | 0, C, m, G, xg, hd, hG, hS, hP => by
    obtain rfl : C = 6 := by omega
    exact pk_le 6 6 (fun _ => nm_r (nI_1 i) (hJ m G xg hG hS hP)) (fun y => absurd y (by omega))
  | d + 1, C, m, G, xg, hd, hG, hS, hP => by
    have hC : C < 6 := by omega
    have hl := (hLB C hC).1
    have hu := (hLB C hC).2
    have vC : vp_in (nI C) 6 := vp_in_nI hC (by decide)
    have vD : vp_in (nI C / 2) 3 := pk_in (C / 2) 3 (by omega) (ix_d2 (by omega))
    have eC : (nI C).toNatClampNeg = C := nI_clamp (by omega)
    have eD : (nI C / 2).toNatClampNeg = C / 2 := by rw [ix_d2 (by omega), nI_clamp (by omega)]
    have eL : (xl (nI C).toNatClampNeg).toNatClampNeg = li C := by rw [eC, (hLK C hC).1, nI_clamp (by omega)]
    have ih := rx_sp52 (post := post) hLB hLK hB hH hJ d (C + 1)
    refine pk_le 6 C (fun y => absurd y (by omega)) (fun _ => ⟨vC, ?_⟩)
    refine re_eq (ru C) 2 (fun y => ⟨vC, pk_in (li C) 3 hl (by rw [eC, (hLK C hC).1]), ?_⟩) (fun y => nm_r (nI_1 C) (ih m G xg (by omega) hG hS ?_)) (by rw [eC, (hLK C hC).2]) rfl
    · rw [eL]
      refine rx_hold hC hB hH (fun x hx => ⟨by decide, vD, nm_r (e' := x &&& (xg (C / 2) ^^^ (-1))) (by rw [eD]) ⟨by decide, vD, vD, nm_r (e' := upd xg (C / 2) (xg (C / 2) ||| (x &&& (xg (C / 2) ^^^ (-1))))) (by rw [eD]) ?_⟩⟩)
      have hG' := rt_frG hC hl hB hG hx
      have hS' := gw_SU (li := li) hC y hS
      refine rt_bz m (fun e => ?_) (fun e => ?_)
      · rcases hP with ⟨_, pG, pc⟩ | ⟨pm, _⟩
        · refine ek_if (rt_fr hC hl hB hG hx) (fun w => nm_r (nI_1 C) (ih false _ _ (by omega) hG' hS' (Or.inl ⟨rfl, ?_, ?_⟩))) (fun w => nm_r (nI_1 C) (ih true _ _ (by omega) hG' hS' (Or.inr ⟨rfl, ?_⟩)))
          · rw [gw_eq w, pG]
          · intro j hj
            by_cases ej : j = C
            · rw [ej, ← pG]
              exact fun k hk _ f g => w k hk f g
            · exact pc j (by omega)
          · apply Classical.byContradiction
            intro n
            refine w (fun k hk f g => ?_)
            cases ee : G (20 * (C / 2) + k)
            · have := gw_lt (li := li) hC hk f g ee
              rw [pG] at this
              rw [pG] at n
              exact absurd this n
            · rfl
        · rw [e] at pm; exact absurd pm (by decide)
      · rcases hP with ⟨pm, _⟩ | ⟨_, pc⟩
        · rw [e] at pm; exact absurd pm (by decide)
        · exact nm_r (nI_1 C) (ih true _ _ (by omega) hG' hS' (Or.inr ⟨rfl, Nat.lt_of_lt_of_le pc gw_le⟩))
    · rcases hP with ⟨pm, pG, pc⟩ | hp
      · refine Or.inl ⟨pm, pG, fun j hj => ?_⟩
        by_cases ej : j = C
        · rw [ej]; exact fun k hk q => absurd q y
        · exact pc j (by omega)
      · exact Or.inr hp
theorem rx_sp36 {post : Int32 → SX → Prop} {r0 : Nat} (hLB : rt_LB ru li) (hLK : rt_LK ru li xl xr) (hB : rt_FB F) (hH : rt_HO F xh) (h : ∀ xg' G, rt_TH G xg' → rt_IC ru li F r0 G → ∃ n146, wX_spread_146 post xo xm xl xr xt xf xv xh xp xg' n146 0) : ∀ (d i : Nat) (m : Bool) (G : Nat → Bool) (xg : Nat → Int32), i + d = 64 → rt_TH G xg → rt_SU ru li F r0 G → (m = false → ∀ C, C < 6 → ∀ k, k < 20 → rt_c1 ru li F G C k) → (m = true → i < rt_cn G 60) → wX_spread_36 post xo xm (d + 1) (rt_b m) (nI i) xl xr xt xf xv xh xp xg
  | 0, i, m, G, xg, hd, hG, hS, hc, hm => by
    obtain rfl : i = 64 := by omega
    refine pk_le 64 64 (fun _ => h xg G hG ⟨hS, hc ?_⟩) (fun y => absurd y (by omega))
    cases e : m
    · rfl
    · have a := hm e
      have b := cn_n G 60
      omega
  | d + 1, i, m, G, xg, hd, hG, hS, hc, hm => by
    have ih := rx_sp36 hLB hLK hB hH h d (i + 1)
    refine pk_le 64 i (fun y => absurd y (by omega)) (fun _ => ?_)
    refine rt_bz m (fun e => h xg G hG ⟨hS, hc e⟩) (fun e => ⟨7, ?_⟩)
    refine rx_sp52 (r0 := r0) (G0 := G) hLB hLK hB hH (fun m' G' xg' t s p => ?_) 6 0 false G xg rfl hG hS (Or.inl ⟨rfl, rfl, fun j hj => absurd hj (by omega)⟩)
    refine ih m' G' xg' (by omega) t s (fun e' => ?_) (fun e' => ?_)
    · rcases p with ⟨_, pG, pc⟩ | ⟨pm, _⟩
      · rw [pG]; exact pc
      · rw [e'] at pm; exact absurd pm (by decide)
    · rcases p with ⟨pm, _⟩ | ⟨_, pc⟩
      · rw [e'] at pm; exact absurd pm (by decide)
      · have := hm e
        omega
theorem rx_sp2 {post : Int32 → SX → Prop} {tb ky : Nat} (hk : ky < 20) (h : ∀ xg', rt_TH (fun r => decide (r = 20 * tb + ky)) xg' → ∃ n36, wX_spread_36 post xo xm n36 1 0 xl xr xt xf xv xh xp xg') : ∀ (d i : Nat) (xg : Nat → Int32), i + d = 3 → (∀ t, t < i → ∀ k, bt (xg t) k = decide (t = tb ∧ k = ky)) → tb < 3 → wX_spread_2 post (nI tb) (nI ky) xo xm (d + 1) (nI i) xl xr xt xf xv xh xp xg
  | 0, i, xg, hi, hg, ht => by
    obtain rfl : i = 3 := by omega
    refine pk_le 3 3 (fun _ => h xg (fun t ht k => ?_)) (fun y => absurd y (by omega))
    rw [hg t ht k]
    by_cases a : k < 20
    · rw [decide_eq_true a, Bool.true_and]
      exact decide_eq_decide.mpr (by omega)
    · rw [decide_eq_false a, decide_eq_false (by omega), Bool.false_and]
  | d + 1, i, xg, hi, hg, ht => by
    have ih := rx_sp2 hk h d (i + 1)
    have vi : vp_in (nI i) 3 := vp_in_nI (by omega) (by decide)
    have ei : (nI i).toNatClampNeg = i := nI_clamp (by omega)
    refine pk_le 3 i (fun y => absurd y (by omega)) (fun _ => ?_)
    refine pk_eq i tb (fun e => ⟨vi, nm_r (e' := upd xg i ((1 : Int32) <<< (nI ky &&& 31))) (by rw [ei]) (nm_r (nI_1 i) (ih _ (by omega) (fun t h3 k => ?_) ht))⟩) (fun e => ⟨vi, nm_r (e' := upd xg i 0) (by rw [ei]) (nm_r (nI_1 i) (ih _ (by omega) (fun t h3 k => ?_) ht))⟩)
    · by_cases a : t = i
      · rw [a, pk_us, rt_shl (by omega)]
        exact decide_eq_decide.mpr (by omega)
      · rw [pk_un a]; exact hg t (by omega) k
    · by_cases a : t = i
      · rw [a, pk_us, b_0, decide_eq_false (by omega)]
      · rw [pk_un a]; exact hg t (by omega) k
theorem rx_spread {post : Int32 → SX → Prop} {tb ky : Nat} (ht : tb < 3) (hk : ky < 20) (hLB : rt_LB ru li) (hLK : rt_LK ru li xl xr) (hB : rt_FB F) (hH : rt_HO F xh) (h : ∀ xg' G, rt_TH G xg' → rt_IC ru li F (20 * tb + ky) G → (¬ rt_RE ru li F G → post 1 (xo, xm, xl, xr, xt, xf, xv, xh, xp, xg')) ∧ (rt_RE ru li F G → post 0 (xo, xm, xl, xr, xt, xf, xv, xh, xp, xg'))) : wpX_spread post (xo, xm, xl, xr, xt, xf, xv, xh, xp, xg) (nI tb) (nI ky) := by
  unfold wpX_spread
  refine ⟨4, rx_sp2 hk (fun xg1 hg1 => ⟨65, ?_⟩) 3 0 xg rfl (fun t h3 => absurd h3 (by omega)) ht⟩
  refine rx_sp36 (r0 := 20 * tb + ky) hLB hLK hB hH (fun xg2 G hG hI => ⟨7, ?_⟩) 64 0 true (fun r => decide (r = 20 * tb + ky)) xg1 rfl hg1 ⟨?_, fun r hr => ?_, fun r hr => ?_⟩ (fun e => absurd e (by decide)) (fun _ => ?_)
  · exact rx_sp146 hLB hLK hB hH hG (h xg2 G hG hI).1 (h xg2 G hG hI).2 6 0 rfl (fun c hc => absurd hc (by omega))
  · exact decide_eq_true rfl
  · have e : r = 20 * tb + ky := of_decide_eq_true hr
    rw [e]
    exact fun S s0 _ => s0
  · exact decide_eq_false (by omega)
  · exact cn_pos (a := 20 * tb + ky) (by omega) (decide_eq_true rfl)
end
end
section
/-! ===== the component: references of a set of rows ===== -/
/-- those of column C below i whose bit stands get x -/
def rt_wh (F : Nat → Nat → Nat) (C : Nat) (w : Int32) (x i : Nat) : Nat → Nat → Nat := fun c j => if c = C ∧ j < i ∧ bt w j = true then x else F c j
/-- LETS_GO: columns below C -/
def rt_rm (ru li : Nat → Nat) (F : Nat → Nat → Nat) (G : Nat → Bool) (C : Nat) : Nat → Nat → Nat := fun c j => if c < C ∧ ru c = 3 ∧ F c j ≠ 0 ∧ G (20 * li c + (F c j - 1)) = true ∧ G (20 * (c / 2) + j) = false then 0 else F c j
/-- rows below i that go are gone -/
def rt_dA (A G : Nat → Bool) (i : Nat) : Nat → Bool := fun r => A r && !(decide (r < i) && G r)
def rt_dF (F : Nat → Nat → Nat) (G : Nat → Bool) (i : Nat) : Nat → Nat → Nat := fun c j => if 20 * (c / 2) + j < i ∧ G (20 * (c / 2) + j) = true then 0 else F c j
def rt_dV (V : Nat → Int32) (G : Nat → Bool) (i : Nat) : Nat → Int32 := fun r => if r < i ∧ G r = true then 0 else V r
section
variable {xo xm : Int32} {xl xr xt xf xv xh xp xg : Nat → Int32}
variable {A : Nat → Bool} {F : Nat → Nat → Nat} {V : Nat → Int32} {ru li : Nat → Nat}
variable {G : Nat → Bool}
theorem wh_0 {C x : Nat} {w : Int32} : rt_wh F C w x 0 = F := by
  funext c j
  exact if_neg (by omega)
theorem wh_t {C x i : Nat} {w : Int32} (e : bt w i = true) : rt_u (rt_wh F C w x i) C i x = rt_wh F C w x (i + 1) := by
  funext c j
  by_cases a : c = C ∧ j = i
  · rw [a.1, a.2, ru_s]; exact (if_pos ⟨rfl, by omega, e⟩).symm
  · rw [ru_n a]
    unfold rt_wh
    by_cases b : c = C ∧ j < i ∧ bt w j = true
    · rw [if_pos b, if_pos ⟨b.1, by omega, b.2.2⟩]
    · rw [if_neg b, if_neg (fun z => b ⟨z.1, by omega, z.2.2⟩)]
theorem wh_f {C x i : Nat} {w : Int32} (e : bt w i = false) : rt_wh F C w x i = rt_wh F C w x (i + 1) := by
  funext c j
  unfold rt_wh
  by_cases b : c = C ∧ j < i ∧ bt w j = true
  · rw [if_pos b, if_pos ⟨b.1, by omega, b.2.2⟩]
  · rw [if_neg b, if_neg (fun z => ?_)]
    by_cases q : j = i
    · rw [q, e] at z; exact absurd z.2.2 (by decide)
    · exact b ⟨z.1, by omega, z.2.2⟩
theorem wh_B {C x i : Nat} {w : Int32} (hx : x ≤ 20) (hB : rt_FB F) : rt_FB (rt_wh F C w x i) := fun c hc j hj => by
  unfold rt_wh
  by_cases b : c = C ∧ j < i ∧ bt w j = true
  · rw [if_pos b]; exact hx
  · rw [if_neg b]; exact hB c hc j hj
theorem rx_clr15 {post : Int32 → SX → Prop} {C : Nat} {w : Int32} (hC : C < 6) (hw : ∀ i, 20 ≤ i → bt w i = false) (hB : rt_FB F) (h : ∀ xf' xh', rt_RF (rt_wh F C w 0 20) xf' → rt_HO (rt_wh F C w 0 20) xh' → post (nI (rt_cn (bt w) 20)) (xo, xm, xl, xr, xt, xf', xv, xh', xp, xg)) : ∀ (d i : Nat) (xf xh : Nat → Int32), i + d = 20 → rt_RF (rt_wh F C w 0 i) xf → rt_HO (rt_wh F C w 0 i) xh → wX_clearRefs_15 post (nI C) w (d + 1) (nI i) xo xm xl xr xt xf xv xh xp xg
  | 0, i, xf, xh, hi, hR, hH => by
    obtain rfl : i = 20 := by omega
    exact pk_le 20 20 (fun _ => rx_ones hw (h xf xh hR hH)) (fun z => absurd z (by omega))
  | d + 1, i, xf, xh, hi, hR, hH => by
    have ih := rx_clr15 hC hw hB h d (i + 1)
    refine pk_le 20 i (fun z => absurd z (by omega)) (fun z => ?_)
    refine rt_bo (bt w i) (fun e => ?_) (fun e => ?_) (by rw [rt_bbit _ (by omega)])
    · refine rx_setRef (C := C) (k := i) (n := 0) rfl rfl rfl hC z (by omega) (wh_B (by omega) hB) hR hH (fun r xf' xh' r1 r2 => ?_)
      rw [wh_t e] at r1 r2
      exact nm_r (nI_1 i) (ih xf' xh' (by omega) r1 r2)
    · rw [wh_f e] at hR hH
      exact nm_r (nI_1 i) (ih xf xh (by omega) hR hH)
theorem rx_turn16 {post : Int32 → SX → Prop} {C n : Nat} {w : Int32} (hC : C < 6) (hn : n ≤ 20) (hw : ∀ i, 20 ≤ i → bt w i = false) (hB : rt_FB F) (h : ∀ xf' xh', rt_RF (rt_wh F C w n 20) xf' → rt_HO (rt_wh F C w n 20) xh' → post (nI (rt_cn (bt w) 20)) (xo, xm, xl, xr, xt, xf', xv, xh', xp, xg)) : ∀ (d i : Nat) (xf xh : Nat → Int32), i + d = 20 → rt_RF (rt_wh F C w n i) xf → rt_HO (rt_wh F C w n i) xh → wX_turnRefs_16 post (nI C) (rt_e n) w (d + 1) (nI i) xo xm xl xr xt xf xv xh xp xg
  | 0, i, xf, xh, hi, hR, hH => by
    obtain rfl : i = 20 := by omega
    exact pk_le 20 20 (fun _ => rx_ones hw (h xf xh hR hH)) (fun z => absurd z (by omega))
  | d + 1, i, xf, xh, hi, hR, hH => by
    have ih := rx_turn16 hC hn hw hB h d (i + 1)
    refine pk_le 20 i (fun z => absurd z (by omega)) (fun z => ?_)
    refine rt_bo (bt w i) (fun e => ?_) (fun e => ?_) (by rw [rt_bbit _ (by omega)])
    · refine rx_setRef (C := C) (k := i) (n := n) rfl rfl rfl hC z hn (wh_B hn hB) hR hH (fun r xf' xh' r1 r2 => ?_)
      rw [wh_t e] at r1 r2
      exact nm_r (nI_1 i) (ih xf' xh' (by omega) r1 r2)
    · rw [wh_f e] at hR hH
      exact nm_r (nI_1 i) (ih xf xh (by omega) hR hH)
theorem rx_clear {post : Int32 → SX → Prop} {C : Nat} {w x : Int32} (hC : C < 6) (hB : rt_FB F) (hR : rt_RF F xf) (hH : rt_HO F xh) (h : ∀ r xf' xh', rt_RF (fun c j => if c = C ∧ F C j ≠ 0 ∧ bt w (F C j - 1) = true ∧ bt x j = false then 0 else F c j) xf' → rt_HO (fun c j => if c = C ∧ F C j ≠ 0 ∧ bt w (F C j - 1) = true ∧ bt x j = false then 0 else F c j) xh' → post r (xo, xm, xl, xr, xt, xf', xv, xh', xp, xg)) : wpX_clearRefs post (xo, xm, xl, xr, xt, xf, xv, xh, xp, xg) (nI C) w x := by
  unfold wpX_clearRefs
  refine rx_hold hC hB hH (fun y hy => nm_e ⟨21, ?_⟩)
  have hb : ∀ k, bt (y &&& (x ^^^ (-1))) k = (decide (k < 20 ∧ F C k ≠ 0) && bt w (F C k - 1) && !bt x k) := fun k => by rw [rt_not, hy k]
  have e : ∀ c, c < 6 → ∀ j, j < 20 → rt_wh F C (y &&& (x ^^^ (-1))) 0 20 c j = (fun c j => if c = C ∧ F C j ≠ 0 ∧ bt w (F C j - 1) = true ∧ bt x j = false then 0 else F c j) c j := fun c _ j hj => by
    show (if c = C ∧ j < 20 ∧ bt (y &&& (x ^^^ (-1))) j = true then 0 else F c j) = if c = C ∧ F C j ≠ 0 ∧ bt w (F C j - 1) = true ∧ bt x j = false then 0 else F c j
    rw [hb j]
    by_cases f : F C j = 0
    · rw [decide_eq_false (fun z => z.2 f), if_neg (fun z => absurd z.2.2 (by simp)), if_neg (fun z => z.2.1 f)]
    · rw [decide_eq_true ⟨hj, f⟩]
      cases a : bt w (F C j - 1) <;> cases b : bt x j <;> simp [hj, f]
  refine rx_clr15 hC (fun i hi => ?_) hB (fun xf' xh' r1 r2 => h _ xf' xh' (rt_RFc e r1) (rt_HOc e r2)) 20 0 xf xh rfl (by rw [wh_0]; exact hR) (by rw [wh_0]; exact hH)
  rw [hb i, decide_eq_false (by omega), Bool.false_and, Bool.false_and]
theorem rx_turn {post : Int32 → SX → Prop} {C v n : Nat} (hC : C < 6) (hv : v < 20) (hn : n ≤ 20) (hB : rt_FB F) (hR : rt_RF F xf) (hH : rt_HO F xh) (h : ∀ xf' xh', rt_RF (fun c j => if c = C ∧ F C j = v + 1 then n else F c j) xf' → rt_HO (fun c j => if c = C ∧ F C j = v + 1 then n else F c j) xh' → post (nI (rt_cn (fun k => decide (F C k = v + 1)) 20)) (xo, xm, xl, xr, xt, xf', xv, xh', xp, xg)) : wpX_turnRefs post (xo, xm, xl, xr, xt, xf, xv, xh, xp, xg) (nI C) (nI v) (rt_e n) := by
  unfold wpX_turnRefs
  refine ⟨pk_in (20 * C + v) 120 (by omega) (ix_20 C v), nm_r (e' := xh (20 * C + v)) (by rw [ix_20, nI_clamp (by omega)]) ⟨21, ?_⟩⟩
  have e : ∀ c, c < 6 → ∀ j, j < 20 → rt_wh F C (xh (20 * C + v)) n 20 c j = (fun c j => if c = C ∧ F C j = v + 1 then n else F c j) c j := fun c _ j hj => by
    show (if c = C ∧ j < 20 ∧ bt (xh (20 * C + v)) j = true then n else F c j) = if c = C ∧ F C j = v + 1 then n else F c j
    rw [rt_HOb hH hC hv hj]
    by_cases f : F C j = v + 1 <;> simp [f, hj]
  refine rx_turn16 hC hn (rt_HOy hH hC hv) hB (fun xf' xh' r1 r2 => ?_) 20 0 xf xh rfl (by rw [wh_0]; exact hR) (by rw [wh_0]; exact hH)
  rw [cn_cg (Q := fun k => decide (F C k = v + 1)) (fun k hk => rt_HOb hH hC hv hk)]
  exact h xf' xh' (rt_RFc e r1) (rt_HOc e r2)
/-! ===== remove ===== -/
theorem rm_B {C : Nat} (hB : rt_FB F) : rt_FB (rt_rm ru li F G C) := fun c hc j hj => by
  unfold rt_rm
  by_cases b : c < C ∧ ru c = 3 ∧ F c j ≠ 0 ∧ G (20 * li c + (F c j - 1)) = true ∧ G (20 * (c / 2) + j) = false
  · rw [if_pos b]; omega
  · rw [if_neg b]; exact hB c hc j hj
theorem rm_0 : rt_rm ru li F G 0 = F := by
  funext c j
  exact if_neg (by omega)
theorem rm_n {C : Nat} (h : ru C ≠ 3) : rt_rm ru li F G C = rt_rm ru li F G (C + 1) := by
  funext c j
  unfold rt_rm
  by_cases b : c < C ∧ ru c = 3 ∧ F c j ≠ 0 ∧ G (20 * li c + (F c j - 1)) = true ∧ G (20 * (c / 2) + j) = false
  · rw [if_pos b, if_pos ⟨by omega, b.2⟩]
  · rw [if_neg b, if_neg (fun z => ?_)]
    by_cases q : c = C
    · rw [q] at z; exact h z.2.1
    · exact b ⟨by omega, z.2⟩
theorem rm_c (C j : Nat) : rt_rm ru li F G C C j = F C j := if_neg (by omega)
theorem rx_rem43 {post : Int32 → SX → Prop} (hLB : rt_LB ru li) (hLK : rt_LK ru li xl xr) (hB : rt_FB F) (hG : rt_TH G xg) (h : ∀ xf' xh', rt_RF (rt_rm ru li F G 6) xf' → rt_HO (rt_rm ru li F G 6) xh' → ∃ n101, wX_remove_101 post n101 0 0 xo xm xl xr xt xf' xv xh' xp xg) : ∀ (d C : Nat) (xf xh : Nat → Int32), C + d = 6 → rt_RF (rt_rm ru li F G C) xf → rt_HO (rt_rm ru li F G C) xh → wX_remove_43 post (d + 1) (nI C) xo xm xl xr xt xf xv xh xp xg
  | 0, C, xf, xh, hd, hR, hH => by
    obtain rfl : C = 6 := by omega
    exact pk_le 6 6 (fun _ => h xf xh hR hH) (fun y => absurd y (by omega))
  | d + 1, C, xf, xh, hd, hR, hH => by
    have hC : C < 6 := by omega
    have hl := (hLB C hC).1
    have hu := (hLB C hC).2
    have vC : vp_in (nI C) 6 := vp_in_nI hC (by decide)
    have eC : (nI C).toNatClampNeg = C := nI_clamp (by omega)
    have eD : (nI C / 2).toNatClampNeg = C / 2 := by rw [ix_d2 (by omega), nI_clamp (by omega)]
    have eL : (xl (nI C).toNatClampNeg).toNatClampNeg = li C := by rw [eC, (hLK C hC).1, nI_clamp (by omega)]
    have ih := rx_rem43 hLB hLK hB hG h d (C + 1)
    refine pk_le 6 C (fun y => absurd y (by omega)) (fun _ => ⟨vC, ?_⟩)
    refine re_eq (ru C) 3 (fun y => ⟨vC, pk_in (li C) 3 hl (by rw [eC, (hLK C hC).1]), by decide, pk_in (C / 2) 3 (by omega) (ix_d2 (by omega)), ?_⟩) (fun y => ?_) (by rw [eC, (hLK C hC).2]) rfl
    · rw [eL, eD]
      refine rx_clear hC (rm_B hB) hR hH (fun r xf' xh' r1 r2 => nm_r (nI_1 C) (ih xf' xh' (by omega) (rt_RFc ?_ r1) (rt_HOc ?_ r2)))
      all_goals
        intro c hc j hj
        show (if c = C ∧ rt_rm ru li F G C C j ≠ 0 ∧ bt (xg (li C)) (rt_rm ru li F G C C j - 1) = true ∧ bt (xg (C / 2)) j = false then 0 else rt_rm ru li F G C c j) = rt_rm ru li F G (C + 1) c j
        rw [rm_c]
        have hb := hB C hC j hj
        by_cases q : c = C
        · subst q
          rw [rm_c]
          show _ = if c < c + 1 ∧ ru c = 3 ∧ F c j ≠ 0 ∧ G (20 * li c + (F c j - 1)) = true ∧ G (20 * (c / 2) + j) = false then 0 else F c j
          by_cases f : F c j = 0
          · rw [if_neg (fun z => z.2.1 f), if_neg (fun z => z.2.2.1 f)]
          · rw [rt_THb hG hl (by omega), rt_THb hG (by omega) hj]
            by_cases g : G (20 * li c + (F c j - 1)) = true ∧ G (20 * (c / 2) + j) = false
            · rw [if_pos ⟨rfl, f, g⟩, if_pos ⟨by omega, y, f, g⟩]
            · rw [if_neg (fun z => g z.2.2), if_neg (fun z => g z.2.2.2)]
        · rw [if_neg (fun z => q z.1)]
          unfold rt_rm
          by_cases b : c < C ∧ ru c = 3 ∧ F c j ≠ 0 ∧ G (20 * li c + (F c j - 1)) = true ∧ G (20 * (c / 2) + j) = false
          · rw [if_pos b, if_pos ⟨by omega, b.2⟩]
          · rw [if_neg b, if_neg (fun z => b ⟨by omega, z.2⟩)]
    · rw [rm_n y] at hR hH
      exact nm_r (nI_1 C) (ih xf xh (by omega) hR hH)
theorem dA_t {i : Nat} (e : G i = true) : rt_ub (rt_dA A G i) i false = rt_dA A G (i + 1) := by
  funext r
  by_cases a : r = i
  · rw [a, ub_s]
    unfold rt_dA
    rw [decide_eq_true (by omega), e]; simp
  · rw [ub_n a]
    unfold rt_dA
    by_cases b : r < i
    · rw [decide_eq_true b, decide_eq_true (by omega)]
    · rw [decide_eq_false b, decide_eq_false (by omega)]
theorem dA_f {i : Nat} (e : G i = false) : rt_dA A G i = rt_dA A G (i + 1) := by
  funext r
  unfold rt_dA
  by_cases a : r = i
  · rw [a, e, Bool.and_false, Bool.and_false]
  · by_cases b : r < i
    · rw [decide_eq_true b, decide_eq_true (by omega)]
    · rw [decide_eq_false b, decide_eq_false (by omega)]
theorem dV_t {i : Nat} (e : G i = true) : upd (rt_dV V G i) i 0 = rt_dV V G (i + 1) := by
  funext r
  by_cases a : r = i
  · rw [a, pk_us]; exact (if_pos ⟨by omega, e⟩).symm
  · rw [pk_un a]
    unfold rt_dV
    by_cases b : r < i ∧ G r = true
    · rw [if_pos b, if_pos ⟨by omega, b.2⟩]
    · rw [if_neg b, if_neg (fun z => b ⟨by omega, z.2⟩)]
theorem dV_f {i : Nat} (e : G i = false) : rt_dV V G i = rt_dV V G (i + 1) := by
  funext r
  unfold rt_dV
  by_cases a : r = i
  · rw [a, if_neg (by omega), if_neg (fun z => by rw [e] at z; exact absurd z.2 (by decide))]
  · by_cases b : r < i ∧ G r = true
    · rw [if_pos b, if_pos ⟨by omega, b.2⟩]
    · rw [if_neg b, if_neg (fun z => b ⟨by omega, z.2⟩)]
theorem dF_t {i : Nat} (e : G i = true) : ∀ c, c < 6 → ∀ j, j < 20 → rt_u (rt_u (rt_dF F G i) (2 * (i / 20)) (i % 20) 0) (2 * (i / 20) + 1) (i % 20) 0 c j = rt_dF F G (i + 1) c j := fun c hc j hj => by
  by_cases a : c = 2 * (i / 20) + 1 ∧ j = i % 20
  · have ei : 20 * (c / 2) + j = i := by omega
    rw [a.1, a.2, ru_s]
    rw [a.1, a.2] at ei
    exact (if_pos (by rw [ei]; exact ⟨by omega, e⟩)).symm
  · rw [ru_n a]
    by_cases a2 : c = 2 * (i / 20) ∧ j = i % 20
    · have ei : 20 * (c / 2) + j = i := by omega
      rw [a2.1, a2.2, ru_s]
      rw [a2.1, a2.2] at ei
      exact (if_pos (by rw [ei]; exact ⟨by omega, e⟩)).symm
    · rw [ru_n a2]
      unfold rt_dF
      by_cases b : 20 * (c / 2) + j < i ∧ G (20 * (c / 2) + j) = true
      · rw [if_pos b, if_pos ⟨by omega, b.2⟩]
      · rw [if_neg b, if_neg (fun z => b ⟨by omega, z.2⟩)]
theorem dF_f {i : Nat} (e : G i = false) : rt_dF F G i = rt_dF F G (i + 1) := by
  funext c j
  unfold rt_dF
  by_cases a : 20 * (c / 2) + j = i
  · rw [a, if_neg (by omega), if_neg (fun z => by rw [e] at z; exact absurd z.2 (by decide))]
  · by_cases b : 20 * (c / 2) + j < i ∧ G (20 * (c / 2) + j) = true
    · rw [if_pos b, if_pos ⟨by omega, b.2⟩]
    · rw [if_neg b, if_neg (fun z => b ⟨by omega, z.2⟩)]
theorem dF_B {i : Nat} (hB : rt_FB F) : rt_FB (rt_dF F G i) := fun c hc j hj => by
  unfold rt_dF
  by_cases b : 20 * (c / 2) + j < i ∧ G (20 * (c / 2) + j) = true
  · rw [if_pos b]; omega
  · rw [if_neg b]; exact hB c hc j hj
theorem rx_rem101 {post : Int32 → SX → Prop} (hB : rt_FB F) (hG : rt_TH G xg) (h : ∀ xt' xf' xv' xh', rt_TH (rt_dA A G 60) xt' → rt_RF (rt_dF F G 60) xf' → rt_VL (rt_dV V G 60) xv' → rt_HO (rt_dF F G 60) xh' → wpX_settle post (xo, xm, xl, xr, xt', xf', xv', xh', xp, xg) (nI (rt_cn G 60))) : ∀ (d i : Nat) (xt xf xv xh : Nat → Int32), i + d = 60 → rt_TH (rt_dA A G i) xt → rt_RF (rt_dF F G i) xf → rt_VL (rt_dV V G i) xv → rt_HO (rt_dF F G i) xh → wX_remove_101 post (d + 1) (nI (rt_cn G i)) (nI i) xo xm xl xr xt xf xv xh xp xg
  | 0, i, xt, xf, xv, xh, hd, hT, hR, hV, hH => by
    obtain rfl : i = 60 := by omega
    exact pk_le 60 60 (fun _ => h xt xf xv xh hT hR hV hH) (fun y => absurd y (by omega))
  | d + 1, i, xt, xf, xv, xh, hd, hT, hR, hV, hH => by
    have ih := rx_rem101 hB hG h d (i + 1)
    refine pk_le 60 i (fun y => absurd y (by omega)) (fun z => ⟨by decide, pk_in (i / 20) 3 (by omega) (ix_d20 (by omega)), by decide, ?_⟩)
    refine rt_bo (G i) (fun e => ⟨by decide, by decide, ?_⟩) (fun e => ?_) ?_
    · refine rx_drop (t := i / 20) (k := i % 20) (ix_d20 (by omega)) (ix_m20 (by omega)) (by omega) (by omega) (dF_B hB) hT hR hV hH (fun xt' xf' xv' xh' a1 a2 a3 a4 => ?_)
      rw [show 20 * (i / 20) + i % 20 = i from by omega] at a1 a3
      rw [dA_t e] at a1
      rw [dV_t e] at a3
      have k := ih xt' xf' xv' xh' (by omega) a1 (rt_RFc (dF_t e) a2) a3 (rt_HOc (dF_t e) a4)
      rw [cn_S, e] at k
      exact nm_r (nI_1 _) (nm_r (nI_1 i) k)
    · rw [dA_f e] at hT
      rw [dF_f e] at hR hH
      rw [dV_f e] at hV
      have k := ih xt xf xv xh (by omega) hT hR hV hH
      rw [cn_S, e] at k
      exact nm_r (nI_1 i) k
    · rw [ix_m20 (by omega), ix_d20 (by omega), nI_clamp (by omega), rt_bbit _ (by omega), rt_THb hG (by omega) (by omega), show 20 * (i / 20) + i % 20 = i from by omega]
/-! ===== rekey ===== -/
def rt_mF (F : Nat → Nat → Nat) (t k n : Nat) : Nat → Nat → Nat := rt_u (rt_u (rt_u (rt_u F (2 * t) k 0) (2 * t + 1) k 0) (2 * t) n (F (2 * t) k)) (2 * t + 1) n (F (2 * t + 1) k)
theorem rx_move {post : SX → Prop} {t k n : Nat} (ht : t < 3) (hk : k < 20) (hn : n < 20) (hB : rt_FB F) (hT : rt_TH A xt) (hR : rt_RF F xf) (hV : rt_VL V xv) (hH : rt_HO F xh) (h : ∀ xt' xf' xv' xh', rt_TH (rt_ub (rt_ub A (20 * t + k) false) (20 * t + n) true) xt' → rt_RF (rt_mF F t k n) xf' → rt_VL (upd (upd V (20 * t + k) 0) (20 * t + n) (V (20 * t + k))) xv' → rt_HO (rt_mF F t k n) xh' → post (xo, xm, xl, xr, xt', xf', xv', xh', xp, xg)) : wpX_moveRow post (xo, xm, xl, xr, xt, xf, xv, xh, xp, xg) (nI t) (nI k) (nI n) := by
  have i1 : (20 : Int32) * (2 * nI t) + nI k = nI (20 * (2 * t) + k) := by rw [ix_2, ix_20]
  have i2 : (20 : Int32) * (2 * nI t + 1) + nI k = nI (20 * (2 * t + 1) + k) := by rw [ix_21, ix_20]
  have v3 : vp_in (nI t) 3 := vp_in_nI ht (by decide)
  have b1 := hB (2 * t) (by omega) k hk
  have b2 := hB (2 * t + 1) (by omega) k hk
  unfold wpX_moveRow
  refine ⟨pk_in (20 * (2 * t) + k) 120 (by omega) i1, nm_r (e' := rt_e (F (2 * t) k)) (by rw [i1, nI_clamp (by omega), hR _ (by omega) _ hk]) ⟨pk_in (20 * (2 * t + 1) + k) 120 (by omega) i2, nm_r (e' := rt_e (F (2 * t + 1) k)) (by rw [i2, nI_clamp (by omega), hR _ (by omega) _ hk]) ⟨pk_in (20 * t + k) 60 (by omega) (ix_20 t k), nm_r (e' := V (20 * t + k)) (by rw [ix_20, nI_clamp (by omega), hV _ (by omega)]) ?_⟩⟩⟩
  refine rx_drop (t := t) (k := k) rfl rfl ht hk hB hT hR hV hH (fun xt1 xf1 xv1 xh1 a1 a2 a3 a4 => ⟨v3, v3, nm_r (e' := upd xt1 t (xt1 t ||| ((1 : Int32) <<< (nI n &&& 31)))) (by rw [nI_clamp (by omega)]) ?_⟩)
  have B1 : rt_FB (rt_u (rt_u F (2 * t) k 0) (2 * t + 1) k 0) := rt_FBu (by omega) (rt_FBu (by omega) hB)
  refine rx_setRef (C := 2 * t) (k := n) (n := F (2 * t) k) (ix_2 t) rfl rfl (by omega) hn b1 B1 a2 a4 (fun r xf2 xh2 c1 c2 => ?_)
  refine rx_setRef (C := 2 * t + 1) (k := n) (n := F (2 * t + 1) k) (ix_21 t) rfl rfl (by omega) hn b2 (rt_FBu b1 B1) c1 c2 (fun r xf3 xh3 d1 d2 => ?_)
  exact ⟨pk_in (20 * t + n) 60 (by omega) (ix_20 t n), nm_r (e' := upd xv1 (20 * t + n) (V (20 * t + k))) (by rw [ix_20, nI_clamp (by omega)]) (h _ _ _ _ (rt_THs hn a1) d1 (rt_VLu a3) d2)⟩
/-- references to key v of table t, in columns below C that follow or let go -/
def rt_tu (ru li : Nat → Nat) (F : Nat → Nat → Nat) (t v n C : Nat) : Nat → Nat → Nat := fun c j => if c < C ∧ (ru c = 2 ∨ ru c = 3) ∧ li c = t ∧ F c j = v + 1 then (if ru c = 2 then n + 1 else 0) else F c j
def rt_tn (ru li : Nat → Nat) (F : Nat → Nat → Nat) (t v C : Nat) : Nat := rt_sm (fun c => if (ru c = 2 ∨ ru c = 3) ∧ li c = t then rt_cn (fun k => decide (F c k = v + 1)) 20 else 0) C
theorem tu_B {t v n C : Nat} (hn : n < 20) (hB : rt_FB F) : rt_FB (rt_tu ru li F t v n C) := fun c hc j hj => by
  unfold rt_tu
  by_cases b : c < C ∧ (ru c = 2 ∨ ru c = 3) ∧ li c = t ∧ F c j = v + 1
  · rw [if_pos b]
    by_cases q : ru c = 2
    · rw [if_pos q]; omega
    · rw [if_neg q]; omega
  · rw [if_neg b]; exact hB c hc j hj
theorem tu_0 {t v n : Nat} : rt_tu ru li F t v n 0 = F := by
  funext c j
  exact if_neg (by omega)
theorem tu_c {t v n : Nat} (C j : Nat) : rt_tu ru li F t v n C C j = F C j := if_neg (by omega)
theorem tu_n {t v n C : Nat} (h : ¬ ((ru C = 2 ∨ ru C = 3) ∧ li C = t)) : rt_tu ru li F t v n C = rt_tu ru li F t v n (C + 1) := by
  funext c j
  unfold rt_tu
  by_cases b : c < C ∧ (ru c = 2 ∨ ru c = 3) ∧ li c = t ∧ F c j = v + 1
  · rw [if_pos b, if_pos (c := c < C + 1 ∧ (ru c = 2 ∨ ru c = 3) ∧ li c = t ∧ F c j = v + 1) ⟨by omega, b.2⟩]
  · rw [if_neg b, if_neg (fun z => ?_)]
    by_cases q : c = C
    · rw [q] at z; exact h ⟨z.2.1, z.2.2.1⟩
    · exact b ⟨by omega, z.2⟩
theorem tu_y {t v n C x : Nat} (h : (ru C = 2 ∨ ru C = 3) ∧ li C = t) (hx : x = if ru C = 2 then n + 1 else 0) : ∀ c, c < 6 → ∀ j, j < 20 → (fun c j => if c = C ∧ rt_tu ru li F t v n C C j = v + 1 then x else rt_tu ru li F t v n C c j) c j = rt_tu ru li F t v n (C + 1) c j := fun c _ j _ => by
  show (if c = C ∧ rt_tu ru li F t v n C C j = v + 1 then x else rt_tu ru li F t v n C c j) = rt_tu ru li F t v n (C + 1) c j
  rw [tu_c]
  by_cases q : c = C
  · subst q
    rw [tu_c]
    unfold rt_tu
    by_cases f : F c j = v + 1
    · rw [if_pos ⟨rfl, f⟩, if_pos ⟨by omega, h.1, h.2, f⟩, hx]
    · rw [if_neg (fun z => f z.2), if_neg (fun z => f z.2.2.2)]
  · rw [if_neg (fun z => q z.1)]
    unfold rt_tu
    by_cases b : c < C ∧ (ru c = 2 ∨ ru c = 3) ∧ li c = t ∧ F c j = v + 1
    · rw [if_pos b, if_pos (c := c < C + 1 ∧ (ru c = 2 ∨ ru c = 3) ∧ li c = t ∧ F c j = v + 1) ⟨by omega, b.2⟩]
    · rw [if_neg b, if_neg (fun z => b ⟨by omega, z.2⟩)]
theorem rx_rek116 {post : Int32 → SX → Prop} {t v n : Nat} (ht : t < 3) (hv : v < 20) (hn : n < 20) (hLB : rt_LB ru li) (hLK : rt_LK ru li xl xr) (hB : rt_FB F) (h : ∀ xf' xh', rt_RF (rt_tu ru li F t v n 6) xf' → rt_HO (rt_tu ru li F t v n 6) xh' → wpX_settle post (xo, xm, xl, xr, xt, xf', xv, xh', xp, xg) (nI (rt_tn ru li F t v 6))) : ∀ (d C : Nat) (xf xh : Nat → Int32), C + d = 6 → rt_RF (rt_tu ru li F t v n C) xf → rt_HO (rt_tu ru li F t v n C) xh → wX_rekey_116 post (nI t) (nI v) (nI n) (d + 1) (nI (rt_tn ru li F t v C)) (nI C) xo xm xl xr xt xf xv xh xp xg
  | 0, C, xf, xh, hd, hR, hH => by
    obtain rfl : C = 6 := by omega
    exact pk_le 6 6 (fun _ => h xf xh hR hH) (fun y => absurd y (by omega))
  | d + 1, C, xf, xh, hd, hR, hH => by
    have hC : C < 6 := by omega
    have hl := (hLB C hC).1
    have hu := (hLB C hC).2
    have vC : vp_in (nI C) 6 := vp_in_nI hC (by decide)
    have eC : (nI C).toNatClampNeg = C := nI_clamp (by omega)
    have eR : xr (nI C).toNatClampNeg = rt_e (ru C) := by rw [eC, (hLK C hC).2]
    have eL : xl (nI C).toNatClampNeg = nI (li C) := by rw [eC, (hLK C hC).1]
    have ih := rx_rek116 ht hv hn hLB hLK hB h d (C + 1)
    have skip : ¬ ((ru C = 2 ∨ ru C = 3) ∧ li C = t) → wX_rekey_116 post (nI t) (nI v) (nI n) (d + 1) (nI (rt_tn ru li F t v C)) (nI (C + 1)) xo xm xl xr xt xf xv xh xp xg := fun q => by
      have k := ih xf xh (by omega) (by rw [← tu_n q]; exact hR) (by rw [← tu_n q]; exact hH)
      have e : rt_tn ru li F t v (C + 1) = rt_tn ru li F t v C := by
        show rt_tn ru li F t v C + (if (ru C = 2 ∨ ru C = 3) ∧ li C = t then _ else 0) = _
        rw [if_neg q, Nat.add_zero]
      rw [e] at k
      exact k
    have turn : (ru C = 2 ∨ ru C = 3) ∧ li C = t → ∀ x, x = (if ru C = 2 then n + 1 else 0) → wX_rekey_177 post (wX_rekey_116 post (nI t) (nI v) (nI n) (d + 1)) (nI t) (nI v) (nI n) (nI C) (rt_e x) (nI v) (nI C) (nI (rt_tn ru li F t v C)) xo xm xl xr xt xf xv xh xp xg := fun q x hx => by
      unfold wX_rekey_177
      have hx2 : x ≤ 20 := by
        by_cases r2 : ru C = 2
        · rw [if_pos r2] at hx; omega
        · rw [if_neg r2] at hx; omega
      refine rx_turn hC hv hx2 (tu_B hn hB) hR hH (fun xf' xh' r1 r2 => ?_)
      have k := ih xf' xh' (by omega) (rt_RFc (tu_y q hx) r1) (rt_HOc (tu_y q hx) r2)
      have e : rt_tn ru li F t v (C + 1) = rt_tn ru li F t v C + rt_cn (fun k => decide (rt_tu ru li F t v n C C k = v + 1)) 20 := by
        show rt_tn ru li F t v C + (if (ru C = 2 ∨ ru C = 3) ∧ li C = t then _ else 0) = _
        rw [if_pos q]
        exact congrArg _ (cn_cg (fun k _ => by rw [tu_c]))
      rw [e] at k
      exact nm_r (nI_add _ _) (nm_r (nI_1 C) k)
    refine pk_le 6 C (fun y => absurd y (by omega)) (fun _ => ⟨vC, ?_⟩)
    refine re_le (ru C) 1 (fun y => nm_r (nI_1 C) (skip (fun q => by omega))) (fun y => ⟨vC, ?_⟩) eR rfl
    refine re_le 4 (ru C) (fun y => nm_r (nI_1 C) (skip (fun q => by omega))) (fun y => ⟨vC, ?_⟩) rfl eR
    refine pk_eq (li C) t (fun y2 => ⟨vC, ?_⟩) (fun y2 => nm_r (nI_1 C) (skip (fun q => y2 q.2))) eL rfl
    refine re_eq (ru C) 2 (fun y3 => ?_) (fun y3 => ?_) eR rfl
    · rw [← rt_eS n]
      have := turn ⟨Or.inl y3, y2⟩ (n + 1) (if_pos y3).symm
      rw [← rt_eS n] at this
      exact this
    · exact turn ⟨by omega, y2⟩ 0 (if_neg y3).symm
theorem rx_rek46 {post : Int32 → SX → Prop} {t v : Nat} {p2 : Int32} (ht : t < 3) (hv : v < 20) (hLB : rt_LB ru li) (hLK : rt_LK ru li xl xr) (hH : rt_HO F xh) (h1 : (∃ C k, C < 6 ∧ k < 20 ∧ (ru C = 1 ∧ li C = t ∧ F C k = v + 1)) → post (-5) (xo, xm, xl, xr, xt, xf, xv, xh, xp, xg)) (h0 : ¬ (∃ C k, C < 6 ∧ k < 20 ∧ (ru C = 1 ∧ li C = t ∧ F C k = v + 1)) → wX_rekey_46 post (nI t) (nI v) p2 xo xm xl xr xt xf xv xh xp xg 1 6) : ∀ (d C : Nat), C + d = 6 → (∀ c, c < C → ∀ k, k < 20 → ¬ (ru c = 1 ∧ li c = t ∧ F c k = v + 1)) → wX_rekey_46 post (nI t) (nI v) p2 xo xm xl xr xt xf xv xh xp xg (d + 1) (nI C)
  | 0, C, hd, hs => by
    obtain rfl : C = 6 := by omega
    exact h0 (fun ⟨c, k, hc, hk, w⟩ => hs c hc k hk w)
  | d + 1, C, hd, hs => by
    have hC : C < 6 := by omega
    have hl := (hLB C hC).1
    have hu := (hLB C hC).2
    have vC : vp_in (nI C) 6 := vp_in_nI hC (by decide)
    have eC : (nI C).toNatClampNeg = C := nI_clamp (by omega)
    have ih := rx_rek46 ht hv hLB hLK hH h1 h0 d (C + 1) (by omega)
    have step : (∀ k, k < 20 → ¬ (ru C = 1 ∧ li C = t ∧ F C k = v + 1)) → wX_rekey_46 post (nI t) (nI v) p2 xo xm xl xr xt xf xv xh xp xg (d + 1) (nI (C + 1)) := fun g => ih (fun c hc => by
      by_cases e : c = C
      · rw [e]; exact g
      · exact hs c (by omega))
    refine pk_le 6 C (fun y => absurd y (by omega)) (fun _ => ⟨vC, ?_⟩)
    refine re_eq (ru C) 1 (fun y => ⟨vC, ?_⟩) (fun y => nm_r (nI_1 C) (step (fun k hk w => y w.1))) (by rw [eC, (hLK C hC).2]) rfl
    refine pk_eq (li C) t (fun y2 => ⟨pk_in (20 * C + v) 120 (by omega) (ix_20 C v), ?_⟩) (fun y2 => nm_r (nI_1 C) (step (fun k hk w => y2 w.2.1))) (by rw [eC, (hLK C hC).1]) rfl
    rw [ix_20, nI_clamp (n := 20 * C + v) (by omega)]
    refine ek_if (rt_HO0 hH hC hv) (fun w => nm_r (nI_1 C) (step (fun k hk q => w k hk q.2.2))) (fun w => h1 ?_)
    apply Classical.byContradiction
    intro nn
    exact w (fun k hk e => nn ⟨C, k, hC, hk, y, y2, e⟩)
end
end
section
/-! ===== the reference: small methods ===== -/
def rt_CF (A : Nat → Bool) (F : Nat → Nat → Nat) : Prop := ∀ C, C < 6 → ∀ k, k < 20 → A (20 * (C / 2) + k) = false → F C k = 0
/-- the row that a reference is to, one above; 0 if none -/
def rt_tg (ru li : Nat → Nat) (A : Nat → Bool) (F : Nat → Nat → Nat) (C k : Nat) : Nat := if F C k ≠ 0 ∧ ru C ≠ 0 ∧ A (20 * li C + (F C k - 1)) = true then 20 * li C + F C k else 0
/-- slot s holds these tables -/
def rt_YS (s : Nat) (kt kf kv : Nat → Int32) (A : Nat → Bool) (F : Nat → Nat → Nat) (V : Nat → Int32) : Prop := rt_YH A (fun r => kt (60 * s + r)) ∧ rt_YF A F (fun p => kf (120 * s + p)) ∧ rt_YV A V (fun r => kv (60 * s + r))
section
variable {yo ym ys : Int32} {yl yr yt yf yv kt kf kv yg : Nat → Int32}
variable {A : Nat → Bool} {F : Nat → Nat → Nat} {V : Nat → Int32} {ru li : Nat → Nat}
theorem tg_le (hLB : rt_LB ru li) (hB : rt_FB F) {C k : Nat} (hC : C < 6) (hk : k < 20) : rt_tg ru li A F C k ≤ 60 := by
  have a := (hLB C hC).1
  have b := hB C hC k hk
  unfold rt_tg
  by_cases h : F C k ≠ 0 ∧ ru C ≠ 0 ∧ A (20 * li C + (F C k - 1)) = true
  · rw [if_pos h]; omega
  · rw [if_neg h]; omega
theorem dg_0 {C k : Nat} (h : F C k = 0) : rt_dg li A F C k = false := by
  unfold rt_dg
  rw [decide_eq_false (fun q => q h), Bool.false_and]
theorem ry_isT {post : Int32 → Prop} {t : Nat} (ht : t < 3) (h : post 1) : wpY_isTable post (yo, ym, ys, yl, yr, yt, yf, yv, kt, kf, kv, yg) (nI t) :=
  br_f (nI_pos (by omega)) (br_f (nI_nlt (a := 2) (by omega) (by decide)) h)
theorem ry_isT0 {post : Int32 → Prop} {x : Int32} (hx : x < 0 ∨ nI 3 ≤ x) (h : post 0) : wpY_isTable post (yo, ym, ys, yl, yr, yt, yf, yv, kt, kf, kv, yg) x := by
  by_cases a : x < 0
  · exact br_t a h
  · exact br_f a (br_t (rt_gt (n := 2) (by decide) (hx.resolve_left a)) h)
theorem ry_isK {post : Int32 → Prop} {t : Nat} (ht : t < 20) (h : post 1) : wpY_isKey post (yo, ym, ys, yl, yr, yt, yf, yv, kt, kf, kv, yg) (nI t) :=
  br_f (nI_pos (by omega)) (br_f (nI_nlt (a := 19) (by omega) (by decide)) h)
theorem ry_isK0 {post : Int32 → Prop} {x : Int32} (hx : x < 0 ∨ nI 20 ≤ x) (h : post 0) : wpY_isKey post (yo, ym, ys, yl, yr, yt, yf, yv, kt, kf, kv, yg) x := by
  by_cases a : x < 0
  · exact br_t a h
  · exact br_f a (br_t (rt_gt (n := 19) (by decide) (hx.resolve_left a)) h)
theorem ry_isR {post : Int32 → Prop} {t k : Nat} (ht : t < 3) (hk : k < 20) (hT : rt_YH A yt) (h1 : A (20 * t + k) = true → post 1) (h0 : A (20 * t + k) = false → post 0) : wpY_isRow post (yo, ym, ys, yl, yr, yt, yf, yv, kt, kf, kv, yg) (nI t) (nI k) := by
  unfold wpY_isRow
  refine ry_isK hk (br_f (by decide) ⟨pk_in (20 * t + k) 60 (by omega) (ix_20 t k), ?_⟩)
  exact rt_bz (A (20 * t + k)) h0 h1 (by rw [ix_20, nI_clamp (by omega), hT _ (by omega)])
theorem ry_isR0 {post : Int32 → Prop} {p x : Int32} (hx : x < 0 ∨ nI 20 ≤ x) (h0 : post 0) : wpY_isRow post (yo, ym, ys, yl, yr, yt, yf, yv, kt, kf, kv, yg) p x := by
  unfold wpY_isRow
  exact ry_isK0 hx (br_t rfl h0)
theorem ry_count4 {post : Int32 → Prop} {t : Nat} (ht : t < 3) (hT : rt_YH A yt) (h : post (nI (rt_cn (fun k => A (20 * t + k)) 20))) : ∀ (d i : Nat), i + d = 20 → wY_count_4 post (nI t) yo ym ys yl yr yt yf yv kt kf kv yg (d + 1) (nI (rt_cn (fun k => A (20 * t + k)) i)) (nI i)
  | 0, i, hi => by
    obtain rfl : i = 20 := by omega
    exact pk_le 20 20 (fun _ => h) (fun z => absurd z (by omega))
  | d + 1, i, hi => by
    have ih := ry_count4 ht hT h d (i + 1) (by omega)
    refine pk_le 20 i (fun z => absurd z (by omega)) (fun z => ⟨pk_in (20 * t + i) 60 (by omega) (ix_20 t i), ?_⟩)
    refine rt_bz (A (20 * t + i)) (fun e => nm_r (nI_1 i) ?_) (fun e => nm_r (nI_1 _) (nm_r (nI_1 i) ?_)) (by rw [ix_20, nI_clamp (by omega), hT _ (by omega)])
    · rw [cn_S, e] at ih; exact ih
    · rw [cn_S, e] at ih; exact ih
theorem ry_count {post : Int32 → Prop} {t : Nat} (ht : t < 3) (hT : rt_YH A yt) (h : post (nI (rt_cn (fun k => A (20 * t + k)) 20))) : wpY_count post (yo, ym, ys, yl, yr, yt, yf, yv, kt, kf, kv, yg) (nI t) :=
  ⟨21, ry_count4 ht hT h 20 0 rfl⟩
theorem ry_target {post : Int32 → Prop} {p : Nat} (hp : p < 120) (hLB : rt_LB ru li) (hLK : rt_LK ru li yl yr) (hB : rt_FB F) (hZ : rt_CF A F) (hT : rt_YH A yt) (hF : rt_YF A F yf) (h : post (rt_e (rt_tg ru li A F (p / 40 * 2 + p % 2) (p / 2 % 20)))) : wpY_target post (yo, ym, ys, yl, yr, yt, yf, yv, kt, kf, kv, yg) (nI p) := by
  have hC : p / 40 * 2 + p % 2 < 6 := by omega
  have hk : p / 2 % 20 < 20 := by omega
  have eR : 20 * ((p / 40 * 2 + p % 2) / 2) + p / 2 % 20 = p / 2 := by omega
  have eF := hF p hp
  have eZ := hZ _ hC _ hk
  rw [eR] at eZ
  have hl := (hLB _ hC).1
  have hu := (hLB _ hC).2
  have eL := (hLK _ hC).1
  have eU := (hLK _ hC).2
  have hb := hB _ hC _ hk
  have cC := ix_cl (p := p) (by omega)
  revert h hC hk eF eZ hl hu eL eU hb cC
  generalize p / 40 * 2 + p % 2 = C
  generalize p / 2 % 20 = k
  intro h hC hk eF eZ hl hu eL eU hb cC
  have vC : vp_in (nI C) 6 := vp_in_nI hC (by decide)
  have vp : vp_in (nI p) 120 := vp_in_nI hp (by decide)
  have ep : (nI p).toNatClampNeg = p := nI_clamp (by omega)
  have n0 : ¬ (F C k ≠ 0 ∧ ru C ≠ 0 ∧ A (20 * li C + (F C k - 1)) = true) → post (-1) := fun q => by
    unfold rt_tg at h
    rw [if_neg q] at h
    exact h
  unfold wpY_target
  refine ⟨by decide, by decide, nm_r cC ⟨by decide, pk_in (p / 2) 60 (by omega) (ix_d2 (by omega)), ?_⟩⟩
  refine rt_bz (A (p / 2)) (fun e => n0 (fun q => q.1 (eZ e))) (fun e => ⟨vC, ?_⟩) (by rw [ix_d2 (by omega), nI_clamp (by omega), hT _ (by omega)])
  have eY : yf (nI p).toNatClampNeg = rt_e (F C k) := by rw [ep]; exact eF e
  refine re_lt (ru C) 1 (fun y => n0 (fun q => q.2.1 (by omega))) (fun y => ⟨vp, ?_⟩) (by rw [nI_clamp (by omega), eU]) rfl
  refine re_le 1 (F C k) (fun y2 => ⟨vC, vp, ?_⟩) (fun y2 => n0 (fun q => q.1 (by omega))) rfl eY
  have e1 : (20 : Int32) * yl (nI C).toNatClampNeg + yf (nI p).toNatClampNeg = nI (20 * li C + (F C k - 1)) := by
    rw [eY, nI_clamp (by omega), eL, rt_eP (by omega), ix_20]
  refine nm_r e1 ⟨vp_in_nI (by omega) (by decide), ?_⟩
  refine rt_bz (A (20 * li C + (F C k - 1))) (fun w => n0 (fun q => by rw [w] at q; exact absurd q.2.2 (by decide))) (fun w => ?_) (by rw [nI_clamp (by omega), hT _ (by omega)])
  unfold rt_tg at h
  rw [if_pos ⟨by omega, by omega, w⟩, rt_eP (by omega), show 20 * li C + F C k - 1 = 20 * li C + (F C k - 1) from by omega] at h
  exact h
theorem ry_ruleOf {post : Int32 → Prop} {p : Nat} (hp : p < 120) (hLK : rt_LK ru li yl yr) (h : post (rt_e (ru (p / 40 * 2 + p % 2)))) : wpY_ruleOf post (yo, ym, ys, yl, yr, yt, yf, yv, kt, kf, kv, yg) (nI p) := by
  unfold wpY_ruleOf
  refine ⟨by decide, by decide, pk_in (p / 40 * 2 + p % 2) 6 (by omega) (ix_cl (by omega)), ?_⟩
  rw [ix_cl (by omega), nI_clamp (by omega), (hLK _ (by omega)).2]
  exact h
theorem ry_dangles {post : Int32 → Prop} {p : Nat} (hp : p < 120) (hLB : rt_LB ru li) (hLK : rt_LK ru li yl yr) (hB : rt_FB F) (hZ : rt_CF A F) (hT : rt_YH A yt) (hF : rt_YF A F yf) (h1 : (decide (ru (p / 40 * 2 + p % 2) ≠ 0) && rt_dg li A F (p / 40 * 2 + p % 2) (p / 2 % 20)) = true → post 1) (h0 : (decide (ru (p / 40 * 2 + p % 2) ≠ 0) && rt_dg li A F (p / 40 * 2 + p % 2) (p / 2 % 20)) = false → post 0) : wpY_dangles post (yo, ym, ys, yl, yr, yt, yf, yv, kt, kf, kv, yg) (nI p) := by
  have hC : p / 40 * 2 + p % 2 < 6 := by omega
  have hk : p / 2 % 20 < 20 := by omega
  have eR : 20 * ((p / 40 * 2 + p % 2) / 2) + p / 2 % 20 = p / 2 := by omega
  have eF := hF p hp
  have eZ := hZ _ hC _ hk
  rw [eR] at eZ
  have hu := (hLB _ hC).2
  have hb := hB _ hC _ hk
  have ht := tg_le (A := A) hLB hB hC hk
  have ep : (nI p).toNatClampNeg = p := nI_clamp (by omega)
  unfold wpY_dangles
  refine ⟨by decide, pk_in (p / 2) 60 (by omega) (ix_d2 (by omega)), ?_⟩
  refine rt_bz (A (p / 2)) (fun e => h0 ?_) (fun e => ?_) (by rw [ix_d2 (by omega), nI_clamp (by omega), hT _ (by omega)])
  · rw [dg_0 (eZ e), Bool.and_false]
  · refine ry_ruleOf hp hLK (re_lt (ru (p / 40 * 2 + p % 2)) 1 (fun y => h0 ?_) (fun y => ⟨vp_in_nI hp (by decide), ?_⟩))
    · rw [decide_eq_false (fun q => q (by omega)), Bool.false_and]
    · refine re_lt (F (p / 40 * 2 + p % 2) (p / 2 % 20)) 1 (fun y2 => h0 ?_) (fun y2 => ?_) (by rw [ep]; exact eF e) rfl
      · rw [dg_0 (by omega), Bool.and_false]
      · refine ry_target hp hLB hLK hB hZ hT hF (re_le 1 (rt_tg ru li A F (p / 40 * 2 + p % 2) (p / 2 % 20)) (fun w => h0 ?_) (fun w => h1 ?_))
        · unfold rt_tg at w
          by_cases q : F (p / 40 * 2 + p % 2) (p / 2 % 20) ≠ 0 ∧ ru (p / 40 * 2 + p % 2) ≠ 0 ∧ A (20 * li (p / 40 * 2 + p % 2) + (F (p / 40 * 2 + p % 2) (p / 2 % 20) - 1)) = true
          · unfold rt_dg
            rw [q.2.2, Bool.not_true, Bool.and_false, Bool.and_false]
          · rw [if_neg q] at w; omega
        · unfold rt_tg at w
          by_cases q : A (20 * li (p / 40 * 2 + p % 2) + (F (p / 40 * 2 + p % 2) (p / 2 % 20) - 1)) = true
          · rw [if_pos ⟨by omega, by omega, q⟩] at w; omega
          · unfold rt_dg
            rw [Bool.not_eq_true _ |>.mp q, decide_eq_true (by omega), decide_eq_true (by omega)]; rfl
theorem ry_sl5 {post : Int32 → Prop} (hLB : rt_LB ru li) (hLK : rt_LK ru li yl yr) (hB : rt_FB F) (hZ : rt_CF A F) (hT : rt_YH A yt) (hF : rt_YF A F yf) (h : ∀ w, (∀ C, C < 6 → (bt w C = true ↔ ∀ p, p < 120 → p / 40 * 2 + p % 2 = C → (decide (ru C ≠ 0) && rt_dg li A F C (p / 2 % 20)) = false)) → post w) : ∀ (d i : Nat) (w : Int32), i + d = 120 → (∀ C, C < 6 → (bt w C = true ↔ ∀ p, p < i → p / 40 * 2 + p % 2 = C → (decide (ru C ≠ 0) && rt_dg li A F C (p / 2 % 20)) = false)) → wY_soundLinks_5 post yo ym ys yl yr yt yf yv kt kf kv yg (d + 1) w (nI i)
  | 0, i, w, hi, hw => by
    obtain rfl : i = 120 := by omega
    exact pk_le 120 120 (fun _ => h w hw) (fun z => absurd z (by omega))
  | d + 1, i, w, hi, hw => by
    have ih := ry_sl5 hLB hLK hB hZ hT hF h d (i + 1)
    refine pk_le 120 i (fun z => absurd z (by omega)) (fun z => ?_)
    refine ry_dangles z hLB hLK hB hZ hT hF (fun e => br_f (by decide) ⟨by decide, by decide, nm_r (e' := w &&& (((1 : Int32) <<< (nI (i / 40 * 2 + i % 2) &&& 31)) ^^^ (-1))) (by rw [ix_cl (by omega)]) (nm_r (nI_1 i) (ih _ (by omega) (fun C hC => ?_)))⟩) (fun e => br_t rfl (nm_r (nI_1 i) (ih _ (by omega) (fun C hC => ?_))))
    · rw [rt_clr _ (by omega)]
      by_cases q : C = i / 40 * 2 + i % 2
      · rw [decide_eq_true q, Bool.not_true, Bool.and_false]
        constructor
        · intro a; exact absurd a (by decide)
        · intro a
          have := a i (by omega) q.symm
          rw [q, e] at this
          exact absurd this (by decide)
      · rw [decide_eq_false q, Bool.not_false, Bool.and_true, hw C hC]
        constructor
        · intro a p hp hc
          by_cases pi : p = i
          · rw [pi] at hc; exact absurd hc.symm q
          · exact a p (by omega) hc
        · intro a p hp hc; exact a p (by omega) hc
    · rw [hw C hC]
      constructor
      · intro a p hp hc
        by_cases pi : p = i
        · rw [pi] at hc
          rw [pi, ← hc]; exact e
        · exact a p (by omega) hc
      · intro a p hp hc; exact a p (by omega) hc
theorem rt_63 : ∀ C, C < 6 → bt 63 C = true := by decide +kernel
theorem ry_sl {post : Int32 → Prop} (hLB : rt_LB ru li) (hLK : rt_LK ru li yl yr) (hB : rt_FB F) (hZ : rt_CF A F) (hT : rt_YH A yt) (hF : rt_YF A F yf) (h : ∀ w, (∀ C, C < 6 → (bt w C = true ↔ (ru C ≠ 0 → rt_S1 li A F C))) → post w) : wpY_soundLinks post (yo, ym, ys, yl, yr, yt, yf, yv, kt, kf, kv, yg) := by
  refine ⟨121, ry_sl5 hLB hLK hB hZ hT hF (fun w hw => h w (fun C hC => (hw C hC).trans ⟨fun a r k hk f => ?_, fun a p hp hc => ?_⟩)) 120 0 63 rfl (fun C hC => ⟨fun _ p hp => absurd hp (by omega), fun _ => rt_63 C hC⟩)⟩
  · have e1 : (40 * (C / 2) + 2 * k + C % 2) / 2 % 20 = k := by omega
    have := a (40 * (C / 2) + 2 * k + C % 2) (by omega) (by omega)
    unfold rt_dg at this
    rw [e1, decide_eq_true r, decide_eq_true f, Bool.true_and, Bool.true_and] at this
    cases q : A (20 * li C + (F C k - 1))
    · rw [q] at this; exact absurd this (by decide)
    · rfl
  · by_cases r : ru C = 0
    · rw [decide_eq_false (fun q => q r), Bool.false_and]
    · by_cases f : F C (p / 2 % 20) = 0
      · rw [dg_0 f, Bool.and_false]
      · unfold rt_dg
        rw [a r (p / 2 % 20) (by omega) f, Bool.not_true, Bool.and_false, Bool.and_false]
/-! ===== keeping ===== -/
theorem rt_YSk {s : Nat} (hT : rt_YH A yt) (hF : rt_YF A F yf) (hV : rt_YV A V yv) : rt_YS s (rt_cp (60 * s) yt 60 kt) (rt_cp (120 * s) yf 120 kf) (rt_cp (60 * s) yv 60 kv) A F V := by
  refine ⟨fun r hr => ?_, fun p hp ha => ?_, fun r hr ha => ?_⟩
  · show rt_cp (60 * s) yt 60 kt (60 * s + r) = _
    rw [cp_i hr]; exact hT r hr
  · show rt_cp (120 * s) yf 120 kf (120 * s + p) = _
    rw [cp_i hp]; exact hF p hp ha
  · show rt_cp (60 * s) yv 60 kv (60 * s + r) = _
    rw [cp_i hr]; exact hV r hr ha
theorem rt_YSo {s q : Nat} {f g h : Nat → Int32} (hq : s ≠ q) (H : rt_YS s kt kf kv A F V) : rt_YS s (rt_cp (60 * q) f 60 kt) (rt_cp (120 * q) g 120 kf) (rt_cp (60 * q) h 60 kv) A F V := by
  refine ⟨fun r hr => ?_, fun p hp ha => ?_, fun r hr ha => ?_⟩
  · show rt_cp (60 * q) f 60 kt (60 * s + r) = _
    rw [cp_o (by omega)]; exact H.1 r hr
  · show rt_cp (120 * q) g 120 kf (120 * s + p) = _
    rw [cp_o (by omega)]; exact H.2.1 p hp ha
  · show rt_cp (60 * q) h 60 kv (60 * s + r) = _
    rw [cp_o (by omega)]; exact H.2.2 r hr ha
theorem ry_keep50 {post : SY → Prop} {s : Nat} (hs : s ≤ 4) (h : post (yo, ym, ys, yl, yr, yt, yf, yv, kt, rt_cp (120 * s) yf 120 kf, kv, yg)) : ∀ (d i : Nat), i + d = 120 → wY_keep_50 post (nI s) yo ym ys (d + 1) (nI i) yl yr yt yf yv kt (rt_cp (120 * s) yf i kf) kv yg
  | 0, i, hi => by
    obtain rfl : i = 120 := by omega
    exact pk_le 120 120 (fun _ => h) (fun z => absurd z (by omega))
  | d + 1, i, hi => by
    have ih := ry_keep50 hs h d (i + 1) (by omega)
    refine pk_le 120 i (fun z => absurd z (by omega)) (fun z => ⟨vp_in_nI z (by decide), pk_in (120 * s + i) 600 (by omega) (ix_120 s i), nm_r (e' := rt_cp (120 * s) yf (i + 1) kf) ?_ (nm_r (nI_1 i) ih)⟩)
    rw [ix_120, nI_clamp (n := 120 * s + i) (by omega), nI_clamp (n := i) (by omega)]
    exact cp_S rfl rfl
theorem ry_keep2 {post : SY → Prop} {s : Nat} (hs : s ≤ 4) (hT : rt_YH A yt) (h : post (yo, ym, ys, yl, yr, yt, yf, yv, rt_cp (60 * s) yt 60 kt, rt_cp (120 * s) yf 120 kf, rt_cp (60 * s) yv 60 kv, yg)) : ∀ (d i : Nat), i + d = 60 → wY_keep_2 post (nI s) yo ym ys (d + 1) (nI i) yl yr yt yf yv (rt_cp (60 * s) yt i kt) kf (rt_cp (60 * s) yv i kv) yg
  | 0, i, hi => by
    obtain rfl : i = 60 := by omega
    refine pk_le 60 60 (fun _ => ⟨121, ?_⟩) (fun z => absurd z (by omega))
    have k := ry_keep50 (kf := kf) hs h 120 0 rfl
    rw [cp_0] at k
    exact k
  | d + 1, i, hi => by
    have ih := ry_keep2 hs hT h d (i + 1) (by omega)
    refine pk_le 60 i (fun z => absurd z (by omega)) (fun z => ⟨vp_in_nI z (by decide), pk_in (60 * s + i) 300 (by omega) (ix_60 s i), nm_r (e' := rt_cp (60 * s) yt (i + 1) kt) ?_ ⟨vp_in_nI z (by decide), pk_in (60 * s + i) 300 (by omega) (ix_60 s i), nm_r (e' := rt_cp (60 * s) yv (i + 1) kv) ?_ (nm_r (nI_1 i) ih)⟩⟩)
    · rw [ix_60, nI_clamp (n := 60 * s + i) (by omega), nI_clamp (n := i) (by omega), hT i z, rt_nar, ← hT i z]
      exact cp_S rfl rfl
    · rw [ix_60, nI_clamp (n := 60 * s + i) (by omega), nI_clamp (n := i) (by omega)]
      exact cp_S rfl rfl
theorem ry_keep {post : SY → Prop} {s : Nat} (hs : s ≤ 4) (hT : rt_YH A yt) (h : post (yo, ym, ys, yl, yr, yt, yf, yv, rt_cp (60 * s) yt 60 kt, rt_cp (120 * s) yf 120 kf, rt_cp (60 * s) yv 60 kv, yg)) : wpY_keep post (yo, ym, ys, yl, yr, yt, yf, yv, kt, kf, kv, yg) (nI s) := by
  unfold wpY_keep
  refine ⟨61, ?_⟩
  have k := ry_keep2 hs hT h 60 0 rfl
  rw [cp_0, cp_0] at k
  exact k
theorem ry_rest50 {post : SY → Prop} {s : Nat} (hs : s ≤ 4) (h : post (yo, ym, ys, yl, yr, yt, rt_cp 0 (fun p => kf (120 * s + p)) 120 yf, yv, kt, kf, kv, yg)) : ∀ (d i : Nat), i + d = 120 → wY_restore_50 post (nI s) yo ym ys (d + 1) (nI i) yl yr yt (rt_cp 0 (fun p => kf (120 * s + p)) i yf) yv kt kf kv yg
  | 0, i, hi => by
    obtain rfl : i = 120 := by omega
    exact pk_le 120 120 (fun _ => h) (fun z => absurd z (by omega))
  | d + 1, i, hi => by
    have ih := ry_rest50 hs h d (i + 1) (by omega)
    refine pk_le 120 i (fun z => absurd z (by omega)) (fun z => ⟨pk_in (120 * s + i) 600 (by omega) (ix_120 s i), vp_in_nI z (by decide), nm_r (e' := rt_cp 0 (fun p => kf (120 * s + p)) (i + 1) yf) ?_ (nm_r (nI_1 i) ih)⟩)
    rw [ix_120, nI_clamp (n := 120 * s + i) (by omega), nI_clamp (n := i) (by omega)]
    exact cp_S (by omega) rfl
theorem ry_rest2 {post : SY → Prop} {s : Nat} (hs : s ≤ 4) (hT : rt_YH A (fun r => kt (60 * s + r))) (h : post (yo, ym, ys, yl, yr, rt_cp 0 (fun r => kt (60 * s + r)) 60 yt, rt_cp 0 (fun p => kf (120 * s + p)) 120 yf, rt_cp 0 (fun r => kv (60 * s + r)) 60 yv, kt, kf, kv, yg)) : ∀ (d i : Nat), i + d = 60 → wY_restore_2 post (nI s) yo ym ys (d + 1) (nI i) yl yr (rt_cp 0 (fun r => kt (60 * s + r)) i yt) yf (rt_cp 0 (fun r => kv (60 * s + r)) i yv) kt kf kv yg
  | 0, i, hi => by
    obtain rfl : i = 60 := by omega
    refine pk_le 60 60 (fun _ => ⟨121, ?_⟩) (fun z => absurd z (by omega))
    have k := ry_rest50 (yf := yf) hs h 120 0 rfl
    rw [cp_0] at k
    exact k
  | d + 1, i, hi => by
    have ih := ry_rest2 hs hT h d (i + 1) (by omega)
    have et : kt (60 * s + i) = rt_b (A i) := hT i (by omega)
    refine pk_le 60 i (fun z => absurd z (by omega)) (fun z => ⟨pk_in (60 * s + i) 300 (by omega) (ix_60 s i), vp_in_nI z (by decide), nm_r (e' := rt_cp 0 (fun r => kt (60 * s + r)) (i + 1) yt) ?_ ⟨pk_in (60 * s + i) 300 (by omega) (ix_60 s i), vp_in_nI z (by decide), nm_r (e' := rt_cp 0 (fun r => kv (60 * s + r)) (i + 1) yv) ?_ (nm_r (nI_1 i) ih)⟩⟩)
    · rw [ix_60, nI_clamp (n := 60 * s + i) (by omega), nI_clamp (n := i) (by omega), et, rt_nar, ← et]
      exact cp_S (by omega) rfl
    · rw [ix_60, nI_clamp (n := 60 * s + i) (by omega), nI_clamp (n := i) (by omega)]
      exact cp_S (by omega) rfl
theorem ry_restore {post : SY → Prop} {s : Nat} {A2 : Nat → Bool} {F2 : Nat → Nat → Nat} {V2 : Nat → Int32} (hs : s ≤ 4) (hS : rt_YS s kt kf kv A2 F2 V2) (h : ∀ yt' yf' yv', rt_YH A2 yt' → rt_YF A2 F2 yf' → rt_YV A2 V2 yv' → post (yo, ym, ys, yl, yr, yt', yf', yv', kt, kf, kv, yg)) : wpY_restore post (yo, ym, ys, yl, yr, yt, yf, yv, kt, kf, kv, yg) (nI s) := by
  have c0 : ∀ (f p : Nat → Int32) (n j : Nat), j < n → rt_cp 0 f n p j = f j := fun f p n j hj => by
    have := cp_i (b := 0) (s := f) (p := p) hj
    rw [Nat.zero_add] at this
    exact this
  unfold wpY_restore
  refine ⟨61, ?_⟩
  have k := ry_rest2 (yo := yo) (ym := ym) (ys := ys) (yl := yl) (yr := yr) (yt := yt) (yf := yf) (yv := yv) (yg := yg) (post := post) hs hS.1 (h _ _ _ (fun r hr => by rw [c0 _ _ _ _ hr]; exact hS.1 r hr) (fun p hp ha => by rw [c0 _ _ _ _ hp]; exact hS.2.1 p hp ha) (fun r hr ha => by rw [c0 _ _ _ _ hr]; exact hS.2.2 r hr ha)) 60 0 rfl
  rw [cp_0, cp_0] at k
  exact k
/-! ===== after a statement ===== -/
theorem ry_chk8 {post : Int32 → SY → Prop} {snd now ans : Int32} {o : Bool} {A2 : Nat → Bool} {F2 : Nat → Nat → Nat} {V2 : Nat → Int32} (eo : yo = rt_b o) (hLB : rt_LB ru li) (hLK : rt_LK ru li yl yr) (hS : rt_YS 4 kt kf kv A2 F2 V2) (hs : ∀ C, C < 6 → ru C ≠ 0 → (ru C ≠ 4 ∨ (!o) = true) → bt snd C = true) (hn : ∀ C, C < 6 → (bt now C = true ↔ (ru C ≠ 0 → rt_S1 li A F C))) (h1 : rt_SD ru li A F (!o) → post ans (yo, ym, ys, yl, yr, yt, yf, yv, kt, kf, kv, yg)) (h0 : ¬ rt_SD ru li A F (!o) → ∀ yt' yf' yv', rt_YH A2 yt' → rt_YF A2 F2 yf' → rt_YV A2 V2 yv' → post (-9) (yo, ym, ys, yl, yr, yt', yf', yv', kt, kf, kv, yg)) : ∀ (d C : Nat), C + d = 6 → (∀ c, c < C → ru c ≠ 0 → (ru c ≠ 4 ∨ (!o) = true) → rt_S1 li A F c) → wY_checked_8 post snd ans now yo ym ys yl yr yt yf yv kt kf kv yg (d + 1) (nI C)
  | 0, C, hd, hc => by
    obtain rfl : C = 6 := by omega
    exact pk_le 6 6 (fun _ => h1 hc) (fun y => absurd y (by omega))
  | d + 1, C, hd, hc => by
    have hC : C < 6 := by omega
    have hu := (hLB C hC).2
    have vC : vp_in (nI C) 6 := vp_in_nI hC (by decide)
    have eU : yr (nI C).toNatClampNeg = rt_e (ru C) := by rw [nI_clamp (by omega), (hLK C hC).2]
    have ih := ry_chk8 eo hLB hLK hS hs hn h1 h0 d (C + 1) (by omega)
    have step : (ru C ≠ 0 → (ru C ≠ 4 ∨ (!o) = true) → rt_S1 li A F C) → wY_checked_8 post snd ans now yo ym ys yl yr yt yf yv kt kf kv yg (d + 1) (nI (C + 1)) := fun g => ih (fun c h6 => by
      by_cases e : c = C
      · rw [e]; exact g
      · exact hc c (by omega))
    have asked : ru C ≠ 0 → (ru C ≠ 4 ∨ (!o) = true) → wY_checked_43 post (wY_checked_8 post snd ans now yo ym ys yl yr yt yf yv kt kf kv yg (d + 1)) snd ans now (nI C) yo ym ys yl yr yt yf yv kt kf kv yg := fun a b => by
      unfold wY_checked_43 wY_checked_48
      refine br_f (by decide) (rt_bo (bt snd C) (fun _ => ?_) (fun e => ?_) (by rw [rt_bbit _ (by omega)]))
      · refine rt_bz (bt now C) (fun e => ?_) (fun e => nm_r (nI_1 C) (step (fun _ _ => (hn C hC).mp e a))) (by rw [rt_bbit _ (by omega)])
        refine ry_restore (s := 4) (by omega) hS (h0 (fun w => ?_))
        have := (hn C hC).mpr (fun _ => w C hC a b)
        rw [e] at this
        exact absurd this (by decide)
      · rw [hs C hC a b] at e; exact absurd e (by decide)
    have skip : ¬ (ru C ≠ 0 ∧ (ru C ≠ 4 ∨ (!o) = true)) → wY_checked_47 post (wY_checked_8 post snd ans now yo ym ys yl yr yt yf yv kt kf kv yg (d + 1)) snd ans now (nI C) yo ym ys yl yr yt yf yv kt kf kv yg := fun a => by
      unfold wY_checked_47 wY_checked_48
      exact br_t rfl (nm_r (nI_1 C) (step (fun x y => absurd ⟨x, y⟩ a)))
    refine pk_le 6 C (fun y => absurd y (by omega)) (fun _ => ⟨vC, ?_⟩)
    refine re_lt (ru C) 1 (fun y => skip (fun w => w.1 (by omega))) (fun y => ⟨vC, ?_⟩) eU rfl
    refine re_lt (ru C) 4 (fun y => asked (by omega) (Or.inl (by omega))) (fun y => ?_) eU rfl
    refine rt_bz o (fun w => asked (by omega) (Or.inr (by rw [w]; rfl))) (fun w => skip (fun q => q.2.elim (fun u => u (by omega)) (fun u => by rw [w] at u; exact absurd u (by decide)))) eo
theorem ry_checked {post : Int32 → SY → Prop} {snd ans : Int32} {o : Bool} {A2 : Nat → Bool} {F2 : Nat → Nat → Nat} {V2 : Nat → Int32} (eo : yo = rt_b o) (hLB : rt_LB ru li) (hLK : rt_LK ru li yl yr) (hB : rt_FB F) (hZ : rt_CF A F) (hT : rt_YH A yt) (hF : rt_YF A F yf) (hS : rt_YS 4 kt kf kv A2 F2 V2) (hs : ∀ C, C < 6 → ru C ≠ 0 → (ru C ≠ 4 ∨ (!o) = true) → bt snd C = true) (h1 : rt_SD ru li A F (!o) → post ans (yo, ym, ys, yl, yr, yt, yf, yv, kt, kf, kv, yg)) (h0 : ¬ rt_SD ru li A F (!o) → ∀ yt' yf' yv', rt_YH A2 yt' → rt_YF A2 F2 yf' → rt_YV A2 V2 yv' → post (-9) (yo, ym, ys, yl, yr, yt', yf', yv', kt, kf, kv, yg)) : wpY_checked post (yo, ym, ys, yl, yr, yt, yf, yv, kt, kf, kv, yg) snd ans := by
  unfold wpY_checked
  exact ry_sl hLB hLK hB hZ hT hF (fun w hw => ⟨7, ry_chk8 eo hLB hLK hS hs hw h1 h0 6 0 rfl (fun c hc => absurd hc (by omega))⟩)
end
end
section
/-! ===== the reference: what goes along ===== -/
section
variable {yo ym ys : Int32} {yl yr yt yf yv kt kf kv yg : Nat → Int32}
variable {A : Nat → Bool} {F : Nat → Nat → Nat} {V : Nat → Int32} {ru li : Nat → Nat}
variable {G : Nat → Bool}
theorem ub_e {r : Nat} {b : Bool} (e : A r = b) : rt_ub A r b = A := by
  funext q
  by_cases h : q = r
  · rw [h, ub_s, e]
  · rw [ub_n h]
theorem rt_YHu {r : Nat} {b : Bool} (h : rt_YH A yt) : rt_YH (rt_ub A r b) (upd yt r (rt_b b)) := fun q hq => by
  by_cases e : q = r
  · rw [e, ub_s, pk_us]
  · rw [ub_n e, pk_un e]; exact h q hq
theorem tg_0 {C k : Nat} (h : rt_tg ru li A F C k < 1) : F C k = 0 ∨ ru C = 0 ∨ A (20 * li C + (F C k - 1)) = false := by
  unfold rt_tg at h
  by_cases q : F C k ≠ 0 ∧ ru C ≠ 0 ∧ A (20 * li C + (F C k - 1)) = true
  · rw [if_pos q] at h; omega
  · by_cases a : F C k = 0
    · exact Or.inl a
    · by_cases b : ru C = 0
      · exact Or.inr (Or.inl b)
      · refine Or.inr (Or.inr ?_)
        cases c : A (20 * li C + (F C k - 1))
        · rfl
        · exact absurd ⟨a, b, c⟩ q
theorem tg_1 {C k : Nat} (h : 1 ≤ rt_tg ru li A F C k) : (F C k ≠ 0 ∧ ru C ≠ 0 ∧ A (20 * li C + (F C k - 1)) = true) ∧ rt_tg ru li A F C k = 20 * li C + (F C k - 1) + 1 := by
  unfold rt_tg at h ⊢
  by_cases q : F C k ≠ 0 ∧ ru C ≠ 0 ∧ A (20 * li C + (F C k - 1)) = true
  · rw [if_pos q]; exact ⟨q, by omega⟩
  · rw [if_neg q] at h; omega
theorem ry_sp40 {post : Int32 → SY → Prop} {J : Int32 → (Nat → Int32) → (Nat → Int32) → (Nat → Int32) → (Nat → Int32) → (Nat → Int32) → (Nat → Int32) → (Nat → Int32) → (Nat → Int32) → (Nat → Int32) → Prop} {G0 : Nat → Bool} {r0 j : Nat} (hLB : rt_LB ru li) (hLK : rt_LK ru li yl yr) (hB : rt_FB F) (hZ : rt_CF A F) (hT : rt_YH A yt) (hF : rt_YF A F yf) (hA : ∀ r, rt_CL ru li F r0 r → A r = true) (hJ : ∀ m G yg', rt_YH G yg' → rt_SU ru li F r0 G → rt_P (fun p => rt_c1 ru li F G0 (p / 40 * 2 + p % 2) (p / 2 % 20)) G0 120 m G → J (nI (j + 1)) yl yr yt yf yv kt kf kv yg') : ∀ (d i : Nat) (m : Bool) (G : Nat → Bool) (yg : Nat → Int32), i + d = 120 → rt_YH G yg → rt_SU ru li F r0 G → rt_P (fun p => rt_c1 ru li F G0 (p / 40 * 2 + p % 2) (p / 2 % 20)) G0 i m G → wY_spread_40 post J (nI j) yo ym ys (d + 1) (nI i) yl yr yt yf yv kt kf kv yg
  | 0, i, m, G, yg, hd, hG, hS, hP => by
    obtain rfl : i = 120 := by omega
    exact pk_le 120 120 (fun _ => nm_r (nI_1 j) (hJ m G yg hG hS hP)) (fun y => absurd y (by omega))
  | d + 1, i, m, G, yg, hd, hG, hS, hP => by
    have ih := ry_sp40 (post := post) hLB hLK hB hZ hT hF hA hJ d (i + 1)
    have hC : i / 40 * 2 + i % 2 < 6 := by omega
    have hk : i / 2 % 20 < 20 := by omega
    have eR : 20 * ((i / 40 * 2 + i % 2) / 2) + i / 2 % 20 = i / 2 := by omega
    have ht := tg_le (A := A) hLB hB hC hk
    have hu := (hLB _ hC).2
    have vr : vp_in (nI i / 2) 60 := pk_in (i / 2) 60 (by omega) (ix_d2 (by omega))
    have er : (nI i / 2).toNatClampNeg = i / 2 := by rw [ix_d2 (by omega), nI_clamp (by omega)]
    have eg : yg (nI i / 2).toNatClampNeg = rt_b (G (i / 2)) := by rw [er, hG _ (by omega)]
    have keep : ∀ b, G (i / 2) = b → rt_c1 ru li F G (i / 40 * 2 + i % 2) (i / 2 % 20) → wY_spread_40 post J (nI j) yo ym ys (d + 1) (nI (i + 1)) yl yr yt yf yv kt kf kv (upd yg (nI i / 2).toNatClampNeg (rt_b b)) := fun b e c => by
      have hG' := rt_YHu (r := i / 2) (b := b) hG
      rw [ub_e e] at hG'
      rw [er]
      refine ih m G _ (by omega) hG' hS ?_
      rcases hP with ⟨pm, pG, pc⟩ | hp
      · refine Or.inl ⟨pm, pG, fun q hq => ?_⟩
        by_cases eq : q = i
        · rw [eq, ← pG]; exact c
        · exact pc q (by omega)
      · exact Or.inr hp
    refine pk_le 120 i (fun y => absurd y (by omega)) (fun y => ?_)
    refine ry_target y hLB hLK hB hZ hT hF ⟨by decide, by decide, vr, ?_⟩
    refine rt_bz (G (i / 2)) (fun e => ?_) (fun e => ⟨vr, nm_e (nm_r (nI_1 i) (keep true e (fun _ _ _ => by rw [eR]; exact e)))⟩) eg
    refine re_lt (rt_tg ru li A F (i / 40 * 2 + i % 2) (i / 2 % 20)) 1 (fun w => ⟨vr, nm_e (nm_r (nI_1 i) (keep false e (fun c1 c2 c3 => ?_)))⟩) (fun w => ?_)
    · rcases tg_0 w with a | a | a
      · exact absurd a c2
      · omega
      · rw [hA _ (hS.2.1 _ c3)] at a; exact absurd a (by decide)
    · obtain ⟨⟨w1, w2, w3⟩, w4⟩ := tg_1 w
      have e5 : rt_e (rt_tg ru li A F (i / 40 * 2 + i % 2) (i / 2 % 20)) = nI (20 * li (i / 40 * 2 + i % 2) + (F (i / 40 * 2 + i % 2) (i / 2 % 20) - 1)) := by rw [w4, rt_eS]
      refine ry_ruleOf y hLK (re_eq (ru (i / 40 * 2 + i % 2)) 2 (fun u => ⟨pk_in _ 60 (by omega) e5, ?_⟩) (fun u => ⟨vr, nm_e (nm_r (nI_1 i) (keep false e (fun c1 => absurd c1 u)))⟩))
      refine rt_bz (G (20 * li (i / 40 * 2 + i % 2) + (F (i / 40 * 2 + i % 2) (i / 2 % 20) - 1))) (fun g => ⟨vr, nm_e (nm_r (nI_1 i) (keep false e (fun _ _ c3 => by rw [g] at c3; exact absurd c3 (by decide))))⟩) (fun g => ⟨vr, nm_e (nm_r (nI_1 i) ?_)⟩) (by rw [e5, nI_clamp (by omega), hG _ (by omega)])
      have hS' := rt_SUu hC hk u w1 hS g
      rw [eR] at hS'
      have hl := rt_ub_lt (by omega : i / 2 < 60) e
      rw [er]
      refine ih true _ _ (by omega) (rt_YHu hG) hS' (Or.inr ⟨rfl, ?_⟩)
      rcases hP with ⟨_, pG, _⟩ | ⟨_, pc⟩
      · rw [← pG]; exact hl
      · omega
theorem ry_sp32 {post : Int32 → SY → Prop} {r0 : Nat} (hLB : rt_LB ru li) (hLK : rt_LK ru li yl yr) (hB : rt_FB F) (hZ : rt_CF A F) (hT : rt_YH A yt) (hF : rt_YF A F yf) (hA : ∀ r, rt_CL ru li F r0 r → A r = true) (h : ∀ yg' G, rt_YH G yg' → rt_IC ru li F r0 G → ∃ n120, wY_spread_120 post yo ym ys yl yr yt yf yv kt kf kv yg' n120 0 0 0) : ∀ (d j : Nat) (G : Nat → Bool) (yg : Nat → Int32), j + d = 60 → rt_YH G yg → rt_SU ru li F r0 G → (rt_IC ru li F r0 G ∨ j < rt_cn G 60) → wY_spread_32 post yo ym ys (d + 1) (nI j) yl yr yt yf yv kt kf kv yg
  | 0, j, G, yg, hd, hG, hS, hP => by
    obtain rfl : j = 60 := by omega
    refine pk_le 60 60 (fun _ => h yg G hG (hP.elim id (fun a => ?_))) (fun y => absurd y (by omega))
    have := cn_n G 60
    omega
  | d + 1, j, G, yg, hd, hG, hS, hP => by
    have ih := ry_sp32 hLB hLK hB hZ hT hF hA h d (j + 1)
    refine pk_le 60 j (fun y => absurd y (by omega)) (fun _ => ⟨121, ?_⟩)
    refine ry_sp40 (r0 := r0) (G0 := G) hLB hLK hB hZ hT hF hA (fun m G' yg' g s p => ih G' yg' (by omega) g s ?_) 120 0 false G yg rfl hG hS (Or.inl ⟨rfl, rfl, fun q hq => absurd hq (by omega)⟩)
    rcases p with ⟨_, pG, pc⟩ | ⟨_, pc⟩
    · refine Or.inl ⟨s, fun C hC k hk => ?_⟩
      have a := pc (40 * (C / 2) + 2 * k + C % 2) (by omega)
      have e1 : (40 * (C / 2) + 2 * k + C % 2) / 40 * 2 + (40 * (C / 2) + 2 * k + C % 2) % 2 = C := by omega
      have e2 : (40 * (C / 2) + 2 * k + C % 2) / 2 % 20 = k := by omega
      rw [pG]
      dsimp only at a
      rw [e1, e2] at a
      exact a
    · rcases hP with a | a
      · have := rt_SUle s a
        omega
      · exact Or.inr (by omega)
theorem ry_sp2 {post : Int32 → SY → Prop} {r0 : Nat} (h0 : r0 < 60) (h : ∀ yg', rt_YH (fun r => decide (r = r0)) yg' → ∃ n32, wY_spread_32 post yo ym ys n32 0 yl yr yt yf yv kt kf kv yg') : ∀ (d i : Nat) (yg : Nat → Int32), i + d = 60 → (∀ r, r < i → yg r = rt_b (decide (r = r0))) → wY_spread_2 post (nI r0) yo ym ys (d + 1) (nI i) yl yr yt yf yv kt kf kv yg
  | 0, i, yg, hi, hg => by
    obtain rfl : i = 60 := by omega
    exact pk_le 60 60 (fun _ => h yg hg) (fun y => absurd y (by omega))
  | d + 1, i, yg, hi, hg => by
    have ih := ry_sp2 h0 h d (i + 1)
    have vi : vp_in (nI i) 60 := vp_in_nI (by omega) (by decide)
    have ei : (nI i).toNatClampNeg = i := nI_clamp (by omega)
    refine pk_le 60 i (fun y => absurd y (by omega)) (fun _ => ?_)
    refine pk_eq i r0 (fun e => ⟨vi, nm_r (e' := upd yg i (rt_b true)) (by rw [ei]; rfl) (nm_r (nI_1 i) (ih _ (by omega) (fun r hr => ?_)))⟩) (fun e => ⟨vi, nm_r (e' := upd yg i (rt_b false)) (by rw [ei]; rfl) (nm_r (nI_1 i) (ih _ (by omega) (fun r hr => ?_)))⟩)
    · by_cases a : r = i
      · rw [a, pk_us, decide_eq_true e]
      · rw [pk_un a]; exact hg r (by omega)
    · by_cases a : r = i
      · rw [a, pk_us, decide_eq_false e]
      · rw [pk_un a]; exact hg r (by omega)
theorem ry_sp180 {post : Int32 → SY → Prop} {J : Int32 → Int32 → Int32 → Prop} {i : Nat} {z : Int32} (hi : i < 120) (hG : rt_YH G yg) (h : J (nI (rt_cn G ((i + 1 + 1) / 2))) z (nI (i + 1))) : wY_spread_180 post J (nI (rt_cn G ((i + 1) / 2))) (nI i) z yo ym ys yl yr yt yf yv kt kf kv yg := by
  have er : (nI i / 2).toNatClampNeg = i / 2 := by rw [ix_d2 (by omega), nI_clamp (by omega)]
  unfold wY_spread_180
  refine ⟨by decide, pk_in (i / 2) 60 (by omega) (ix_d2 (by omega)), ?_⟩
  refine rt_bz (G (i / 2)) (fun e => nm_r (nI_1 i) ?_) (fun e => ⟨by decide, ?_⟩) (by rw [er, hG _ (by omega)])
  · by_cases q : i % 2 = 0
    · rw [show (i + 1 + 1) / 2 = i / 2 + 1 from by omega, cn_S, e] at h
      rw [show (i + 1) / 2 = i / 2 from by omega]
      exact h
    · rw [show (i + 1 + 1) / 2 = (i + 1) / 2 from by omega] at h
      exact h
  · refine pk_eq (i % 2) 0 (fun q => nm_r (nI_1 _) (nm_r (nI_1 i) ?_)) (fun q => nm_r (nI_1 i) ?_) (ix_m2 (by omega)) rfl
    · rw [show (i + 1 + 1) / 2 = i / 2 + 1 from by omega, cn_S, e] at h
      rw [show (i + 1) / 2 = i / 2 from by omega]
      exact h
    · rw [show (i + 1 + 1) / 2 = (i + 1) / 2 from by omega] at h
      exact h
theorem ry_sp120 {post : Int32 → SY → Prop} (hLB : rt_LB ru li) (hLK : rt_LK ru li yl yr) (hB : rt_FB F) (hZ : rt_CF A F) (hT : rt_YH A yt) (hF : rt_YF A F yf) (hG : rt_YH G yg) (hGA : ∀ r, G r = true → A r = true) (h1 : ¬ rt_RE ru li F G → post (nI (rt_cn G 60)) (yo, ym, ys, yl, yr, yt, yf, yv, kt, kf, kv, yg)) (h0 : rt_RE ru li F G → post (-5) (yo, ym, ys, yl, yr, yt, yf, yv, kt, kf, kv, yg)) : ∀ (d i : Nat) (m : Bool), i + d = 120 → (m = true → rt_RE ru li F G) → (m = false → ∀ p, p < i → ¬ (ru (p / 40 * 2 + p % 2) = 1 ∧ F (p / 40 * 2 + p % 2) (p / 2 % 20) ≠ 0 ∧ G (20 * li (p / 40 * 2 + p % 2) + (F (p / 40 * 2 + p % 2) (p / 2 % 20) - 1)) = true ∧ G (20 * ((p / 40 * 2 + p % 2) / 2) + p / 2 % 20) = false)) → wY_spread_120 post yo ym ys yl yr yt yf yv kt kf kv yg (d + 1) (nI (rt_cn G ((i + 1) / 2))) (rt_b m) (nI i)
  | 0, i, m, hd, ht, hf => by
    obtain rfl : i = 120 := by omega
    refine pk_le 120 120 (fun _ => rt_bz m (fun e => h1 (fun w => ?_)) (fun e => h0 (ht e))) (fun y => absurd y (by omega))
    obtain ⟨p, hp, w2⟩ := (rt_e120 (P := fun C k => ru C = 1 ∧ F C k ≠ 0 ∧ G (20 * li C + (F C k - 1)) = true ∧ G (20 * (C / 2) + k) = false)).mpr w
    exact hf e p hp w2
  | d + 1, i, m, hd, ht, hf => by
    have ih := ry_sp120 hLB hLK hB hZ hT hF hG hGA h1 h0 d (i + 1)
    have hC : i / 40 * 2 + i % 2 < 6 := by omega
    have hk : i / 2 % 20 < 20 := by omega
    have eR : 20 * ((i / 40 * 2 + i % 2) / 2) + i / 2 % 20 = i / 2 := by omega
    have htg := tg_le (A := A) hLB hB hC hk
    have hu := (hLB _ hC).2
    have er : (nI i / 2).toNatClampNeg = i / 2 := by rw [ix_d2 (by omega), nI_clamp (by omega)]
    have hi : i < 120 := by omega
    have yes : rt_RE ru li F G → wY_spread_175 post (wY_spread_120 post yo ym ys yl yr yt yf yv kt kf kv yg (d + 1)) (nI (rt_cn G ((i + 1) / 2))) (nI i) yo ym ys yl yr yt yf yv kt kf kv yg := fun w => by
      unfold wY_spread_175
      exact ry_sp180 (z := rt_b true) hi hG (ih true (by omega) (fun _ => w) (fun e => absurd e (by decide)))
    have no : m = false → ¬ (ru (i / 40 * 2 + i % 2) = 1 ∧ F (i / 40 * 2 + i % 2) (i / 2 % 20) ≠ 0 ∧ G (20 * li (i / 40 * 2 + i % 2) + (F (i / 40 * 2 + i % 2) (i / 2 % 20) - 1)) = true ∧ G (20 * ((i / 40 * 2 + i % 2) / 2) + i / 2 % 20) = false) → wY_spread_179 post (wY_spread_120 post yo ym ys yl yr yt yf yv kt kf kv yg (d + 1)) (nI (rt_cn G ((i + 1) / 2))) (nI i) yo ym ys yl yr yt yf yv kt kf kv yg := fun e w => by
      unfold wY_spread_179
      refine ry_sp180 (z := rt_b false) hi hG (ih false (by omega) (fun e => absurd e (by decide)) (fun _ p hp => ?_))
      by_cases q : p = i
      · rw [q]; exact w
      · exact hf e p (by omega)
    refine pk_le 120 i (fun y => absurd y (by omega)) (fun _ => ?_)
    refine ry_target hi hLB hLK hB hZ hT hF ?_
    refine rt_bz m (fun em => ⟨by decide, pk_in (i / 2) 60 (by omega) (ix_d2 (by omega)), ?_⟩) (fun em => yes (ht em))
    refine rt_bz (G (i / 2)) (fun e => ?_) (fun e => no em (fun w => ?_)) (by rw [er, hG _ (by omega)])
    · refine re_lt (rt_tg ru li A F (i / 40 * 2 + i % 2) (i / 2 % 20)) 1 (fun w => no em (fun q => ?_)) (fun w => ?_)
      · rcases tg_0 w with a | a | a
        · exact q.2.1 a
        · omega
        · rw [hGA _ q.2.2.1] at a; exact absurd a (by decide)
      · obtain ⟨⟨w1, w2, w3⟩, w4⟩ := tg_1 w
        have e5 : rt_e (rt_tg ru li A F (i / 40 * 2 + i % 2) (i / 2 % 20)) = nI (20 * li (i / 40 * 2 + i % 2) + (F (i / 40 * 2 + i % 2) (i / 2 % 20) - 1)) := by rw [w4, rt_eS]
        refine ry_ruleOf hi hLK (re_eq (ru (i / 40 * 2 + i % 2)) 1 (fun u => ⟨pk_in _ 60 (by omega) e5, ?_⟩) (fun u => no em (fun q => u q.1)))
        refine rt_bz (G (20 * li (i / 40 * 2 + i % 2) + (F (i / 40 * 2 + i % 2) (i / 2 % 20) - 1))) (fun g => no em (fun q => ?_)) (fun g => yes ⟨_, _, hC, hk, u, w1, g, by rw [eR]; exact e⟩) (by rw [e5, nI_clamp (by omega), hG _ (by omega)])
        rw [g] at q
        exact absurd q.2.2.1 (by decide)
    · rw [eR, e] at w
      exact absurd w.2.2.2 (by decide)
theorem ry_spread {post : Int32 → SY → Prop} {r0 : Nat} (hr : r0 < 60) (hLB : rt_LB ru li) (hLK : rt_LK ru li yl yr) (hB : rt_FB F) (hC : rt_CN A F V) (hT : rt_YH A yt) (hF : rt_YF A F yf) (ha : A r0 = true) (h : ∀ yg' G, rt_YH G yg' → rt_IC ru li F r0 G → (¬ rt_RE ru li F G → post (nI (rt_cn G 60)) (yo, ym, ys, yl, yr, yt, yf, yv, kt, kf, kv, yg')) ∧ (rt_RE ru li F G → post (-5) (yo, ym, ys, yl, yr, yt, yf, yv, kt, kf, kv, yg'))) : wpY_spread post (yo, ym, ys, yl, yr, yt, yf, yv, kt, kf, kv, yg) (nI r0) := by
  have hA : ∀ r, rt_CL ru li F r0 r → A r = true := fun r c => rt_ICA hC ha c
  unfold wpY_spread
  refine ⟨61, ry_sp2 hr (fun yg1 hg1 => ⟨61, ?_⟩) 60 0 yg rfl (fun r h3 => absurd h3 (by omega))⟩
  refine ry_sp32 (r0 := r0) hLB hLK hB hC.2.1 hT hF hA (fun yg2 G hG hI => ⟨121, ?_⟩) 60 0 (fun r => decide (r = r0)) yg1 rfl hg1 ⟨?_, fun r hr => ?_, fun r hr => ?_⟩ (Or.inr ?_)
  · exact ry_sp120 hLB hLK hB hC.2.1 hT hF hG (fun r g => hA r (hI.1.2.1 r g)) (h yg2 G hG hI).1 (h yg2 G hG hI).2 120 0 false rfl (fun e => absurd e (by decide)) (fun _ p hp => absurd hp (by omega))
  · exact decide_eq_true rfl
  · have e : r = r0 := of_decide_eq_true hr
    rw [e]
    exact fun S s0 _ => s0
  · exact decide_eq_false (by omega)
  · exact cn_pos (a := r0) hr (decide_eq_true rfl)
end
end
section
/-! ===== the reference: statements ===== -/
theorem rt_ifc {P Q : Prop} [Decidable P] [Decidable Q] {a b : Nat} (h : P ↔ Q) : (if P then a else b) = if Q then a else b := by
  by_cases p : P
  · rw [if_pos p, if_pos (h.mp p)]
  · rw [if_neg p, if_neg (fun q => p (h.mpr q))]
/-- LETS_GO: references below i (in the reference's order) -/
def rt_rp (ru li : Nat → Nat) (F : Nat → Nat → Nat) (G : Nat → Bool) (i : Nat) : Nat → Nat → Nat := fun C k => if 40 * (C / 2) + 2 * k + C % 2 < i ∧ ru C = 3 ∧ F C k ≠ 0 ∧ G (20 * li C + (F C k - 1)) = true ∧ G (20 * (C / 2) + k) = false then 0 else F C k
/-- references to key v of table t below i that follow or let go -/
def rt_fp (ru li : Nat → Nat) (F : Nat → Nat → Nat) (t v n i : Nat) : Nat → Nat → Nat := fun C k => if 40 * (C / 2) + 2 * k + C % 2 < i ∧ (ru C = 2 ∨ ru C = 3) ∧ li C = t ∧ F C k = v + 1 then (if ru C = 2 then n + 1 else 0) else F C k
def rt_fn (ru li : Nat → Nat) (F : Nat → Nat → Nat) (t v i : Nat) : Nat := rt_sm (fun p => if (ru (p / 40 * 2 + p % 2) = 2 ∨ ru (p / 40 * 2 + p % 2) = 3) ∧ li (p / 40 * 2 + p % 2) = t ∧ F (p / 40 * 2 + p % 2) (p / 2 % 20) = v + 1 then 1 else 0) i
section
variable {yo ym ys : Int32} {yl yr yt yf yv kt kf kv yg : Nat → Int32}
variable {A : Nat → Bool} {F : Nat → Nat → Nat} {V : Nat → Int32} {ru li : Nat → Nat}
variable {G : Nat → Bool}
theorem rt_YFu {F' : Nat → Nat → Nat} {i : Nat} {x : Int32} (h : rt_YF A F yf) (e : ∀ p, p < 120 → p ≠ i → F' (p / 40 * 2 + p % 2) (p / 2 % 20) = F (p / 40 * 2 + p % 2) (p / 2 % 20)) (ex : A (i / 2) = true → x = rt_e (F' (i / 40 * 2 + i % 2) (i / 2 % 20))) : rt_YF A F' (upd yf i x) := fun p hp ha => by
  by_cases q : p = i
  · subst q
    rw [pk_us]; exact ex ha
  · rw [pk_un q, e p hp q]; exact h p hp ha
theorem rp_0 : rt_rp ru li F G 0 = F := by
  funext C k
  exact if_neg (by omega)
theorem rp_B {i : Nat} (hB : rt_FB F) : rt_FB (rt_rp ru li F G i) := fun C hC k hk => by
  unfold rt_rp
  by_cases b : 40 * (C / 2) + 2 * k + C % 2 < i ∧ ru C = 3 ∧ F C k ≠ 0 ∧ G (20 * li C + (F C k - 1)) = true ∧ G (20 * (C / 2) + k) = false
  · rw [if_pos b]; omega
  · rw [if_neg b]; exact hB C hC k hk
theorem rp_Z {i : Nat} (hZ : rt_CF A F) : rt_CF A (rt_rp ru li F G i) := fun C hC k hk ha => by
  unfold rt_rp
  by_cases b : 40 * (C / 2) + 2 * k + C % 2 < i ∧ ru C = 3 ∧ F C k ≠ 0 ∧ G (20 * li C + (F C k - 1)) = true ∧ G (20 * (C / 2) + k) = false
  · rw [if_pos b]
  · rw [if_neg b]; exact hZ C hC k hk ha
theorem rp_c (i : Nat) : rt_rp ru li F G i (i / 40 * 2 + i % 2) (i / 2 % 20) = F (i / 40 * 2 + i % 2) (i / 2 % 20) := if_neg (fun z => by omega)
theorem rp_o {i p : Nat} (h : p ≠ i) : rt_rp ru li F G (i + 1) (p / 40 * 2 + p % 2) (p / 2 % 20) = rt_rp ru li F G i (p / 40 * 2 + p % 2) (p / 2 % 20) := by
  unfold rt_rp
  exact rt_ifc (and_congr (by omega) Iff.rfl)
theorem rp_6 {C k : Nat} (hC : C < 6) (hk : k < 20) : rt_rp ru li F G 120 C k = rt_rm ru li F G 6 C k := by
  unfold rt_rp rt_rm
  exact rt_ifc (and_congr (by omega) Iff.rfl)
theorem ry_rem53 {post : Int32 → SY → Prop} {x3 x4 : Int32} (hLB : rt_LB ru li) (hLK : rt_LK ru li yl yr) (hB : rt_FB F) (hZ : rt_CF A F) (hT : rt_YH A yt) (hG : rt_YH G yg) (hGA : ∀ r, G r = true → A r = true) (h : ∀ yf', rt_YF A (rt_rp ru li F G 120) yf' → ∃ n132, wY_remove_132 post x3 x4 yo ym ys n132 0 yl yr yt yf' yv kt kf kv yg) : ∀ (d i : Nat) (yf : Nat → Int32), i + d = 120 → rt_YF A (rt_rp ru li F G i) yf → wY_remove_53 post x3 x4 yo ym ys (d + 1) (nI i) yl yr yt yf yv kt kf kv yg
  | 0, i, yf, hd, hF => by
    obtain rfl : i = 120 := by omega
    exact pk_le 120 120 (fun _ => h yf hF) (fun y => absurd y (by omega))
  | d + 1, i, yf, hd, hF => by
    have ih := ry_rem53 hLB hLK hB hZ hT hG hGA h d (i + 1)
    have hC : i / 40 * 2 + i % 2 < 6 := by omega
    have hk : i / 2 % 20 < 20 := by omega
    have eR : 20 * ((i / 40 * 2 + i % 2) / 2) + i / 2 % 20 = i / 2 := by omega
    have eI : 40 * ((i / 40 * 2 + i % 2) / 2) + 2 * (i / 2 % 20) + (i / 40 * 2 + i % 2) % 2 = i := by omega
    have ht := tg_le (A := A) hLB hB hC hk
    have hu := (hLB _ hC).2
    have hi : i < 120 := by omega
    have vi : vp_in (nI i) 120 := vp_in_nI hi (by decide)
    have ei : (nI i).toNatClampNeg = i := nI_clamp (by omega)
    have er : (nI i / 2).toNatClampNeg = i / 2 := by rw [ix_d2 (by omega), nI_clamp (by omega)]
    have et : rt_tg ru li A (rt_rp ru li F G i) (i / 40 * 2 + i % 2) (i / 2 % 20) = rt_tg ru li A F (i / 40 * 2 + i % 2) (i / 2 % 20) := by
      unfold rt_tg
      rw [rp_c]
    have keep : ¬ (ru (i / 40 * 2 + i % 2) = 3 ∧ F (i / 40 * 2 + i % 2) (i / 2 % 20) ≠ 0 ∧ G (20 * li (i / 40 * 2 + i % 2) + (F (i / 40 * 2 + i % 2) (i / 2 % 20) - 1)) = true ∧ G (20 * ((i / 40 * 2 + i % 2) / 2) + i / 2 % 20) = false) → wY_remove_53 post x3 x4 yo ym ys (d + 1) (nI (i + 1)) yl yr yt (upd yf (nI i).toNatClampNeg (yf (nI i).toNatClampNeg)) yv kt kf kv yg := fun c => by
      rw [ei]
      refine ih _ (by omega) (rt_YFu hF (fun p hp hpi => rp_o hpi) (fun ha => ?_))
      rw [hF i hi ha, rp_c]
      exact congrArg rt_e (if_neg (fun z => c z.2)).symm
    refine pk_le 120 i (fun y => absurd y (by omega)) (fun y => ?_)
    refine ry_target hi hLB hLK (rp_B hB) (rp_Z hZ) hT hF ?_
    rw [et]
    refine re_lt (rt_tg ru li A F (i / 40 * 2 + i % 2) (i / 2 % 20)) 1 (fun w => ⟨vi, vi, nm_e (nm_r (nI_1 i) (keep (fun q => ?_)))⟩) (fun w => ?_)
    · rcases tg_0 w with a | a | a
      · exact q.2.1 a
      · omega
      · rw [hGA _ q.2.2.1] at a; exact absurd a (by decide)
    · obtain ⟨⟨w1, w2, w3⟩, w4⟩ := tg_1 w
      have e5 : rt_e (rt_tg ru li A F (i / 40 * 2 + i % 2) (i / 2 % 20)) = nI (20 * li (i / 40 * 2 + i % 2) + (F (i / 40 * 2 + i % 2) (i / 2 % 20) - 1)) := by rw [w4, rt_eS]
      refine ry_ruleOf hi hLK (re_eq (ru (i / 40 * 2 + i % 2)) 3 (fun u => ⟨pk_in _ 60 (by omega) e5, ?_⟩) (fun u => ⟨vi, vi, nm_e (nm_r (nI_1 i) (keep (fun q => u q.1)))⟩))
      refine rt_bz (G (20 * li (i / 40 * 2 + i % 2) + (F (i / 40 * 2 + i % 2) (i / 2 % 20) - 1))) (fun g => ⟨vi, vi, nm_e (nm_r (nI_1 i) (keep (fun q => by rw [g] at q; exact absurd q.2.2.1 (by decide))))⟩) (fun g => ⟨by decide, pk_in (i / 2) 60 (by omega) (ix_d2 (by omega)), ?_⟩) (by rw [e5, nI_clamp (by omega), hG _ (by omega)])
      refine rt_bz (G (i / 2)) (fun e => ⟨vi, nm_e (nm_r (nI_1 i) ?_)⟩) (fun e => ⟨vi, vi, nm_e (nm_r (nI_1 i) (keep (fun q => by rw [eR, e] at q; exact absurd q.2.2.2 (by decide))))⟩) (by rw [er, hG _ (by omega)])
      rw [ei]
      refine ih _ (by omega) (rt_YFu hF (fun p hp hpi => rp_o hpi) (fun ha => ?_))
      rw [← rt_e0]
      exact congrArg rt_e (if_pos ⟨by omega, u, w1, g, by rw [eR]; exact e⟩).symm
theorem dA_u {i : Nat} : rt_ub (rt_dA A G i) i (A i && !G i) = rt_dA A G (i + 1) := by
  funext r
  by_cases a : r = i
  · rw [a, ub_s]
    unfold rt_dA
    rw [decide_eq_true (by omega), Bool.true_and]
  · rw [ub_n a]
    unfold rt_dA
    by_cases b : r < i
    · rw [decide_eq_true b, decide_eq_true (by omega)]
    · rw [decide_eq_false b, decide_eq_false (by omega)]
theorem ry_rem132 {post : Int32 → SY → Prop} {x3 x4 : Int32} (hG : rt_YH G yg) (h : ∀ yt', rt_YH (rt_dA A G 60) yt' → wpY_checked post (yo, ym, ys, yl, yr, yt', yf, yv, kt, kf, kv, yg) x4 x3) : ∀ (d i : Nat) (yt : Nat → Int32), i + d = 60 → rt_YH (rt_dA A G i) yt → wY_remove_132 post x3 x4 yo ym ys (d + 1) (nI i) yl yr yt yf yv kt kf kv yg
  | 0, i, yt, hd, hT => by
    obtain rfl : i = 60 := by omega
    exact pk_le 60 60 (fun _ => h yt hT) (fun y => absurd y (by omega))
  | d + 1, i, yt, hd, hT => by
    have ih := ry_rem132 hG h d (i + 1)
    have vi : vp_in (nI i) 60 := vp_in_nI (by omega) (by decide)
    have ei : (nI i).toNatClampNeg = i := nI_clamp (by omega)
    have ea : rt_dA A G i i = A i := by
      unfold rt_dA
      rw [decide_eq_false (by omega), Bool.false_and, Bool.not_false, Bool.and_true]
    have go : ∀ b, (A i && !G i) = b → wY_remove_132 post x3 x4 yo ym ys (d + 1) (nI (i + 1)) yl yr (upd yt (nI i).toNatClampNeg (rt_b b)) yf yv kt kf kv yg := fun b e => by
      have hT' := rt_YHu (r := i) (b := b) hT
      rw [← e, dA_u] at hT'
      rw [ei]
      rw [e] at hT'
      exact ih _ (by omega) hT'
    refine pk_le 60 i (fun y => absurd y (by omega)) (fun y => ⟨vi, ?_⟩)
    refine rt_bz (A i) (fun e => ⟨vi, nm_e (nm_r (nI_1 i) (go false (by rw [e]; rfl)))⟩) (fun e => ⟨vi, ?_⟩) (by rw [ei, hT i y, ea])
    exact rt_bz (G i) (fun g => ⟨vi, nm_e (nm_r (nI_1 i) (go true (by rw [e, g]; rfl)))⟩) (fun g => ⟨vi, nm_e (nm_r (nI_1 i) (go false (by rw [e, g]; rfl)))⟩) (by rw [ei, hG i y])
/-! ===== rekey ===== -/
theorem fp_0 {t v n : Nat} : rt_fp ru li F t v n 0 = F := by
  funext C k
  exact if_neg (by omega)
theorem fp_B {t v n i : Nat} (hn : n < 20) (hB : rt_FB F) : rt_FB (rt_fp ru li F t v n i) := fun C hC k hk => by
  unfold rt_fp
  by_cases b : 40 * (C / 2) + 2 * k + C % 2 < i ∧ (ru C = 2 ∨ ru C = 3) ∧ li C = t ∧ F C k = v + 1
  · rw [if_pos b]
    by_cases q : ru C = 2
    · rw [if_pos q]; omega
    · rw [if_neg q]; omega
  · rw [if_neg b]; exact hB C hC k hk
theorem fp_Z {t v n i : Nat} (hZ : rt_CF A F) : rt_CF A (rt_fp ru li F t v n i) := fun C hC k hk ha => by
  have z := hZ C hC k hk ha
  unfold rt_fp
  rw [if_neg (fun q => by omega)]
  exact z
theorem fp_c {t v n : Nat} (i : Nat) : rt_fp ru li F t v n i (i / 40 * 2 + i % 2) (i / 2 % 20) = F (i / 40 * 2 + i % 2) (i / 2 % 20) := if_neg (fun z => by omega)
theorem fp_o {t v n i p : Nat} (h : p ≠ i) : rt_fp ru li F t v n (i + 1) (p / 40 * 2 + p % 2) (p / 2 % 20) = rt_fp ru li F t v n i (p / 40 * 2 + p % 2) (p / 2 % 20) := by
  unfold rt_fp
  exact rt_ifc (and_congr (by omega) Iff.rfl)
theorem fp_6 {t v n C k : Nat} (hC : C < 6) (hk : k < 20) : rt_fp ru li F t v n 120 C k = rt_tu ru li F t v n 6 C k := by
  unfold rt_fp rt_tu
  exact rt_ifc (and_congr (by omega) Iff.rfl)
theorem fn_6 {t v : Nat} : rt_fn ru li F t v 120 = rt_tn ru li F t v 6 := by
  have e := rt_120 (fun C k => if (ru C = 2 ∨ ru C = 3) ∧ li C = t ∧ F C k = v + 1 then 1 else 0)
  unfold rt_fn rt_tn
  rw [e]
  refine sm_congr (fun C hC => ?_)
  by_cases q : (ru C = 2 ∨ ru C = 3) ∧ li C = t
  · rw [if_pos q]
    refine sm_congr (fun k hk => ?_)
    show _ = (decide (F C k = v + 1)).toNat
    by_cases f : F C k = v + 1
    · rw [if_pos ⟨q.1, q.2, f⟩, decide_eq_true f]; rfl
    · rw [if_neg (fun z => f z.2.2), decide_eq_false f]; rfl
  · rw [if_neg q]
    exact sm_zero (fun k hk => if_neg (fun z => q ⟨z.1, z.2.1⟩))
/-- is it the row with key v of table t -/
theorem tg_r {t v C k : Nat} (hLB : rt_LB ru li) (hB : rt_FB F) (hC : C < 6) (hk : k < 20) (hv : v < 20) (ha : A (20 * t + v) = true) : rt_tg ru li A F C k = 20 * t + v + 1 ↔ ru C ≠ 0 ∧ li C = t ∧ F C k = v + 1 := by
  have hl := (hLB C hC).1
  have hb := hB C hC k hk
  constructor
  · intro e
    obtain ⟨⟨w1, w2, w3⟩, w4⟩ := tg_1 (by omega : 1 ≤ rt_tg ru li A F C k)
    refine ⟨w2, ?_, ?_⟩
    · omega
    · omega
  · rintro ⟨a, b, c⟩
    unfold rt_tg
    rw [if_pos ⟨by omega, a, by rw [b, c, Nat.add_sub_cancel]; exact ha⟩, b, c]
    omega
theorem ry_fol5 {post : Int32 → SY → Prop} {t v n : Nat} (ht : t < 3) (hv : v < 20) (hn : n < 20) (hLB : rt_LB ru li) (hLK : rt_LK ru li yl yr) (hB : rt_FB F) (hZ : rt_CF A F) (hT : rt_YH A yt) (ha : A (20 * t + v) = true) (h : ∀ yf', rt_YF A (rt_fp ru li F t v n 120) yf' → post (nI (rt_fn ru li F t v 120)) (yo, ym, ys, yl, yr, yt, yf', yv, kt, kf, kv, yg)) : ∀ (d i : Nat) (yf : Nat → Int32), i + d = 120 → rt_YF A (rt_fp ru li F t v n i) yf → wY_follow_5 post (nI (20 * t + v)) (nI n) yo ym ys (d + 1) (nI (rt_fn ru li F t v i)) (nI i) yl yr yt yf yv kt kf kv yg
  | 0, i, yf, hd, hF => by
    obtain rfl : i = 120 := by omega
    exact pk_le 120 120 (fun _ => h yf hF) (fun y => absurd y (by omega))
  | d + 1, i, yf, hd, hF => by
    have ih := ry_fol5 ht hv hn hLB hLK hB hZ hT ha h d (i + 1)
    have hC : i / 40 * 2 + i % 2 < 6 := by omega
    have hk : i / 2 % 20 < 20 := by omega
    have eI : 40 * ((i / 40 * 2 + i % 2) / 2) + 2 * (i / 2 % 20) + (i / 40 * 2 + i % 2) % 2 = i := by omega
    have htg := tg_le (A := A) hLB hB hC hk
    have hu := (hLB _ hC).2
    have hi : i < 120 := by omega
    have vi : vp_in (nI i) 120 := vp_in_nI hi (by decide)
    have ei : (nI i).toNatClampNeg = i := nI_clamp (by omega)
    have tr := tg_r (t := t) (v := v) hLB hB hC hk hv ha
    have et : rt_tg ru li A (rt_fp ru li F t v n i) (i / 40 * 2 + i % 2) (i / 2 % 20) = rt_tg ru li A F (i / 40 * 2 + i % 2) (i / 2 % 20) := by
      unfold rt_tg
      rw [fp_c]
    have fs : rt_fn ru li F t v (i + 1) = rt_fn ru li F t v i + (if (ru (i / 40 * 2 + i % 2) = 2 ∨ ru (i / 40 * 2 + i % 2) = 3) ∧ li (i / 40 * 2 + i % 2) = t ∧ F (i / 40 * 2 + i % 2) (i / 2 % 20) = v + 1 then 1 else 0) := rfl
    have keep : ¬ ((ru (i / 40 * 2 + i % 2) = 2 ∨ ru (i / 40 * 2 + i % 2) = 3) ∧ li (i / 40 * 2 + i % 2) = t ∧ F (i / 40 * 2 + i % 2) (i / 2 % 20) = v + 1) → wY_follow_5 post (nI (20 * t + v)) (nI n) yo ym ys (d + 1) (nI (rt_fn ru li F t v i)) (nI (i + 1)) yl yr yt yf yv kt kf kv yg := fun c => by
      rw [if_neg c, Nat.add_zero] at fs
      rw [fs] at ih
      refine ih _ (by omega) (fun p hp hap => ?_)
      by_cases q : p = i
      · subst q
        rw [hF p hp hap, fp_c]
        exact congrArg rt_e (if_neg (fun z => c z.2)).symm
      · rw [fp_o q]; exact hF p hp hap
    have turn : (ru (i / 40 * 2 + i % 2) = 2 ∨ ru (i / 40 * 2 + i % 2) = 3) ∧ li (i / 40 * 2 + i % 2) = t ∧ F (i / 40 * 2 + i % 2) (i / 2 % 20) = v + 1 → wY_follow_46 post (wY_follow_5 post (nI (20 * t + v)) (nI n) yo ym ys (d + 1)) (nI (20 * t + v)) (nI n) (nI (rt_fn ru li F t v i)) (nI i) yo ym ys yl yr yt yf yv kt kf kv yg := fun c => by
      rw [if_pos c] at fs
      rw [fs] at ih
      unfold wY_follow_46
      refine ry_ruleOf hi hLK (re_eq (ru (i / 40 * 2 + i % 2)) 2 (fun u => ⟨vi, nm_e (nm_r (nI_1 _) (nm_r (nI_1 i) ?_))⟩) (fun u => ⟨vi, nm_e (nm_r (nI_1 _) (nm_r (nI_1 i) ?_))⟩))
      · rw [ei]
        refine ih _ (by omega) (rt_YFu hF (fun p hp hpi => fp_o hpi) (fun _ => ?_))
        rw [← rt_eS n]
        refine congrArg rt_e ?_
        unfold rt_fp
        rw [if_pos ⟨by omega, c⟩, if_pos u]
      · rw [ei]
        refine ih _ (by omega) (rt_YFu hF (fun p hp hpi => fp_o hpi) (fun _ => ?_))
        rw [← rt_e0]
        refine congrArg rt_e ?_
        unfold rt_fp
        rw [if_pos ⟨by omega, c⟩, if_neg u]
    refine pk_le 120 i (fun y => absurd y (by omega)) (fun y => ?_)
    refine ry_target hi hLB hLK (fp_B hn hB) (fp_Z hZ) hT hF ?_
    rw [et]
    refine re_eq (rt_tg ru li A F (i / 40 * 2 + i % 2) (i / 2 % 20)) (20 * t + v + 1) (fun w => ?_) (fun w => nm_r (nI_1 i) (keep (fun c => w (tr.mpr ⟨by omega, c.2⟩)))) rfl (rt_eS _).symm
    have w2 := tr.mp w
    refine ry_ruleOf hi hLK (re_eq (ru (i / 40 * 2 + i % 2)) 2 (fun u => turn ⟨Or.inl u, w2.2⟩) (fun u => ?_))
    exact ry_ruleOf hi hLK (re_eq (ru (i / 40 * 2 + i % 2)) 3 (fun u2 => turn ⟨Or.inr u2, w2.2⟩) (fun u2 => nm_r (nI_1 i) (keep (fun c => c.1.elim u u2))))
theorem ry_follow {post : Int32 → SY → Prop} {t v n : Nat} (ht : t < 3) (hv : v < 20) (hn : n < 20) (hLB : rt_LB ru li) (hLK : rt_LK ru li yl yr) (hB : rt_FB F) (hZ : rt_CF A F) (hT : rt_YH A yt) (hF : rt_YF A F yf) (ha : A (20 * t + v) = true) (h : ∀ yf', rt_YF A (rt_tu ru li F t v n 6) yf' → post (nI (rt_tn ru li F t v 6)) (yo, ym, ys, yl, yr, yt, yf', yv, kt, kf, kv, yg)) : wpY_follow post (yo, ym, ys, yl, yr, yt, yf, yv, kt, kf, kv, yg) (nI (20 * t + v)) (nI n) := by
  unfold wpY_follow
  refine ⟨121, ry_fol5 ht hv hn hLB hLK hB hZ hT ha (fun yf' hf => ?_) 120 0 yf rfl (by rw [fp_0]; exact hF)⟩
  rw [fn_6]
  refine h yf' (fun p hp hap => ?_)
  rw [hf p hp hap, fp_6 (by omega) (by omega)]
theorem ry_held4 {post : Int32 → Prop} {t v : Nat} (ht : t < 3) (hv : v < 20) (hLB : rt_LB ru li) (hLK : rt_LK ru li yl yr) (hB : rt_FB F) (hZ : rt_CF A F) (hT : rt_YH A yt) (hF : rt_YF A F yf) (ha : A (20 * t + v) = true) (h1 : (∃ C k, C < 6 ∧ k < 20 ∧ (ru C = 1 ∧ li C = t ∧ F C k = v + 1)) → post 1) (h0 : ¬ (∃ C k, C < 6 ∧ k < 20 ∧ (ru C = 1 ∧ li C = t ∧ F C k = v + 1)) → post 0) : ∀ (d i : Nat) (m : Bool), i + d = 120 → (m = true → ∃ C k, C < 6 ∧ k < 20 ∧ (ru C = 1 ∧ li C = t ∧ F C k = v + 1)) → (m = false → ∀ p, p < i → ¬ (ru (p / 40 * 2 + p % 2) = 1 ∧ li (p / 40 * 2 + p % 2) = t ∧ F (p / 40 * 2 + p % 2) (p / 2 % 20) = v + 1)) → wY_isHeld_4 post (nI (20 * t + v)) yo ym ys yl yr yt yf yv kt kf kv yg (d + 1) (rt_b m) (nI i)
  | 0, i, m, hd, hm, hf => by
    obtain rfl : i = 120 := by omega
    refine pk_le 120 120 (fun _ => ⟨by cases m <;> rfl, ?_⟩) (fun y => absurd y (by omega))
    cases m
    · refine h0 (fun w => ?_)
      obtain ⟨p, hp, w2⟩ := (rt_e120 (P := fun C k => ru C = 1 ∧ li C = t ∧ F C k = v + 1)).mpr w
      exact hf rfl p hp w2
    · exact h1 (hm rfl)
  | d + 1, i, m, hd, hm, hf => by
    have ih := ry_held4 ht hv hLB hLK hB hZ hT hF ha h1 h0 d (i + 1)
    have hC : i / 40 * 2 + i % 2 < 6 := by omega
    have hk : i / 2 % 20 < 20 := by omega
    have htg := tg_le (A := A) hLB hB hC hk
    have hu := (hLB _ hC).2
    have hi : i < 120 := by omega
    have tr := tg_r (t := t) (v := v) hLB hB hC hk hv ha
    have yes : (∃ C k, C < 6 ∧ k < 20 ∧ (ru C = 1 ∧ li C = t ∧ F C k = v + 1)) → wY_isHeld_4 post (nI (20 * t + v)) yo ym ys yl yr yt yf yv kt kf kv yg (d + 1) (rt_b true) (nI (i + 1)) := fun w => ih true (by omega) (fun _ => w) (fun e => absurd e (by decide))
    have no : m = false → ¬ (ru (i / 40 * 2 + i % 2) = 1 ∧ li (i / 40 * 2 + i % 2) = t ∧ F (i / 40 * 2 + i % 2) (i / 2 % 20) = v + 1) → wY_isHeld_4 post (nI (20 * t + v)) yo ym ys yl yr yt yf yv kt kf kv yg (d + 1) (rt_b false) (nI (i + 1)) := fun e w => ih false (by omega) (fun e => absurd e (by decide)) (fun _ p hp => by
      by_cases q : p = i
      · rw [q]; exact w
      · exact hf e p (by omega))
    refine pk_le 120 i (fun y => absurd y (by omega)) (fun y => ?_)
    refine ry_target hi hLB hLK hB hZ hT hF ?_
    refine rt_bz m (fun em => ?_) (fun em => nm_r (nI_1 i) (yes (hm em)))
    refine re_eq (rt_tg ru li A F (i / 40 * 2 + i % 2) (i / 2 % 20)) (20 * t + v + 1) (fun w => ?_) (fun w => nm_r (nI_1 i) (no em (fun c => w (tr.mpr ⟨by omega, c.2⟩)))) rfl (rt_eS _).symm
    exact ry_ruleOf hi hLK (re_eq (ru (i / 40 * 2 + i % 2)) 1 (fun u => nm_r (nI_1 i) (yes ⟨_, _, hC, hk, u, (tr.mp w).2⟩)) (fun u => nm_r (nI_1 i) (no em (fun c => u c.1))))
theorem ry_held {post : Int32 → Prop} {t v : Nat} (ht : t < 3) (hv : v < 20) (hLB : rt_LB ru li) (hLK : rt_LK ru li yl yr) (hB : rt_FB F) (hZ : rt_CF A F) (hT : rt_YH A yt) (hF : rt_YF A F yf) (ha : A (20 * t + v) = true) (h1 : (∃ C k, C < 6 ∧ k < 20 ∧ (ru C = 1 ∧ li C = t ∧ F C k = v + 1)) → post 1) (h0 : ¬ (∃ C k, C < 6 ∧ k < 20 ∧ (ru C = 1 ∧ li C = t ∧ F C k = v + 1)) → post 0) : wpY_isHeld post (yo, ym, ys, yl, yr, yt, yf, yv, kt, kf, kv, yg) (nI (20 * t + v)) :=
  ⟨121, ry_held4 ht hv hLB hLK hB hZ hT hF ha h1 h0 120 0 false rfl (fun e => absurd e (by decide)) (fun _ p hp => absurd hp (by omega))⟩
/-! ===== commit ===== -/
theorem ry_com16 {post : Int32 → SY → Prop} {now : Int32} (hLB : rt_LB ru li) (hLK : rt_LK ru li yl yr) (hs : ∀ C, C < 6 → bt ys C = true) (hn : ∀ C, C < 6 → (bt now C = true ↔ (ru C ≠ 0 → rt_S1 li A F C))) (h1 : (∀ C, C < 6 → ru C = 4 → rt_S1 li A F C) → post 1 (0, ym, ys, yl, yr, yt, yf, yv, kt, kf, kv, yg)) (h0 : ¬ (∀ C, C < 6 → ru C = 4 → rt_S1 li A F C) → post (-9) (yo, ym, ys, yl, yr, yt, yf, yv, kt, kf, kv, yg)) : ∀ (d C : Nat), C + d = 6 → (∀ c, c < C → ru c = 4 → rt_S1 li A F c) → wY_commit_16 post now yo ym ys yl yr yt yf yv kt kf kv yg (d + 1) (nI C)
  | 0, C, hd, hc => by
    obtain rfl : C = 6 := by omega
    exact pk_le 6 6 (fun _ => h1 hc) (fun y => absurd y (by omega))
  | d + 1, C, hd, hc => by
    have hC : C < 6 := by omega
    have hu := (hLB C hC).2
    have ih := ry_com16 hLB hLK hs hn h1 h0 d (C + 1) (by omega)
    have step : (ru C = 4 → rt_S1 li A F C) → wY_commit_16 post now yo ym ys yl yr yt yf yv kt kf kv yg (d + 1) (nI (C + 1)) := fun g => ih (fun c h6 => by
      by_cases e : c = C
      · rw [e]; exact g
      · exact hc c (by omega))
    refine pk_le 6 C (fun y => absurd y (by omega)) (fun _ => ⟨vp_in_nI hC (by decide), ?_⟩)
    refine re_eq (ru C) 4 (fun u => ?_) (fun u => nm_r (nI_1 C) (step (fun e => absurd e u))) (by rw [nI_clamp (by omega), (hLK C hC).2]) rfl
    refine rt_bo (bt ys C) (fun _ => ?_) (fun e => by rw [hs C hC] at e; exact absurd e (by decide)) (by rw [rt_bbit _ (by omega)])
    refine rt_bz (bt now C) (fun e => h0 (fun w => ?_)) (fun e => nm_r (nI_1 C) (step (fun _ => (hn C hC).mp e (by omega)))) (by rw [rt_bbit _ (by omega)])
    have := (hn C hC).mpr (fun _ => w C hC u)
    rw [e] at this
    exact absurd this (by decide)
end
end
section
/-! ===== links and questions: the loops of both ===== -/
section
variable {xo xm : Int32} {xl xr xt xf xv xh xp xg : Nat → Int32}
variable {yo ym ys : Int32} {yl yr yt yf yv kt kf kv yg : Nat → Int32}
variable {A : Nat → Bool} {F : Nat → Nat → Nat} {V : Nat → Int32} {ru li : Nat → Nat}
theorem rx_link67 {post : Int32 → SX → Prop} {x3 x4 : Int32} {C : Nat} (hC : C < 6) (hB : rt_FB F) (hH : rt_HO F xh) (h1 : (∃ k, k < 20 ∧ F C k ≠ 0) → post (-5) (xo, xm, xl, xr, xt, xf, xv, xh, xp, xg)) (h0 : ¬ (∃ k, k < 20 ∧ F C k ≠ 0) → wX_link_67 post x3 x4 (nI C) xo xm xl xr xt xf xv xh xp xg 1 20) : ∀ (d i : Nat), i + d = 20 → (∀ v, v < i → ∀ k, k < 20 → F C k ≠ v + 1) → wX_link_67 post x3 x4 (nI C) xo xm xl xr xt xf xv xh xp xg (d + 1) (nI i)
  | 0, i, hi, hs => by
    obtain rfl : i = 20 := by omega
    refine h0 (fun ⟨k, hk, f⟩ => ?_)
    have hb := hB C hC k hk
    exact hs (F C k - 1) (by omega) k hk (by omega)
  | d + 1, i, hi, hs => by
    have ih := rx_link67 hC hB hH h1 h0 d (i + 1) (by omega)
    refine pk_le 20 i (fun y => absurd y (by omega)) (fun y => ⟨pk_in (20 * C + i) 120 (by omega) (ix_20 C i), ?_⟩)
    rw [ix_20, nI_clamp (n := 20 * C + i) (by omega)]
    refine ek_if (rt_HO0 hH hC y) (fun w => nm_r (nI_1 i) (ih (fun v hv => ?_))) (fun w => h1 ?_)
    · by_cases e : v = i
      · rw [e]; exact w
      · exact hs v (by omega)
    · apply Classical.byContradiction
      intro nn
      exact w (fun k hk e => nn ⟨k, hk, by omega⟩)
theorem ry_link64 {post : Int32 → SY → Prop} {x3 x4 : Int32} {t c : Nat} (ht : t < 3) (hc : c < 2) (hB : rt_FB F) (hZ : rt_CF A F) (hT : rt_YH A yt) (hF : rt_YF A F yf) (h1 : (∃ k, k < 20 ∧ F (2 * t + c) k ≠ 0) → post (-5) (yo, ym, ys, yl, yr, yt, yf, yv, kt, kf, kv, yg)) (h0 : ¬ (∃ k, k < 20 ∧ F (2 * t + c) k ≠ 0) → wY_link_64 post (nI t) (nI c) x3 x4 yo ym ys yl yr yt yf yv kt kf kv yg 1 20) : ∀ (d i : Nat), i + d = 20 → (∀ k, k < i → F (2 * t + c) k = 0) → wY_link_64 post (nI t) (nI c) x3 x4 yo ym ys yl yr yt yf yv kt kf kv yg (d + 1) (nI i)
  | 0, i, hi, hs => by
    obtain rfl : i = 20 := by omega
    exact h0 (fun ⟨k, hk, f⟩ => f (hs k hk))
  | d + 1, i, hi, hs => by
    have ih := ry_link64 ht hc hB hZ hT hF h1 h0 d (i + 1) (by omega)
    have step : F (2 * t + c) i = 0 → wY_link_64 post (nI t) (nI c) x3 x4 yo ym ys yl yr yt yf yv kt kf kv yg (d + 1) (nI (i + 1)) := fun f => ih (fun k hk => by
      by_cases e : k = i
      · rw [e]; exact f
      · exact hs k (by omega))
    have i2 : i < 20 := by omega
    have e1 : 20 * ((2 * t + c) / 2) + i = 20 * t + i := by omega
    have e2 : (40 * t + 2 * i + c) / 2 = 20 * t + i := by omega
    have e3 : (40 * t + 2 * i + c) / 40 * 2 + (40 * t + 2 * i + c) % 2 = 2 * t + c := by omega
    have e4 : (20 * t + i) % 20 = i := by omega
    have hb := hB (2 * t + c) (by omega) i i2
    refine pk_le 20 i (fun y => absurd y (by omega)) (fun y => ⟨pk_in (20 * t + i) 60 (by omega) (ix_20 t i), ?_⟩)
    refine rt_bz (A (20 * t + i)) (fun e => nm_r (nI_1 i) (step (hZ _ (by omega) i i2 (by rw [e1]; exact e)))) (fun e => ⟨pk_in (40 * t + 2 * i + c) 120 (by omega) (ix_40 t i c), ?_⟩) (by rw [ix_20, nI_clamp (by omega), hT _ (by omega)])
    have ef : yf ((40 * nI t + 2 * nI i) + nI c).toNatClampNeg = rt_e (F (2 * t + c) i) := by
      have := hF (40 * t + 2 * i + c) (by omega) (by rw [e2]; exact e)
      rw [e3, e2, e4] at this
      rw [ix_40, nI_clamp (by omega)]
      exact this
    exact re_eq (F (2 * t + c) i) 0 (fun w => nm_r (nI_1 i) (step w)) (fun w => h1 ⟨i, i2, w⟩) ef rfl
/-! ===== keyAt: in lockstep ===== -/
theorem rt_ka (x : Int32) (m : Nat) : x - nI m + (-1) = x - nI (m + 1) := by
  rw [← nI_1]; grind
theorem rt_kz (x a : Int32) : x - a = 0 ↔ a = x := by
  constructor
  · intro h
    have e : x - a + a = 0 + a := by rw [h]
    rw [Int32.sub_add_cancel, Int32.zero_add] at e
    exact e.symm
  · intro h
    rw [h, Int32.sub_self]
theorem rt_keyAt {t : Nat} {x : Int32} (ht : t < 3) (hT : rt_TH A xt) (hY : rt_YH A yt) : ∀ (d i m : Nat), i + d = 20 → ∃ r : Int32, (∀ post : Int32 → Prop, post r → wX_keyAt_14 post (nI t) x xo xm xl xr xt xf xv xh xp xg (d + 1) (nI m) (nI i)) ∧ (∀ post : Int32 → Prop, post r → wY_keyAt_15 post (nI t) yo ym ys yl yr yt yf yv kt kf kv yg (d + 1) (x - nI m) (nI i))
  | 0, i, m, hi => by
    obtain rfl : i = 20 := by omega
    exact ⟨-2, fun post h => pk_le 20 20 (fun _ => h) (fun y => absurd y (by omega)), fun post h => pk_le 20 20 (fun _ => h) (fun y => absurd y (by omega))⟩
  | d + 1, i, m, hi => by
    have i2 : i < 20 := by omega
    have bx : ((xt (nI t).toNatClampNeg >>> (nI i &&& 31)) &&& 1) = rt_b (A (20 * t + i)) := by rw [nI_clamp (by omega), rt_bbit _ (by omega), rt_THb hT ht i2]
    have by' : yt ((20 : Int32) * nI t + nI i).toNatClampNeg = rt_b (A (20 * t + i)) := by rw [ix_20, nI_clamp (by omega), hY _ (by omega)]
    have v3 : vp_in (nI t) 3 := vp_in_nI ht (by decide)
    have v60 : vp_in ((20 : Int32) * nI t + nI i) 60 := pk_in (20 * t + i) 60 (by omega) (ix_20 t i)
    cases e : A (20 * t + i)
    · obtain ⟨r, a, b⟩ := rt_keyAt (x := x) ht hT hY d (i + 1) m (by omega)
      rw [e] at bx by'
      refine ⟨r, fun post h => pk_le 20 i (fun y => absurd y (by omega)) (fun _ => ⟨v3, rt_bo false (fun q => absurd q (by decide)) (fun _ => nm_r (nI_1 i) (a post h)) bx⟩), fun post h => pk_le 20 i (fun y => absurd y (by omega)) (fun _ => ⟨v60, rt_bz false (fun _ => nm_r (nI_1 i) (b post h)) (fun q => absurd q (by decide)) by'⟩)⟩
    · rw [e] at bx by'
      by_cases q : nI m = x
      · exact ⟨nI i, fun post h => pk_le 20 i (fun y => absurd y (by omega)) (fun _ => ⟨v3, rt_bo true (fun _ => br_t q h) (fun z => absurd z (by decide)) bx⟩), fun post h => pk_le 20 i (fun y => absurd y (by omega)) (fun _ => ⟨v60, rt_bz true (fun z => absurd z (by decide)) (fun _ => br_t ((rt_kz x (nI m)).mpr q) h) by'⟩)⟩
      · obtain ⟨r, a, b⟩ := rt_keyAt (x := x) ht hT hY d (i + 1) (m + 1) (by omega)
        exact ⟨r, fun post h => pk_le 20 i (fun y => absurd y (by omega)) (fun _ => ⟨v3, rt_bo true (fun _ => br_f q (nm_r (nI_1 m) (nm_r (nI_1 i) (a post h)))) (fun z => absurd z (by decide)) bx⟩), fun post h => pk_le 20 i (fun y => absurd y (by omega)) (fun _ => ⟨v60, rt_bz true (fun z => absurd z (by decide)) (fun _ => br_f (fun z => q ((rt_kz x (nI m)).mp z)) (nm_r (rt_ka x m) (nm_r (nI_1 i) (b post h)))) by'⟩)⟩
/-! ===== referrers ===== -/
def rt_rf (ru li : Nat → Nat) (F : Nat → Nat → Nat) (t v C : Nat) : Nat := rt_sm (fun c => if ru c ≠ 0 ∧ li c = t then rt_cn (fun k => decide (F c k = v + 1)) 20 else 0) C
theorem rx_ref26 {post : Int32 → Prop} {t v : Nat} (ht : t < 3) (hv : v < 20) (hLB : rt_LB ru li) (hLK : rt_LK ru li xl xr) (hH : rt_HO F xh) (h : post (nI (rt_rf ru li F t v 6))) : ∀ (d C : Nat), C + d = 6 → wX_referrers_26 post (nI t) (nI v) xo xm xl xr xt xf xv xh xp xg (d + 1) (nI (rt_rf ru li F t v C)) (nI C)
  | 0, C, hd => by
    obtain rfl : C = 6 := by omega
    exact pk_le 6 6 (fun _ => h) (fun y => absurd y (by omega))
  | d + 1, C, hd => by
    have hC : C < 6 := by omega
    have hl := (hLB C hC).1
    have hu := (hLB C hC).2
    have vC : vp_in (nI C) 6 := vp_in_nI hC (by decide)
    have ih := rx_ref26 ht hv hLB hLK hH h d (C + 1) (by omega)
    have fs : rt_rf ru li F t v (C + 1) = rt_rf ru li F t v C + (if ru C ≠ 0 ∧ li C = t then rt_cn (fun k => decide (F C k = v + 1)) 20 else 0) := rfl
    have skip : ¬ (ru C ≠ 0 ∧ li C = t) → wX_referrers_26 post (nI t) (nI v) xo xm xl xr xt xf xv xh xp xg (d + 1) (nI (rt_rf ru li F t v C)) (nI (C + 1)) := fun q => by
      rw [if_neg q, Nat.add_zero] at fs
      rw [fs] at ih
      exact ih
    refine pk_le 6 C (fun y => absurd y (by omega)) (fun _ => ⟨vC, ?_⟩)
    refine re_lt (ru C) 1 (fun y => nm_r (nI_1 C) (skip (fun q => q.1 (by omega)))) (fun y => ⟨vC, ?_⟩) (by rw [nI_clamp (by omega), (hLK C hC).2]) rfl
    refine pk_eq (li C) t (fun y2 => ⟨pk_in (20 * C + v) 120 (by omega) (ix_20 C v), ?_⟩) (fun y2 => nm_r (nI_1 C) (skip (fun q => y2 q.2))) (by rw [nI_clamp (by omega), (hLK C hC).1]) rfl
    rw [ix_20, nI_clamp (n := 20 * C + v) (by omega)]
    refine rx_ones (rt_HOy hH hC hv) (nm_r (e' := nI (rt_rf ru li F t v (C + 1))) ?_ (nm_r (nI_1 C) ih))
    rw [nI_add, fs, if_pos ⟨by omega, y2⟩, cn_cg (Q := fun k => decide (F C k = v + 1)) (fun k hk => rt_HOb hH hC hv hk)]
def rt_rn (ru li : Nat → Nat) (F : Nat → Nat → Nat) (t v i : Nat) : Nat := rt_sm (fun p => if ru (p / 40 * 2 + p % 2) ≠ 0 ∧ li (p / 40 * 2 + p % 2) = t ∧ F (p / 40 * 2 + p % 2) (p / 2 % 20) = v + 1 then 1 else 0) i
theorem rn_6 {t v : Nat} : rt_rn ru li F t v 120 = rt_rf ru li F t v 6 := by
  have e := rt_120 (fun C k => if ru C ≠ 0 ∧ li C = t ∧ F C k = v + 1 then 1 else 0)
  unfold rt_rn rt_rf
  rw [e]
  refine sm_congr (fun C hC => ?_)
  by_cases q : ru C ≠ 0 ∧ li C = t
  · rw [if_pos q]
    refine sm_congr (fun k hk => ?_)
    show _ = (decide (F C k = v + 1)).toNat
    by_cases f : F C k = v + 1
    · rw [if_pos ⟨q.1, q.2, f⟩, decide_eq_true f]; rfl
    · rw [if_neg (fun z => f z.2.2), decide_eq_false f]; rfl
  · rw [if_neg q]
    exact sm_zero (fun k hk => if_neg (fun z => q ⟨z.1, z.2.1⟩))
theorem ry_ref27 {post : Int32 → Prop} {t v : Nat} (ht : t < 3) (hv : v < 20) (hLB : rt_LB ru li) (hLK : rt_LK ru li yl yr) (hB : rt_FB F) (hZ : rt_CF A F) (hT : rt_YH A yt) (hF : rt_YF A F yf) (ha : A (20 * t + v) = true) (h : post (nI (rt_rn ru li F t v 120))) : ∀ (d i : Nat), i + d = 120 → wY_referrers_27 post (nI t) (nI v) yo ym ys yl yr yt yf yv kt kf kv yg (d + 1) (nI (rt_rn ru li F t v i)) (nI i)
  | 0, i, hd => by
    obtain rfl : i = 120 := by omega
    exact pk_le 120 120 (fun _ => h) (fun y => absurd y (by omega))
  | d + 1, i, hd => by
    have ih := ry_ref27 ht hv hLB hLK hB hZ hT hF ha h d (i + 1) (by omega)
    have hC : i / 40 * 2 + i % 2 < 6 := by omega
    have hk : i / 2 % 20 < 20 := by omega
    have htg := tg_le (A := A) hLB hB hC hk
    have hi : i < 120 := by omega
    have tr := tg_r (t := t) (v := v) hLB hB hC hk hv ha
    have fs : rt_rn ru li F t v (i + 1) = rt_rn ru li F t v i + (if ru (i / 40 * 2 + i % 2) ≠ 0 ∧ li (i / 40 * 2 + i % 2) = t ∧ F (i / 40 * 2 + i % 2) (i / 2 % 20) = v + 1 then 1 else 0) := rfl
    refine pk_le 120 i (fun y => absurd y (by omega)) (fun y => ?_)
    refine ry_target hi hLB hLK hB hZ hT hF ?_
    refine re_eq (rt_tg ru li A F (i / 40 * 2 + i % 2) (i / 2 % 20)) (20 * t + v + 1) (fun w => nm_r (nI_1 _) (nm_r (nI_1 i) ?_)) (fun w => nm_r (nI_1 i) ?_) rfl (by rw [ix_20, rt_eS])
    · rw [if_pos (tr.mp w)] at fs
      rw [fs] at ih
      exact ih
    · rw [if_neg (fun q => w (tr.mpr q)), Nat.add_zero] at fs
      rw [fs] at ih
      exact ih
/-! ===== dangling ===== -/
def rt_da (ru li : Nat → Nat) (A : Nat → Bool) (F : Nat → Nat → Nat) (C : Nat) : Nat := rt_sm (fun c => if ru c = 0 then 0 else rt_cn (rt_dg li A F c) 20) C
theorem rx_dan4 {post : Int32 → Prop} (hLB : rt_LB ru li) (hLK : rt_LK ru li xl xr) (hB : rt_FB F) (hT : rt_TH A xt) (hH : rt_HO F xh) (h : post (nI (rt_da ru li A F 6))) : ∀ (d C : Nat), C + d = 6 → wX_dangling_4 post xo xm xl xr xt xf xv xh xp xg (d + 1) (nI (rt_da ru li A F C)) (nI C)
  | 0, C, hd => by
    obtain rfl : C = 6 := by omega
    exact pk_le 6 6 (fun _ => h) (fun y => absurd y (by omega))
  | d + 1, C, hd => by
    have hC : C < 6 := by omega
    have hu := (hLB C hC).2
    have ih := rx_dan4 hLB hLK hB hT hH h d (C + 1) (by omega)
    have fs : rt_da ru li A F (C + 1) = rt_da ru li A F C + (if ru C = 0 then 0 else rt_cn (rt_dg li A F C) 20) := rfl
    refine pk_le 6 C (fun y => absurd y (by omega)) (fun _ => ⟨vp_in_nI hC (by decide), ?_⟩)
    refine re_lt (ru C) 1 (fun y => nm_r (Int32.add_zero _) (nm_r (nI_1 C) ?_)) (fun y => rx_dang hC hLB hLK hB hT hH (nm_r (nI_add _ _) (nm_r (nI_1 C) ?_))) (by rw [nI_clamp (by omega), (hLK C hC).2]) rfl
    · rw [if_pos (by omega : ru C = 0), Nat.add_zero] at fs
      rw [fs] at ih
      exact ih
    · rw [if_neg (by omega : ¬ ru C = 0)] at fs
      rw [fs] at ih
      exact ih
def rt_dn (ru li : Nat → Nat) (A : Nat → Bool) (F : Nat → Nat → Nat) (i : Nat) : Nat := rt_sm (fun p => (decide (ru (p / 40 * 2 + p % 2) ≠ 0) && rt_dg li A F (p / 40 * 2 + p % 2) (p / 2 % 20)).toNat) i
theorem dn_6 : rt_dn ru li A F 120 = rt_da ru li A F 6 := by
  have e := rt_120 (fun C k => (decide (ru C ≠ 0) && rt_dg li A F C k).toNat)
  unfold rt_dn rt_da
  rw [e]
  refine sm_congr (fun C hC => ?_)
  by_cases q : ru C = 0
  · rw [if_pos q]
    exact sm_zero (fun k hk => by rw [decide_eq_false (fun z => z q), Bool.false_and]; rfl)
  · rw [if_neg q]
    exact sm_congr (fun k hk => by rw [decide_eq_true q, Bool.true_and])
theorem ry_dan4 {post : Int32 → Prop} (hLB : rt_LB ru li) (hLK : rt_LK ru li yl yr) (hB : rt_FB F) (hZ : rt_CF A F) (hT : rt_YH A yt) (hF : rt_YF A F yf) (h : post (nI (rt_dn ru li A F 120))) : ∀ (d i : Nat), i + d = 120 → wY_dangling_4 post yo ym ys yl yr yt yf yv kt kf kv yg (d + 1) (nI (rt_dn ru li A F i)) (nI i)
  | 0, i, hd => by
    obtain rfl : i = 120 := by omega
    exact pk_le 120 120 (fun _ => h) (fun y => absurd y (by omega))
  | d + 1, i, hd => by
    have ih := ry_dan4 hLB hLK hB hZ hT hF h d (i + 1) (by omega)
    have hi : i < 120 := by omega
    have fs : rt_dn ru li A F (i + 1) = rt_dn ru li A F i + (decide (ru (i / 40 * 2 + i % 2) ≠ 0) && rt_dg li A F (i / 40 * 2 + i % 2) (i / 2 % 20)).toNat := rfl
    refine pk_le 120 i (fun y => absurd y (by omega)) (fun y => ?_)
    refine ry_dangles hi hLB hLK hB hZ hT hF (fun e => br_f (by decide) (nm_r (nI_1 _) (nm_r (nI_1 i) ?_))) (fun e => br_t rfl (nm_r (nI_1 i) ?_))
    · rw [e] at fs
      rw [fs] at ih
      exact ih
    · rw [e] at fs
      rw [fs] at ih
      exact ih
/-! ===== sum ===== -/
def rt_is (V : Nat → Int32) (t : Nat) : Nat → Int32
  | 0 => 0
  | i + 1 => rt_is V t i + V (20 * t + i)
theorem rx_sum13 {post : Int32 → Prop} {t : Nat} (ht : t < 3) (hV : rt_VL V xv) (h : post (rt_is V t 20)) : ∀ (d i : Nat), i + d = 20 → wX_sum_13 post (nI t) xo xm xl xr xt xf xv xh xp xg (d + 1) (rt_is V t i) (nI i)
  | 0, i, hd => by
    obtain rfl : i = 20 := by omega
    exact pk_le 20 20 (fun _ => h) (fun y => absurd y (by omega))
  | d + 1, i, hd => by
    have ih := rx_sum13 ht hV h d (i + 1) (by omega)
    exact pk_le 20 i (fun y => absurd y (by omega)) (fun y => ⟨pk_in (20 * t + i) 60 (by omega) (ix_20 t i), nm_r (e' := rt_is V t (i + 1)) (by rw [ix_20, nI_clamp (by omega), hV _ (by omega)]; rfl) (nm_r (nI_1 i) ih)⟩)
theorem ry_sum4 {post : Int32 → Prop} {t : Nat} (ht : t < 3) (hV0 : ∀ r, r < 60 → A r = false → V r = 0) (hT : rt_YH A yt) (hV : rt_YV A V yv) (h : post (rt_is V t 20)) : ∀ (d i : Nat), i + d = 20 → wY_sum_4 post (nI t) yo ym ys yl yr yt yf yv kt kf kv yg (d + 1) (rt_is V t i) (nI i)
  | 0, i, hd => by
    obtain rfl : i = 20 := by omega
    exact pk_le 20 20 (fun _ => h) (fun y => absurd y (by omega))
  | d + 1, i, hd => by
    have ih := ry_sum4 ht hV0 hT hV h d (i + 1) (by omega)
    have v60 : vp_in ((20 : Int32) * nI t + nI i) 60 := pk_in (20 * t + i) 60 (by omega) (ix_20 t i)
    refine pk_le 20 i (fun y => absurd y (by omega)) (fun y => ry_isT ht (br_f (by decide) ⟨v60, ?_⟩))
    refine rt_bz (A (20 * t + i)) (fun e => nm_r (nI_1 i) ?_) (fun e => ⟨v60, nm_r (e' := rt_is V t (i + 1)) (by rw [ix_20, nI_clamp (by omega), hV _ (by omega) e]; rfl) (nm_r (nI_1 i) ih)⟩) (by rw [ix_20, nI_clamp (by omega), hT _ (by omega)])
    have fs : rt_is V t (i + 1) = rt_is V t i + V (20 * t + i) := rfl
    rw [hV0 _ (by omega) e, Int32.add_zero] at fs
    rw [fs] at ih
    exact ih
/-! ===== the constructors ===== -/
theorem rx_init90 {post : SX → Prop} (h : post (xo, xm, xl, xr, xt, rt_cp 0 (fun _ => -1) 120 xf, xv, xh, xp, xg)) : ∀ (d i : Nat), i + d = 120 → wX_init_90 post xo xm (d + 1) (nI i) xl xr xt (rt_cp 0 (fun _ => -1) i xf) xv xh xp xg
  | 0, i, hi => by
    obtain rfl : i = 120 := by omega
    exact pk_le 120 120 (fun _ => h) (fun z => absurd z (by omega))
  | d + 1, i, hi => by
    have ih := rx_init90 h d (i + 1) (by omega)
    refine pk_le 120 i (fun z => absurd z (by omega)) (fun z => ⟨vp_in_nI z (by decide), nm_r (e' := rt_cp 0 (fun _ => -1) (i + 1) xf) ?_ (nm_r (nI_1 i) ih)⟩)
    rw [nI_clamp (by omega)]
    exact cp_S (n := i) (by omega) rfl
theorem rx_init69 {post : SX → Prop} (h : post (xo, xm, xl, rt_cp 0 (fun _ => -1) 6 xr, xt, rt_cp 0 (fun _ => -1) 120 xf, xv, xh, xp, xg)) : ∀ (d i : Nat), i + d = 6 → wX_init_69 post xo xm (d + 1) (nI i) xl (rt_cp 0 (fun _ => -1) i xr) xt xf xv xh xp xg
  | 0, i, hi => by
    obtain rfl : i = 6 := by omega
    refine pk_le 6 6 (fun _ => ⟨121, ?_⟩) (fun z => absurd z (by omega))
    have k := rx_init90 (xf := xf) h 120 0 rfl
    rw [cp_0] at k
    exact k
  | d + 1, i, hi => by
    have ih := rx_init69 h d (i + 1) (by omega)
    refine pk_le 6 i (fun z => absurd z (by omega)) (fun z => ⟨vp_in_nI z (by decide), nm_r (e' := rt_cp 0 (fun _ => -1) (i + 1) xr) ?_ (nm_r (nI_1 i) ih)⟩)
    rw [nI_clamp (by omega)]
    exact cp_S (n := i) (by omega) rfl
theorem ry_init81 {post : SY → Prop} (h : post (yo, ym, ys, yl, rt_cp 0 (fun _ => -1) 6 yr, yt, yf, yv, kt, kf, kv, yg)) : ∀ (d i : Nat), i + d = 6 → wY_init_81 post yo ym ys (d + 1) (nI i) yl (rt_cp 0 (fun _ => -1) i yr) yt yf yv kt kf kv yg
  | 0, i, hi => by
    obtain rfl : i = 6 := by omega
    exact pk_le 6 6 (fun _ => h) (fun z => absurd z (by omega))
  | d + 1, i, hi => by
    have ih := ry_init81 h d (i + 1) (by omega)
    refine pk_le 6 i (fun z => absurd z (by omega)) (fun z => ⟨vp_in_nI z (by decide), nm_r (e' := rt_cp 0 (fun _ => -1) (i + 1) yr) ?_ (nm_r (nI_1 i) ih)⟩)
    rw [nI_clamp (by omega)]
    exact cp_S (n := i) (by omega) rfl
end
end
section
/-! ===== statements of both, whole ===== -/
theorem rt_ix (x : Int32) (n : Nat) (hn : n < 2 ^ 31) : (x < 0 ∨ nI n ≤ x) ∨ ∃ j : Nat, j < n ∧ x = nI j := by
  rcases pk_ix x hn with h | h | h
  · exact Or.inl (Or.inl h)
  · exact Or.inl (Or.inr h)
  · exact Or.inr h
theorem rt_SDw {ru li : Nat → Nat} {A : Nat → Bool} {F : Nat → Nat → Nat} {z : Bool} (h : rt_SD ru li A F true) : rt_SD ru li A F z := fun C hC a _ => h C hC a (Or.inr rfl)
section
variable {xo xm : Int32} {xl xr xt xf xv xh xp xg : Nat → Int32}
variable {yo ym ys : Int32} {yl yr yt yf yv kt kf kv yg : Nat → Int32}
variable {A : Nat → Bool} {F : Nat → Nat → Nat} {V : Nat → Int32} {ru li : Nat → Nat}
variable {o : Bool} {t q : Nat}
theorem rx_remove {post : Int32 → SX → Prop} (ht : t < 3) (hq : q < 20) (eo : xo = rt_b o) (hLB : rt_LB ru li) (hLK : rt_LK ru li xl xr) (hB : rt_FB F) (hT : rt_TH A xt) (hR : rt_RF F xf) (hV : rt_VL V xv) (hH : rt_HO F xh) (ha : A (20 * t + q) = true) (hre : ∀ xg' G, rt_IC ru li F (20 * t + q) G → rt_RE ru li F G → post (-5) (xo, xm, xl, xr, xt, xf, xv, xh, xp, xg')) (h1 : ∀ G xt' xf' xv' xh' xg', rt_IC ru li F (20 * t + q) G → ¬ rt_RE ru li F G → rt_SD ru li (rt_dA A G 60) (rt_dF (rt_rm ru li F G 6) G 60) (!o) → rt_TH (rt_dA A G 60) xt' → rt_RF (rt_dF (rt_rm ru li F G 6) G 60) xf' → rt_VL (rt_dV V G 60) xv' → rt_HO (rt_dF (rt_rm ru li F G 6) G 60) xh' → post (nI (rt_cn G 60)) (xo, xm, xl, xr, xt', xf', xv', xh', rt_cp (183 * 4) (rt_src xt xf xv) 183 xp, xg')) (h0 : ∀ G xt' xf' xv' xh' xg', rt_IC ru li F (20 * t + q) G → ¬ rt_RE ru li F G → ¬ rt_SD ru li (rt_dA A G 60) (rt_dF (rt_rm ru li F G 6) G 60) (!o) → rt_TH A xt' → rt_RF F xf' → rt_VL V xv' → rt_HO F xh' → post (-9) (xo, xm, xl, xr, xt', xf', xv', xh', rt_cp (183 * 4) (rt_src xt xf xv) 183 xp, xg')) : wpX_remove post (xo, xm, xl, xr, xt, xf, xv, xh, xp, xg) (nI t) (nI q) := by
  unfold wpX_remove
  refine rx_isT ht (br_f (by decide) (rx_has ht hq hT (fun _ => br_f (by decide) ?_) (fun e => absurd (ha.symm.trans e) (by decide))))
  refine rx_spread ht hq hLB hLK hB hH (fun xg' G hG hI => ⟨fun nre => br_f (by decide) ?_, fun re => br_t rfl (hre xg' G hI re)⟩)
  refine rx_keep (s := 4) (by omega) ⟨7, ?_⟩
  refine rx_rem43 hLB hLK hB hG (fun xf1 xh1 r1 r2 => ⟨61, ?_⟩) 6 0 xf xh rfl (by rw [rm_0]; exact hR) (by rw [rm_0]; exact hH)
  have e0 : rt_dA A G 0 = A := by
    funext r
    unfold rt_dA
    rw [decide_eq_false (by omega), Bool.false_and, Bool.not_false, Bool.and_true]
  have e1 : rt_dF (rt_rm ru li F G 6) G 0 = rt_rm ru li F G 6 := by
    funext c j
    exact if_neg (by omega)
  have e2 : rt_dV V G 0 = V := by
    funext r
    exact if_neg (by omega)
  refine rx_rem101 (A := A) (V := V) (rm_B hB) hG (fun xt' xf' xv' xh' a1 a2 a3 a4 => ?_) 60 0 xt xf1 xv xh1 rfl (by rw [e0]; exact hT) (by rw [e1]; exact r1) (by rw [e2]; exact hV) (by rw [e1]; exact r2)
  exact rx_settle eo hLB hLK (dF_B (rm_B hB)) a1 a2 a4 hB (rt_XSk hT hR hV) (fun sd => h1 G _ _ _ _ _ hI nre sd a1 a2 a3 a4) (fun ns xt2 xf2 xv2 xh2 b1 b2 b3 b4 => h0 G _ _ _ _ _ hI nre ns b1 b2 b3 b4)
theorem ry_remove {post : Int32 → SY → Prop} {G : Nat → Bool} (ht : t < 3) (hq : q < 20) (eo : yo = rt_b o) (hLB : rt_LB ru li) (hLK : rt_LK ru li yl yr) (hB : rt_FB F) (hC : rt_CN A F V) (hC' : rt_CF (rt_dA A G 60) (rt_dF (rt_rm ru li F G 6) G 60)) (hS : rt_SD ru li A F (!o)) (hT : rt_YH A yt) (hF : rt_YF A F yf) (hV : rt_YV A V yv) (ha : A (20 * t + q) = true) (hI : rt_IC ru li F (20 * t + q) G) (hre : ∀ yg', rt_RE ru li F G → post (-5) (yo, ym, ys, yl, yr, yt, yf, yv, kt, kf, kv, yg')) (h1 : ∀ yt' yf' yg', ¬ rt_RE ru li F G → rt_SD ru li (rt_dA A G 60) (rt_dF (rt_rm ru li F G 6) G 60) (!o) → rt_YH (rt_dA A G 60) yt' → rt_YF (rt_dA A G 60) (rt_dF (rt_rm ru li F G 6) G 60) yf' → post (nI (rt_cn G 60)) (yo, ym, ys, yl, yr, yt', yf', yv, rt_cp (60 * 4) yt 60 kt, rt_cp (120 * 4) yf 120 kf, rt_cp (60 * 4) yv 60 kv, yg')) (h0 : ∀ yt' yf' yv' yg', ¬ rt_RE ru li F G → ¬ rt_SD ru li (rt_dA A G 60) (rt_dF (rt_rm ru li F G 6) G 60) (!o) → rt_YH A yt' → rt_YF A F yf' → rt_YV A V yv' → post (-9) (yo, ym, ys, yl, yr, yt', yf', yv', rt_cp (60 * 4) yt 60 kt, rt_cp (120 * 4) yf 120 kf, rt_cp (60 * 4) yv 60 kv, yg')) : wpY_remove post (yo, ym, ys, yl, yr, yt, yf, yv, kt, kf, kv, yg) (nI t) (nI q) := by
  unfold wpY_remove
  refine ry_isT ht (br_f (by decide) (ry_isR ht hq hT (fun _ => br_f (by decide) ?_) (fun e => absurd (ha.symm.trans e) (by decide))))
  rw [ix_20]
  refine ry_spread (by omega) hLB hLK hB hC hT hF ha (fun yg' G' hG hI' => ?_)
  obtain rfl := rt_ICu hI hI'
  have hGA : ∀ r, G r = true → A r = true := fun r g => rt_ICA hC ha (hI.1.2.1 r g)
  have hn := cn_n G 60
  refine ⟨fun nre => br_t (nI_pos' (by omega)) ?_, fun re => br_f (by decide) (hre yg' re)⟩
  refine ry_keep (s := 4) (by omega) hT ?_
  refine ry_sl hLB hLK hB hC.2.1 hT hF (fun w hw => ⟨121, ?_⟩)
  refine ry_rem53 hLB hLK hB hC.2.1 hT hG hGA (fun yf' hf => ⟨61, ?_⟩) 120 0 yf rfl (by rw [rp_0]; exact hF)
  have e0 : rt_dA A G 0 = A := by
    funext r
    unfold rt_dA
    rw [decide_eq_false (by omega), Bool.false_and, Bool.not_false, Bool.and_true]
  refine ry_rem132 (A := A) hG (fun yt' ht' => ?_) 60 0 yt rfl (by rw [e0]; exact hT)
  have hf' : rt_YF (rt_dA A G 60) (rt_dF (rt_rm ru li F G 6) G 60) yf' := fun p hp hap => by
    have eR : 20 * ((p / 40 * 2 + p % 2) / 2) + p / 2 % 20 = p / 2 := by omega
    unfold rt_dA at hap
    rw [decide_eq_true (by omega), Bool.true_and] at hap
    obtain ⟨x, y⟩ := Bool.and_eq_true_iff.mp hap
    have y2 : G (p / 2) = false := by
      cases g : G (p / 2)
      · rfl
      · rw [g] at y; exact absurd y (by decide)
    rw [hf p hp x, rp_6 (by omega) (by omega)]
    refine congrArg rt_e (if_neg (fun z => ?_)).symm
    rw [eR, y2] at z
    exact absurd z.2 (by decide)
  refine ry_checked (A := rt_dA A G 60) (F := rt_dF (rt_rm ru li F G 6) G 60) eo hLB hLK (dF_B (rm_B hB)) hC' ht' hf' (rt_YSk hT hF hV) (fun C hC a b => (hw C hC).mpr (fun _ => hS C hC a b)) (fun sd => h1 _ _ _ nre sd ht' hf') (fun ns yt2 yf2 yv2 b1 b2 b3 => h0 _ _ _ _ nre ns b1 b2 b3)
/-! ===== refer ===== -/
theorem rx_refer {post : Int32 → SX → Prop} {c n : Nat} (ht : t < 3) (hq : q < 20) (hc : c < 2) (hn : n ≤ 20) (eo : xo = rt_b o) (hLB : rt_LB ru li) (hLK : rt_LK ru li xl xr) (hB : rt_FB F) (hT : rt_TH A xt) (hR : rt_RF F xf) (hV : rt_VL V xv) (hH : rt_HO F xh) (ha : A (20 * t + q) = true) (h1 : ∀ xf' xh', rt_SD ru li A (rt_u F (2 * t + c) q n) (!o) → rt_RF (rt_u F (2 * t + c) q n) xf' → rt_HO (rt_u F (2 * t + c) q n) xh' → post (rt_e (F (2 * t + c) q)) (xo, xm, xl, xr, xt, xf', xv, xh', rt_cp (183 * 4) (rt_src xt xf xv) 183 xp, xg)) (h0 : ∀ xt' xf' xv' xh', ¬ rt_SD ru li A (rt_u F (2 * t + c) q n) (!o) → rt_TH A xt' → rt_RF F xf' → rt_VL V xv' → rt_HO F xh' → post (-9) (xo, xm, xl, xr, xt', xf', xv', xh', rt_cp (183 * 4) (rt_src xt xf xv) 183 xp, xg)) : wpX_refer post (xo, xm, xl, xr, xt, xf, xv, xh, xp, xg) (nI t) (nI q) (nI c) (rt_e n) := by
  unfold wpX_refer
  refine rx_isT ht (br_f (by decide) (rx_has ht hq hT (fun _ => br_f (by decide) ?_) (fun e => absurd (ha.symm.trans e) (by decide))))
  refine rx_isC hc (br_f (by decide) ?_)
  refine re_lt n 0 (fun z => absurd z (by omega)) (fun _ => ?_)
  refine re_lt n 21 (fun _ => ?_) (fun z => absurd z (by omega))
  refine rx_keep (s := 4) (by omega) ?_
  refine nm_r (ix_2c t c) ⟨pk_in (20 * (2 * t + c) + q) 120 (by omega) (ix_20 _ _), nm_r (e' := rt_e (F (2 * t + c) q)) (by rw [ix_20, nI_clamp (by omega), hR _ (by omega) _ hq]) ?_⟩
  refine rx_setRef (C := 2 * t + c) (k := q) (n := n) rfl rfl rfl (by omega) hq hn hB hR hH (fun r xf' xh' r1 r2 => ?_)
  exact rx_settle eo hLB hLK (rt_FBu hn hB) hT r1 r2 hB (rt_XSk hT hR hV) (fun sd => h1 _ _ sd r1 r2) (fun ns xt2 xf2 xv2 xh2 b1 b2 b3 b4 => h0 _ _ _ _ ns b1 b2 b3 b4)
theorem rt_CFu {C k n : Nat} (hZ : rt_CF A F) (ha : A (20 * (C / 2) + k) = true) : rt_CF A (rt_u F C k n) := fun c hc j hj e => by
  by_cases z : c = C ∧ j = k
  · rw [z.1, z.2, ha] at e; exact absurd e (by decide)
  · rw [ru_n z]; exact hZ c hc j hj e
theorem ry_refer {post : Int32 → SY → Prop} {c n : Nat} (ht : t < 3) (hq : q < 20) (hc : c < 2) (hn : n ≤ 20) (eo : yo = rt_b o) (hLB : rt_LB ru li) (hLK : rt_LK ru li yl yr) (hB : rt_FB F) (hZ : rt_CF A F) (hS : rt_SD ru li A F (!o)) (hT : rt_YH A yt) (hF : rt_YF A F yf) (hV : rt_YV A V yv) (ha : A (20 * t + q) = true) (h1 : ∀ yf', rt_SD ru li A (rt_u F (2 * t + c) q n) (!o) → rt_YF A (rt_u F (2 * t + c) q n) yf' → post (rt_e (F (2 * t + c) q)) (yo, ym, ys, yl, yr, yt, yf', yv, rt_cp (60 * 4) yt 60 kt, rt_cp (120 * 4) yf 120 kf, rt_cp (60 * 4) yv 60 kv, yg)) (h0 : ∀ yt' yf' yv', ¬ rt_SD ru li A (rt_u F (2 * t + c) q n) (!o) → rt_YH A yt' → rt_YF A F yf' → rt_YV A V yv' → post (-9) (yo, ym, ys, yl, yr, yt', yf', yv', rt_cp (60 * 4) yt 60 kt, rt_cp (120 * 4) yf 120 kf, rt_cp (60 * 4) yv 60 kv, yg)) : wpY_refer post (yo, ym, ys, yl, yr, yt, yf, yv, kt, kf, kv, yg) (nI t) (nI q) (nI c) (rt_e n) := by
  have e2 : (40 * t + 2 * q + c) / 2 = 20 * t + q := by omega
  have e3 : (40 * t + 2 * q + c) / 40 * 2 + (40 * t + 2 * q + c) % 2 = 2 * t + c := by omega
  have e4 : (20 * t + q) % 20 = q := by omega
  have e5 : 20 * ((2 * t + c) / 2) + q = 20 * t + q := by omega
  have vp : vp_in (nI (40 * t + 2 * q + c)) 120 := vp_in_nI (by omega) (by decide)
  have ep : (nI (40 * t + 2 * q + c)).toNatClampNeg = 40 * t + 2 * q + c := nI_clamp (by omega)
  have ef : yf (40 * t + 2 * q + c) = rt_e (F (2 * t + c) q) := by
    have := hF (40 * t + 2 * q + c) (by omega) (by rw [e2]; exact ha)
    rw [e3, e2, e4] at this
    exact this
  unfold wpY_refer
  refine ry_isT ht (br_f (by decide) (ry_isR ht hq hT (fun _ => br_f (by decide) ?_) (fun e => absurd (ha.symm.trans e) (by decide))))
  refine br_f (nI_pos (by omega)) (br_t (nI_le (b := 1) (by omega) (by decide)) ?_)
  refine re_lt n 0 (fun z => absurd z (by omega)) (fun _ => ?_)
  refine re_le n 20 (fun _ => ?_) (fun z => absurd z (by omega))
  refine ry_keep (s := 4) (by omega) hT ?_
  refine ry_sl hLB hLK hB hZ hT hF (fun w hw => ?_)
  refine nm_r (ix_40 t q c) ⟨vp, nm_r (e' := rt_e (F (2 * t + c) q)) (by rw [ep, ef]) ⟨vp, nm_r (e' := upd yf (40 * t + 2 * q + c) (rt_e n)) (by rw [ep]) ?_⟩⟩
  have hf' : rt_YF A (rt_u F (2 * t + c) q n) (upd yf (40 * t + 2 * q + c) (rt_e n)) := rt_YFu hF (fun p hp hpi => ru_n (fun z => hpi (by omega))) (fun _ => by rw [e3, e2, e4, ru_s])
  exact ry_checked (A := A) (F := rt_u F (2 * t + c) q n) eo hLB hLK (rt_FBu hn hB) (rt_CFu hZ (by rw [e5]; exact ha)) hT hf' (rt_YSk hT hF hV) (fun C hC a b => (hw C hC).mpr (fun _ => hS C hC a b)) (fun sd => h1 _ sd hf') (fun ns yt2 yf2 yv2 b1 b2 b3 => h0 _ _ _ ns b1 b2 b3)
/-! ===== insert ===== -/
theorem ry_insert {post : Int32 → SY → Prop} (ht : t < 3) (hq : q < 20) (eo : yo = rt_b o) (hLB : rt_LB ru li) (hLK : rt_LK ru li yl yr) (hB : rt_FB F) (hC : rt_CN A F V) (hS : rt_SD ru li A F (!o)) (hT : rt_YH A yt) (hF : rt_YF A F yf) (hV : rt_YV A V yv) (ha : A (20 * t + q) = false) (h4 : rt_cn (fun k => A (20 * t + k)) 20 = 12 → post (-4) (yo, ym, ys, yl, yr, yt, yf, yv, kt, kf, kv, yg)) (h1 : ∀ yt' yf' yv', rt_cn (fun k => A (20 * t + k)) 20 ≠ 12 → rt_YH (rt_ub A (20 * t + q) true) yt' → rt_YF (rt_ub A (20 * t + q) true) F yf' → rt_YV (rt_ub A (20 * t + q) true) V yv' → post (nI (rt_cn (fun k => rt_ub A (20 * t + q) true (20 * t + k)) 20)) (yo, ym, ys, yl, yr, yt', yf', yv', rt_cp (60 * 4) yt 60 kt, rt_cp (120 * 4) yf 120 kf, rt_cp (60 * 4) yv 60 kv, yg)) : wpY_insert post (yo, ym, ys, yl, yr, yt, yf, yv, kt, kf, kv, yg) (nI t) (nI q) := by
  have hn := cn_n (fun k => A (20 * t + k)) 20
  unfold wpY_insert
  refine ry_isT ht (br_f (by decide) (ry_isK hq (br_f (by decide) (ry_isR ht hq hT (fun e => absurd (ha.symm.trans e) (by decide)) (fun _ => br_t rfl ?_)))))
  refine ry_count ht hT (pk_eq (rt_cn (fun k => A (20 * t + k)) 20) 12 (fun e => h4 e) (fun e => ?_))
  refine ry_keep (s := 4) (by omega) hT ?_
  refine ry_sl hLB hLK hB hC.2.1 hT hF (fun w hw => ?_)
  rw [ix_20]
  have er : (nI (20 * t + q)).toNatClampNeg = 20 * t + q := nI_clamp (by omega)
  have i2 : (2 : Int32) * nI (20 * t + q) = nI (2 * (20 * t + q)) := ix_2 _
  have i3 : (2 : Int32) * nI (20 * t + q) + 1 = nI (2 * (20 * t + q) + 1) := ix_21 _
  have hf' : rt_YF (rt_ub A (20 * t + q) true) F (upd (upd yf (2 * (20 * t + q)) (-1)) (2 * (20 * t + q) + 1) (-1)) := fun p hp hap => by
    have eR : 20 * ((p / 40 * 2 + p % 2) / 2) + p / 2 % 20 = p / 2 := by omega
    by_cases z : p / 2 = 20 * t + q
    · have z0 := hC.2.1 (p / 40 * 2 + p % 2) (by omega) (p / 2 % 20) (by omega) (by rw [eR, z]; exact ha)
      rw [z0, rt_e0]
      by_cases z1 : p = 2 * (20 * t + q) + 1
      · rw [z1, pk_us]
      · rw [pk_un z1, show p = 2 * (20 * t + q) from by omega, pk_us]
    · rw [ub_n z] at hap
      rw [pk_un (by omega), pk_un (by omega)]
      exact hF p hp hap
  have hv' : rt_YV (rt_ub A (20 * t + q) true) V (upd yv (20 * t + q) 0) := fun r hr hap => by
    by_cases z : r = 20 * t + q
    · rw [z, pk_us, hC.1 _ (by omega) ha]
    · rw [ub_n z] at hap
      rw [pk_un z]; exact hV r hr hap
  have hz' : rt_CF (rt_ub A (20 * t + q) true) F := fun c hc j hj e => by
    by_cases z : 20 * (c / 2) + j = 20 * t + q
    · rw [z, ub_s] at e; exact absurd e (by decide)
    · rw [ub_n z] at e; exact hC.2.1 c hc j hj e
  have hs' : rt_SD ru li (rt_ub A (20 * t + q) true) F (!o) := fun C hC a b k hk f => by
    have := hS C hC a b k hk f
    by_cases z : 20 * li C + (F C k - 1) = 20 * t + q
    · rw [z, ub_s]
    · rw [ub_n z]; exact this
  unfold wpY_makeRow
  refine ⟨vp_in_nI (by omega) (by decide), nm_r (e' := upd yt (20 * t + q) (rt_b true)) (by rw [er]; rfl) ⟨pk_in (2 * (20 * t + q)) 120 (by omega) i2, nm_r (e' := upd yf (2 * (20 * t + q)) (-1)) (by rw [i2, nI_clamp (by omega)]) ⟨pk_in (2 * (20 * t + q) + 1) 120 (by omega) i3, nm_r (e' := upd (upd yf (2 * (20 * t + q)) (-1)) (2 * (20 * t + q) + 1) (-1)) (by rw [i3, nI_clamp (by omega)]) ⟨vp_in_nI (by omega) (by decide), nm_r (e' := upd yv (20 * t + q) 0) (by rw [er]) ?_⟩⟩⟩⟩
  refine ry_count ht (rt_YHu hT) ?_
  exact ry_checked (A := rt_ub A (20 * t + q) true) (F := F) eo hLB hLK hB hz' (rt_YHu hT) hf' (rt_YSk hT hF hV) (fun C hC a b => (hw C hC).mpr (fun _ => hS C hC a b)) (fun _ => h1 _ _ _ e (rt_YHu hT) hf' hv') (fun ns => absurd hs' ns)
end
end
section
/-! ===== rekey ===== -/
/-- rows when the one with key q of table t gets key n -/
def rt_kA (A : Nat → Bool) (t q n : Nat) : Nat → Bool := rt_ub (rt_ub A (20 * t + q) false) (20 * t + n) true
def rt_kV (V : Nat → Int32) (t q n : Nat) : Nat → Int32 := upd (upd V (20 * t + q) 0) (20 * t + n) (V (20 * t + q))
def rt_kF (ru li : Nat → Nat) (F : Nat → Nat → Nat) (t q n : Nat) : Nat → Nat → Nat := rt_tu ru li (rt_mF F t q n) t q n 6
section
variable {xo xm : Int32} {xl xr xt xf xv xh xp xg : Nat → Int32}
variable {yo ym ys : Int32} {yl yr yt yf yv kt kf kv yg : Nat → Int32}
variable {A : Nat → Bool} {F : Nat → Nat → Nat} {V : Nat → Int32} {ru li : Nat → Nat}
variable {o : Bool} {t q n : Nat}
theorem mF_q {C : Nat} (hC : C / 2 = t) (hqn : q ≠ n) : rt_mF F t q n C q = 0 := by
  unfold rt_mF
  rw [ru_n (fun z => hqn z.2), ru_n (fun z => hqn z.2)]
  by_cases z : C = 2 * t + 1
  · rw [z, ru_s]
  · rw [ru_n (fun y => z y.1), show C = 2 * t from by omega, ru_s]
theorem mF_n {C : Nat} (hC : C / 2 = t) : rt_mF F t q n C n = F C q := by
  unfold rt_mF
  by_cases z : C = 2 * t + 1
  · rw [z, ru_s]
  · rw [ru_n (fun y => z y.1), show C = 2 * t from by omega, ru_s]
theorem mF_o {C j : Nat} (h : ¬ (C / 2 = t ∧ (j = q ∨ j = n))) : rt_mF F t q n C j = F C j := by
  unfold rt_mF
  rw [ru_n (fun z => h ⟨by omega, Or.inr z.2⟩), ru_n (fun z => h ⟨by omega, Or.inr z.2⟩), ru_n (fun z => h ⟨by omega, Or.inl z.2⟩), ru_n (fun z => h ⟨by omega, Or.inl z.2⟩)]
theorem mF_B (ht : t < 3) (hq : q < 20) (hB : rt_FB F) : rt_FB (rt_mF F t q n) :=
  rt_FBu (hB _ (by omega) _ hq) (rt_FBu (hB _ (by omega) _ hq) (rt_FBu (by omega) (rt_FBu (by omega) hB)))
/-- rt_tu by the value alone -/
theorem tu_v {C j j' : Nat} {F' : Nat → Nat → Nat} (e : F C j = F' C j') : rt_tu ru li F t q n 6 C j = rt_tu ru li F' t q n 6 C j' := by
  unfold rt_tu
  rw [e]
theorem tu_z {C j : Nat} (e : F C j = 0) : rt_tu ru li F t q n 6 C j = 0 := by
  unfold rt_tu
  rw [if_neg (fun z => by omega), e]
theorem kF_B (ht : t < 3) (hq : q < 20) (hn : n < 20) (hB : rt_FB F) : rt_FB (rt_kF ru li F t q n) := tu_B hn (mF_B ht hq hB)
theorem kA_n : rt_kA A t q n (20 * t + n) = true := ub_s
theorem kA_q (hqn : q ≠ n) : rt_kA A t q n (20 * t + q) = false := by
  unfold rt_kA
  rw [ub_n (by omega), ub_s]
theorem kA_o {r : Nat} (h1 : r ≠ 20 * t + q) (h2 : r ≠ 20 * t + n) : rt_kA A t q n r = A r := by
  unfold rt_kA
  rw [ub_n h2, ub_n h1]
theorem k_CN (ht : t < 3) (hq : q < 20) (hn : n < 20) (hqn : q ≠ n) (ha : A (20 * t + q) = true) (hb : A (20 * t + n) = false) (h : rt_CN A F V) : rt_CN (rt_kA A t q n) (rt_kF ru li F t q n) (rt_kV V t q n) := by
  refine ⟨fun r hr e => ?_, fun C hC k hk e => ?_, fun s hs => ?_⟩
  · by_cases z : r = 20 * t + n
    · rw [z, kA_n] at e; exact absurd e (by decide)
    · unfold rt_kV
      rw [pk_un z]
      by_cases z2 : r = 20 * t + q
      · rw [z2, pk_us]
      · rw [pk_un z2]
        rw [kA_o z2 z] at e
        exact h.1 r hr e
  · refine tu_z ?_
    by_cases z : C / 2 = t ∧ (k = q ∨ k = n)
    · rcases z.2 with z2 | z2
      · rw [z2]; exact mF_q z.1 hqn
      · rw [z2, z.1, kA_n] at e; exact absurd e (by decide)
    · rw [mF_o z]
      rw [kA_o (by omega) (by omega)] at e
      exact h.2.1 C hC k hk e
  · by_cases z : s = t
    · subst z
      have e : rt_cn (fun k => rt_kA A s q n (20 * s + k)) 20 = rt_cn (fun k => A (20 * s + k)) 20 := by
        refine sm_two hq hn hqn ?_ (fun k hk k1 k2 => ?_)
        · show (rt_kA A s q n (20 * s + q)).toNat + (rt_kA A s q n (20 * s + n)).toNat = (A (20 * s + q)).toNat + (A (20 * s + n)).toNat
          rw [kA_q hqn, kA_n, ha, hb]; rfl
        · show (rt_kA A s q n (20 * s + k)).toNat = (A (20 * s + k)).toNat
          rw [kA_o (by omega) (by omega)]
      rw [e]; exact h.2.2 s hs
    · have e : rt_cn (fun k => rt_kA A t q n (20 * s + k)) 20 = rt_cn (fun k => A (20 * s + k)) 20 := cn_cg (fun k hk => kA_o (by omega) (by omega))
      rw [e]; exact h.2.2 s hs
theorem k_n (ht : t < 3) (hq : q < 20) (hn : n < 20) (hqn : q ≠ n) (hb : A (20 * t + n) = false) (h : rt_CF A F) : rt_tn ru li (rt_mF F t q n) t q 6 = rt_tn ru li F t q 6 := by
  refine sm_congr (fun C hC => ?_)
  have e : rt_cn (fun k => decide (rt_mF F t q n C k = q + 1)) 20 = rt_cn (fun k => decide (F C k = q + 1)) 20 := by
    by_cases z : C / 2 = t
    · refine sm_two hq hn hqn ?_ (fun k hk k1 k2 => ?_)
      · show (decide (rt_mF F t q n C q = q + 1)).toNat + (decide (rt_mF F t q n C n = q + 1)).toNat = (decide (F C q = q + 1)).toNat + (decide (F C n = q + 1)).toNat
        rw [mF_q z hqn, mF_n z, h C hC n hn (by rw [z]; exact hb), decide_eq_false (by omega : ¬ 0 = q + 1)]
        exact Nat.add_comm _ _
      · show (decide (rt_mF F t q n C k = q + 1)).toNat = (decide (F C k = q + 1)).toNat
        rw [mF_o (by omega)]
    · exact cn_cg (fun k hk => by rw [mF_o (by omega)])
  rw [e]
theorem rx_rekey {post : Int32 → SX → Prop} (ht : t < 3) (hq : q < 20) (hn : n < 20) (eo : xo = rt_b o) (hLB : rt_LB ru li) (hLK : rt_LK ru li xl xr) (hB : rt_FB F) (hT : rt_TH A xt) (hR : rt_RF F xf) (hV : rt_VL V xv) (hH : rt_HO F xh) (ha : A (20 * t + q) = true) (hb : A (20 * t + n) = false) (h5 : (∃ C k, C < 6 ∧ k < 20 ∧ (ru C = 1 ∧ li C = t ∧ F C k = q + 1)) → post (-5) (xo, xm, xl, xr, xt, xf, xv, xh, xp, xg)) (h1 : ∀ xt' xf' xv' xh', ¬ (∃ C k, C < 6 ∧ k < 20 ∧ (ru C = 1 ∧ li C = t ∧ F C k = q + 1)) → rt_SD ru li (rt_kA A t q n) (rt_kF ru li F t q n) (!o) → rt_TH (rt_kA A t q n) xt' → rt_RF (rt_kF ru li F t q n) xf' → rt_VL (rt_kV V t q n) xv' → rt_HO (rt_kF ru li F t q n) xh' → post (nI (rt_tn ru li (rt_mF F t q n) t q 6)) (xo, xm, xl, xr, xt', xf', xv', xh', rt_cp (183 * 4) (rt_src xt xf xv) 183 xp, xg)) (h0 : ∀ xt' xf' xv' xh', ¬ (∃ C k, C < 6 ∧ k < 20 ∧ (ru C = 1 ∧ li C = t ∧ F C k = q + 1)) → ¬ rt_SD ru li (rt_kA A t q n) (rt_kF ru li F t q n) (!o) → rt_TH A xt' → rt_RF F xf' → rt_VL V xv' → rt_HO F xh' → post (-9) (xo, xm, xl, xr, xt', xf', xv', xh', rt_cp (183 * 4) (rt_src xt xf xv) 183 xp, xg)) : wpX_rekey post (xo, xm, xl, xr, xt, xf, xv, xh, xp, xg) (nI t) (nI q) (nI n) := by
  unfold wpX_rekey
  refine rx_isT ht (br_f (by decide) (rx_has ht hq hT (fun _ => br_f (by decide) ?_) (fun e => absurd (ha.symm.trans e) (by decide))))
  refine rx_isK hn (br_f (by decide) (rx_has ht hn hT (fun e => absurd (hb.symm.trans e) (by decide)) (fun _ => br_t rfl ⟨7, ?_⟩)))
  refine rx_rek46 ht hq hLB hLK hH h5 (fun nh => ?_) 6 0 rfl (fun c hc => absurd hc (by omega))
  refine br_t (by decide) ?_
  refine rx_keep (s := 4) (by omega) ?_
  refine rx_move ht hq hn hB hT hR hV hH (fun xt1 xf1 xv1 xh1 a1 a2 a3 a4 => ⟨7, ?_⟩)
  refine rx_rek116 ht hq hn hLB hLK (mF_B ht hq hB) (fun xf2 xh2 c1 c2 => ?_) 6 0 xf1 xh1 rfl (by rw [tu_0]; exact a2) (by rw [tu_0]; exact a4)
  exact rx_settle eo hLB hLK (kF_B ht hq hn hB) a1 c1 c2 hB (rt_XSk hT hR hV) (fun sd => h1 _ _ _ _ nh sd a1 c1 a3 c2) (fun ns xt2 xf2 xv2 xh2 b1 b2 b3 b4 => h0 _ _ _ _ nh ns b1 b2 b3 b4)
theorem ry_rekey {post : Int32 → SY → Prop} (ht : t < 3) (hq : q < 20) (hn : n < 20) (hqn : q ≠ n) (eo : yo = rt_b o) (hLB : rt_LB ru li) (hLK : rt_LK ru li yl yr) (hB : rt_FB F) (hC : rt_CN A F V) (hS : rt_SD ru li A F (!o)) (hT : rt_YH A yt) (hF : rt_YF A F yf) (hV : rt_YV A V yv) (ha : A (20 * t + q) = true) (hb : A (20 * t + n) = false) (h5 : (∃ C k, C < 6 ∧ k < 20 ∧ (ru C = 1 ∧ li C = t ∧ F C k = q + 1)) → post (-5) (yo, ym, ys, yl, yr, yt, yf, yv, kt, kf, kv, yg)) (h1 : ∀ yt' yf' yv', ¬ (∃ C k, C < 6 ∧ k < 20 ∧ (ru C = 1 ∧ li C = t ∧ F C k = q + 1)) → rt_SD ru li (rt_kA A t q n) (rt_kF ru li F t q n) (!o) → rt_YH (rt_kA A t q n) yt' → rt_YF (rt_kA A t q n) (rt_kF ru li F t q n) yf' → rt_YV (rt_kA A t q n) (rt_kV V t q n) yv' → post (nI (rt_tn ru li F t q 6)) (yo, ym, ys, yl, yr, yt', yf', yv', rt_cp (60 * 4) yt 60 kt, rt_cp (120 * 4) yf 120 kf, rt_cp (60 * 4) yv 60 kv, yg)) (h0 : ∀ yt' yf' yv', ¬ (∃ C k, C < 6 ∧ k < 20 ∧ (ru C = 1 ∧ li C = t ∧ F C k = q + 1)) → ¬ rt_SD ru li (rt_kA A t q n) (rt_kF ru li F t q n) (!o) → rt_YH A yt' → rt_YF A F yf' → rt_YV A V yv' → post (-9) (yo, ym, ys, yl, yr, yt', yf', yv', rt_cp (60 * 4) yt 60 kt, rt_cp (120 * 4) yf 120 kf, rt_cp (60 * 4) yv 60 kv, yg)) : wpY_rekey post (yo, ym, ys, yl, yr, yt, yf, yv, kt, kf, kv, yg) (nI t) (nI q) (nI n) := by
  unfold wpY_rekey
  refine ry_isT ht (br_f (by decide) (ry_isR ht hq hT (fun _ => br_f (by decide) ?_) (fun e => absurd (ha.symm.trans e) (by decide))))
  refine ry_isK hn (br_f (by decide) (ry_isR ht hn hT (fun e => absurd (hb.symm.trans e) (by decide)) (fun _ => br_t rfl ?_)))
  refine nm_r (ix_20 t q) ?_
  refine ry_held ht hq hLB hLK hB hC.2.1 hT hF ha (fun w => br_f (by decide) (h5 w)) (fun nh => br_t rfl ?_)
  refine ry_keep (s := 4) (by omega) hT ?_
  refine ry_sl hLB hLK hB hC.2.1 hT hF (fun w hw => ?_)
  refine ry_follow ht hq hn hLB hLK hB hC.2.1 hT hF ha (fun yf1 hf1 => ?_)
  have vn : vp_in (nI (20 * t + n)) 60 := vp_in_nI (by omega) (by decide)
  have vq : vp_in (nI (20 * t + q)) 60 := vp_in_nI (by omega) (by decide)
  have en : (nI (20 * t + n)).toNatClampNeg = 20 * t + n := nI_clamp (by omega)
  have eq : (nI (20 * t + q)).toNatClampNeg = 20 * t + q := nI_clamp (by omega)
  have i0 : (2 : Int32) * nI (20 * t + q) = nI (2 * (20 * t + q)) := ix_2 _
  have i1 : (2 : Int32) * nI (20 * t + q) + 1 = nI (2 * (20 * t + q) + 1) := ix_21 _
  have j0 : (2 : Int32) * nI (20 * t + n) = nI (2 * (20 * t + n)) := ix_2 _
  have j1 : (2 : Int32) * nI (20 * t + n) + 1 = nI (2 * (20 * t + n) + 1) := ix_21 _
  have ht' : rt_YH (rt_kA A t q n) (upd (upd yt (20 * t + n) (rt_b true)) (20 * t + q) (rt_b false)) := fun r hr => by
    by_cases z : r = 20 * t + q
    · rw [z, pk_us, kA_q hqn]
    · rw [pk_un z]
      by_cases z2 : r = 20 * t + n
      · rw [z2, pk_us, kA_n]
      · rw [pk_un z2, kA_o z z2]; exact hT r hr
  have hv' : rt_YV (rt_kA A t q n) (rt_kV V t q n) (upd yv (20 * t + n) (yv (20 * t + q))) := fun r hr hap => by
    unfold rt_kV
    by_cases z2 : r = 20 * t + n
    · rw [z2, pk_us, pk_us]; exact hV _ (by omega) ha
    · rw [pk_un z2, pk_un z2]
      by_cases z : r = 20 * t + q
      · rw [z, kA_q hqn] at hap; exact absurd hap (by decide)
      · rw [pk_un z]
        rw [kA_o z z2] at hap
        exact hV r hr hap
  have f0 : yf1 (2 * (20 * t + q)) = rt_e (rt_tu ru li F t q n 6 (2 * t) q) := by
    have := hf1 (2 * (20 * t + q)) (by omega) (by rw [show 2 * (20 * t + q) / 2 = 20 * t + q from by omega]; exact ha)
    rw [show 2 * (20 * t + q) / 40 * 2 + 2 * (20 * t + q) % 2 = 2 * t from by omega, show 2 * (20 * t + q) / 2 % 20 = q from by omega] at this
    exact this
  have f1 : yf1 (2 * (20 * t + q) + 1) = rt_e (rt_tu ru li F t q n 6 (2 * t + 1) q) := by
    have := hf1 (2 * (20 * t + q) + 1) (by omega) (by rw [show (2 * (20 * t + q) + 1) / 2 = 20 * t + q from by omega]; exact ha)
    rw [show (2 * (20 * t + q) + 1) / 40 * 2 + (2 * (20 * t + q) + 1) % 2 = 2 * t + 1 from by omega, show (2 * (20 * t + q) + 1) / 2 % 20 = q from by omega] at this
    exact this
  have hf' : rt_YF (rt_kA A t q n) (rt_kF ru li F t q n) (upd (upd yf1 (2 * (20 * t + n)) (yf1 (2 * (20 * t + q)))) (2 * (20 * t + n) + 1) (yf1 (2 * (20 * t + q) + 1))) := fun p hp hap => by
    unfold rt_kF
    by_cases z2 : p / 2 = 20 * t + n
    · by_cases z3 : p = 2 * (20 * t + n) + 1
      · rw [z3, pk_us, f1, show (2 * (20 * t + n) + 1) / 40 * 2 + (2 * (20 * t + n) + 1) % 2 = 2 * t + 1 from by omega, show (2 * (20 * t + n) + 1) / 2 % 20 = n from by omega]
        exact congrArg rt_e (tu_v (mF_n (by omega)).symm)
      · rw [pk_un z3, show p = 2 * (20 * t + n) from by omega, pk_us, f0, show 2 * (20 * t + n) / 40 * 2 + 2 * (20 * t + n) % 2 = 2 * t from by omega, show 2 * (20 * t + n) / 2 % 20 = n from by omega]
        exact congrArg rt_e (tu_v (mF_n (by omega)).symm)
    · by_cases z : p / 2 = 20 * t + q
      · rw [z, kA_q hqn] at hap; exact absurd hap (by decide)
      · rw [kA_o z z2] at hap
        rw [pk_un (by omega), pk_un (by omega), hf1 p hp hap]
        exact congrArg rt_e (tu_v (mF_o (by omega)).symm)
  refine nm_r (ix_20 t n) ⟨vn, nm_r (e' := upd yt (20 * t + n) (rt_b true)) (by rw [en]; rfl) ⟨vq, nm_r (e' := upd (upd yt (20 * t + n) (rt_b true)) (20 * t + q) (rt_b false)) (by rw [eq]; rfl) ⟨pk_in (2 * (20 * t + q)) 120 (by omega) i0, pk_in (2 * (20 * t + n)) 120 (by omega) j0, nm_r (e' := upd yf1 (2 * (20 * t + n)) (yf1 (2 * (20 * t + q)))) (by rw [i0, j0, nI_clamp (n := 2 * (20 * t + q)) (by omega), nI_clamp (n := 2 * (20 * t + n)) (by omega)]) ⟨pk_in (2 * (20 * t + q) + 1) 120 (by omega) i1, pk_in (2 * (20 * t + n) + 1) 120 (by omega) j1, nm_r (e' := upd (upd yf1 (2 * (20 * t + n)) (yf1 (2 * (20 * t + q)))) (2 * (20 * t + n) + 1) (yf1 (2 * (20 * t + q) + 1))) (by rw [i1, j1, nI_clamp (n := 2 * (20 * t + q) + 1) (by omega), nI_clamp (n := 2 * (20 * t + n) + 1) (by omega), pk_un (j := 2 * (20 * t + q) + 1) (by omega)]) ⟨vq, vn, nm_r (e' := upd yv (20 * t + n) (yv (20 * t + q))) (by rw [en, eq]) ?_⟩⟩⟩⟩⟩
  exact ry_checked (A := rt_kA A t q n) (F := rt_kF ru li F t q n) eo hLB hLK (kF_B ht hq hn hB) (k_CN ht hq hn hqn ha hb hC).2.1 ht' hf' (rt_YSk hT hF hV) (fun C hC a b => (hw C hC).mpr (fun _ => hS C hC a b)) (fun sd => h1 _ _ _ nh sd ht' hf' hv') (fun ns yt2 yf2 yv2 b1 b2 b3 => h0 _ _ _ nh ns b1 b2 b3)
/-- what is left when rows go -/
theorem d_CN {G : Nat → Bool} (h : rt_CN A F V) : rt_CN (rt_dA A G 60) (rt_dF (rt_rm ru li F G 6) G 60) (rt_dV V G 60) := by
  refine ⟨fun r hr e => ?_, fun C hC k hk e => ?_, fun s hs => ?_⟩
  · unfold rt_dA at e
    unfold rt_dV
    rw [decide_eq_true hr, Bool.true_and] at e
    cases g : G r
    · rw [if_neg (fun z => absurd z.2 (by decide))]
      rw [g, Bool.not_false, Bool.and_true] at e
      exact h.1 r hr e
    · rw [if_pos ⟨hr, rfl⟩]
  · have hr : 20 * (C / 2) + k < 60 := by omega
    unfold rt_dA at e
    unfold rt_dF
    rw [decide_eq_true hr, Bool.true_and] at e
    cases g : G (20 * (C / 2) + k)
    · rw [if_neg (fun z => absurd z.2 (by decide))]
      rw [g, Bool.not_false, Bool.and_true] at e
      have f := h.2.1 C hC k hk e
      unfold rt_rm
      rw [if_neg (fun z => z.2.2.1 f)]
      exact f
    · rw [if_pos ⟨hr, rfl⟩]
  · refine Nat.le_trans (cn_le (fun k hk e => ?_)) (h.2.2 s hs)
    have e2 : rt_dA A G 60 (20 * s + k) = true := e
    unfold rt_dA at e2
    exact (Bool.and_eq_true_iff.mp e2).1
theorem ins_cn (hq : q < 20) (ha : A (20 * t + q) = false) : rt_cn (fun k => rt_ub A (20 * t + q) true (20 * t + k)) 20 = rt_cn (fun k => A (20 * t + k)) 20 + 1 := by
  unfold rt_cn
  rw [sm_take (fun k => (rt_ub A (20 * t + q) true (20 * t + k)).toNat) hq, sm_take (fun k => (A (20 * t + k)).toNat) hq]
  rw [ub_s, ha, sm_congr (f := fun j => if j = q then 0 else (rt_ub A (20 * t + q) true (20 * t + j)).toNat) (g := fun j => if j = q then 0 else (A (20 * t + j)).toNat) (fun k hk => ?_)]
  · show 1 + _ = 0 + _ + 1
    omega
  · show (if k = q then 0 else (rt_ub A (20 * t + q) true (20 * t + k)).toNat) = if k = q then 0 else (A (20 * t + k)).toNat
    by_cases z : k = q
    · rw [if_pos z, if_pos z]
    · rw [if_neg z, if_neg z, ub_n (by omega)]
theorem ins_CN (ht : t < 3) (hq : q < 20) (ha : A (20 * t + q) = false) (hc : rt_cn (fun k => A (20 * t + k)) 20 ≠ 12) (h : rt_CN A F V) : rt_CN (rt_ub A (20 * t + q) true) F V := by
  refine ⟨fun r hr e => ?_, fun C hC k hk e => ?_, fun s hs => ?_⟩
  · by_cases z : r = 20 * t + q
    · rw [z, ub_s] at e; exact absurd e (by decide)
    · rw [ub_n z] at e; exact h.1 r hr e
  · by_cases z : 20 * (C / 2) + k = 20 * t + q
    · rw [z, ub_s] at e; exact absurd e (by decide)
    · rw [ub_n z] at e; exact h.2.1 C hC k hk e
  · have := h.2.2 s hs
    by_cases z : s = t
    · subst z
      rw [ins_cn hq ha]; omega
    · rw [cn_cg (Q := fun k => A (20 * s + k)) (fun k hk => ub_n (by omega))]; exact this
end
end
section
/-! ===== the relation ===== -/
/-- slot s of both sides holds one picture -/
def rt_PS (ru li : Nat → Nat) (s : Nat) (xp kt kf kv : Nat → Int32) : Prop := ∃ (A : Nat → Bool) (F : Nat → Nat → Nat) (V : Nat → Int32), rt_XS s xp A F V ∧ rt_YS s kt kf kv A F V ∧ rt_FB F ∧ rt_CN A F V ∧ rt_SD ru li A F (decide (s = 0))
def rt_R (xo xm : Int32) (xl xr xt xf xv xh xp : Nat → Int32) (yo ym ys : Int32) (yl yr yt yf yv kt kf kv : Nat → Int32) : Prop := ∃ (o : Bool) (m : Nat) (ru li : Nat → Nat) (A : Nat → Bool) (F : Nat → Nat → Nat) (V : Nat → Int32), (xo = rt_b o ∧ yo = rt_b o ∧ xm = nI m ∧ ym = nI m ∧ m ≤ 3) ∧ (rt_LB ru li ∧ rt_LK ru li xl xr ∧ rt_LK ru li yl yr) ∧ (rt_TH A xt ∧ rt_RF F xf ∧ rt_VL V xv ∧ rt_HO F xh) ∧ (rt_YH A yt ∧ rt_YF A F yf ∧ rt_YV A V yv) ∧ (rt_FB F ∧ rt_CN A F V ∧ rt_SD ru li A F (!o)) ∧ (o = true → (∀ C, C < 6 → bt ys C = true) ∧ ∀ s, s ≤ m → rt_PS ru li s xp kt kf kv)
/-- both hold one picture of the tables, of the links and of every slot in use -/
def i_Rel (_ : Nat) (u : SX) (v : SY) : Prop := rt_R u.1 u.2.1 u.2.2.1 u.2.2.2.1 u.2.2.2.2.1 u.2.2.2.2.2.1 u.2.2.2.2.2.2.1 u.2.2.2.2.2.2.2.1 u.2.2.2.2.2.2.2.2.1 v.1 v.2.1 v.2.2.1 v.2.2.2.1 v.2.2.2.2.1 v.2.2.2.2.2.1 v.2.2.2.2.2.2.1 v.2.2.2.2.2.2.2.1 v.2.2.2.2.2.2.2.2.1 v.2.2.2.2.2.2.2.2.2.1 v.2.2.2.2.2.2.2.2.2.2.1
theorem i_up {k : Nat} {u : SX} {v : SY} (h : i_Rel k u v) : i_Rel (k + 5) u v := h
section
variable {xo xm : Int32} {xl xr xt xf xv xh xp xg : Nat → Int32}
variable {yo ym ys : Int32} {yl yr yt yf yv kt kf kv yg : Nat → Int32}
variable {A : Nat → Bool} {F : Nat → Nat → Nat} {V : Nat → Int32} {ru li : Nat → Nat}
variable {o : Bool} {m : Nat}
theorem rt_mk {k : Nat} (h1 : xo = rt_b o ∧ yo = rt_b o ∧ xm = nI m ∧ ym = nI m ∧ m ≤ 3) (h2 : rt_LB ru li ∧ rt_LK ru li xl xr ∧ rt_LK ru li yl yr) (h3 : rt_TH A xt ∧ rt_RF F xf ∧ rt_VL V xv ∧ rt_HO F xh) (h4 : rt_YH A yt ∧ rt_YF A F yf ∧ rt_YV A V yv) (h5 : rt_FB F ∧ rt_CN A F V ∧ rt_SD ru li A F (!o)) (h6 : o = true → (∀ C, C < 6 → bt ys C = true) ∧ ∀ s, s ≤ m → rt_PS ru li s xp kt kf kv) : i_Rel k (xo, xm, xl, xr, xt, xf, xv, xh, xp, xg) (yo, ym, ys, yl, yr, yt, yf, yv, kt, kf, kv, yg) := by
  show rt_R xo xm xl xr xt xf xv xh xp yo ym ys yl yr yt yf yv kt kf kv
  exact ⟨o, m, ru, li, A, F, V, h1, h2, h3, h4, h5, h6⟩
/-- slot q is written on both sides: the others stay -/
theorem rt_PSo {s q : Nat} {f g1 g2 g3 : Nat → Int32} (hq : s ≠ q) (h : rt_PS ru li s xp kt kf kv) : rt_PS ru li s (rt_cp (183 * q) f 183 xp) (rt_cp (60 * q) g1 60 kt) (rt_cp (120 * q) g2 120 kf) (rt_cp (60 * q) g3 60 kv) := by
  obtain ⟨A, F, V, a, b, c⟩ := h
  exact ⟨A, F, V, rt_XSo hq a, rt_YSo hq b, c⟩
theorem rt_PSy {s q : Nat} {g1 g2 g3 : Nat → Int32} (hq : s ≠ q) (h : rt_PS ru li s xp kt kf kv) : rt_PS ru li s xp (rt_cp (60 * q) g1 60 kt) (rt_cp (120 * q) g2 120 kf) (rt_cp (60 * q) g3 60 kv) := by
  obtain ⟨A, F, V, a, b, c⟩ := h
  exact ⟨A, F, V, a, rt_YSo hq b, c⟩
theorem rt_P4 {f g1 g2 g3 : Nat → Int32} (hm : m ≤ 3) (h : o = true → (∀ C, C < 6 → bt ys C = true) ∧ ∀ s, s ≤ m → rt_PS ru li s xp kt kf kv) : o = true → (∀ C, C < 6 → bt ys C = true) ∧ ∀ s, s ≤ m → rt_PS ru li s (rt_cp (183 * 4) f 183 xp) (rt_cp (60 * 4) g1 60 kt) (rt_cp (120 * 4) g2 120 kf) (rt_cp (60 * 4) g3 60 kv) := fun e => ⟨(h e).1, fun s hs => rt_PSo (by omega) ((h e).2 s hs)⟩
theorem rt_P4y {g1 g2 g3 : Nat → Int32} (hm : m ≤ 3) (h : o = true → (∀ C, C < 6 → bt ys C = true) ∧ ∀ s, s ≤ m → rt_PS ru li s xp kt kf kv) : o = true → (∀ C, C < 6 → bt ys C = true) ∧ ∀ s, s ≤ m → rt_PS ru li s xp (rt_cp (60 * 4) g1 60 kt) (rt_cp (120 * 4) g2 120 kf) (rt_cp (60 * 4) g3 60 kv) := fun e => ⟨(h e).1, fun s hs => rt_PSy (by omega) ((h e).2 s hs)⟩
/-! ===== link ===== -/
def rt_un (f : Nat → Nat) (C x : Nat) : Nat → Nat := fun c => if c = C then x else f c
theorem un_s {f : Nat → Nat} {C x : Nat} : rt_un f C x C = x := if_pos rfl
theorem un_n {f : Nat → Nat} {C x c : Nat} (h : c ≠ C) : rt_un f C x c = f c := if_neg h
theorem rt_LKu {C r b : Nat} {l rr : Nat → Int32} (h : rt_LK ru li l rr) : rt_LK (rt_un ru C r) (rt_un li C b) (upd l C (nI b)) (upd rr C (rt_e r)) := fun c hc => by
  by_cases e : c = C
  · rw [e, un_s, un_s, pk_us, pk_us]; exact ⟨rfl, rfl⟩
  · rw [un_n e, un_n e, pk_un e, pk_un e]; exact h c hc
theorem rt_LBu {C r b : Nat} (hr : r ≤ 4) (hb : b < 3) (h : rt_LB ru li) : rt_LB (rt_un ru C r) (rt_un li C b) := fun c hc => by
  by_cases e : c = C
  · rw [e, un_s, un_s]; exact ⟨hb, hr⟩
  · rw [un_n e, un_n e]; exact h c hc
theorem rt_SDl {C r b : Nat} (hF : ¬ (∃ k, k < 20 ∧ F C k ≠ 0)) (h : rt_SD ru li A F true) : rt_SD (rt_un ru C r) (rt_un li C b) A F true := fun c hc a z k hk f => by
  by_cases e : c = C
  · rw [e] at f; exact absurd ⟨k, hk, f⟩ hF
  · rw [un_n e] at a
    rw [un_n e]
    exact h c hc a (Or.inr rfl) k hk f
theorem rx_link {post : Int32 → SX → Prop} {t c r b : Nat} {x3 : Int32} (ht : t < 3) (hc : c < 2) (hr : r ≤ 4) (hb : b < 3) (h3 : r ≠ 0 → x3 = nI b) (h3' : r = 0 → b = 0) (hLB : rt_LB ru li) (hLK : rt_LK ru li xl xr) (hB : rt_FB F) (hH : rt_HO F xh) (h4 : ¬ xo = 0 → post (-4) (xo, xm, xl, xr, xt, xf, xv, xh, xp, xg)) (h5 : xo = 0 → (∃ k, k < 20 ∧ F (2 * t + c) k ≠ 0) → post (-5) (xo, xm, xl, xr, xt, xf, xv, xh, xp, xg)) (h1 : xo = 0 → ¬ (∃ k, k < 20 ∧ F (2 * t + c) k ≠ 0) → post (rt_e (ru (2 * t + c))) (xo, xm, upd xl (2 * t + c) (nI b), upd xr (2 * t + c) (rt_e r), xt, xf, xv, xh, xp, xg)) : wX_link_22 post (nI t) (nI c) x3 (rt_e r) xo xm xl xr xt xf xv xh xp xg := by
  have hC : 2 * t + c < 6 := by omega
  have vC : vp_in (nI (2 * t + c)) 6 := vp_in_nI hC (by decide)
  have eC : (nI (2 * t + c)).toNatClampNeg = 2 * t + c := nI_clamp (by omega)
  unfold wX_link_22
  refine rx_isC hc (br_f (by decide) ?_)
  refine re_lt r 0 (fun z => absurd z (by omega)) (fun _ => ?_)
  refine re_le r 4 (fun _ => ?_) (fun z => absurd z (by omega))
  refine br_c (fun z => nm_r (ix_2c t c) ⟨21, ?_⟩) h4
  refine rx_link67 hC hB hH (h5 z) (fun nf => ?_) 20 0 rfl (fun v hv => absurd hv (by omega))
  refine br_t (by decide) ⟨vC, nm_r (e' := rt_e (ru (2 * t + c))) (by rw [eC, (hLK _ hC).2]) ⟨vC, nm_r (e' := upd xr (2 * t + c) (rt_e r)) (by rw [eC]) ?_⟩⟩
  refine re_eq r 0 (fun w => ⟨vC, nm_r (e' := upd xl (2 * t + c) (nI b)) (by rw [eC, h3' w]; rfl) (h1 z nf)⟩) (fun w => ⟨vC, nm_r (e' := upd xl (2 * t + c) (nI b)) (by rw [eC, h3 w]) (h1 z nf)⟩)
theorem ry_link {post : Int32 → SY → Prop} {t c r b : Nat} {x3 : Int32} (ht : t < 3) (hc : c < 2) (hr : r ≤ 4) (hb : b < 3) (h3 : r ≠ 0 → x3 = nI b) (h3' : r = 0 → b = 0) (hLB : rt_LB ru li) (hLK : rt_LK ru li yl yr) (hB : rt_FB F) (hZ : rt_CF A F) (hT : rt_YH A yt) (hF : rt_YF A F yf) (h4 : ¬ yo = 0 → post (-4) (yo, ym, ys, yl, yr, yt, yf, yv, kt, kf, kv, yg)) (h5 : yo = 0 → (∃ k, k < 20 ∧ F (2 * t + c) k ≠ 0) → post (-5) (yo, ym, ys, yl, yr, yt, yf, yv, kt, kf, kv, yg)) (h1 : yo = 0 → ¬ (∃ k, k < 20 ∧ F (2 * t + c) k ≠ 0) → post (rt_e (ru (2 * t + c))) (yo, ym, ys, upd yl (2 * t + c) (nI b), upd yr (2 * t + c) (rt_e r), yt, yf, yv, kt, kf, kv, yg)) : wY_link_24 post (nI t) (nI c) x3 (rt_e r) yo ym ys yl yr yt yf yv kt kf kv yg := by
  have hC : 2 * t + c < 6 := by omega
  have vC : vp_in ((2 : Int32) * nI t + nI c) 6 := pk_in (2 * t + c) 6 hC (ix_2c t c)
  have eC : ((2 : Int32) * nI t + nI c).toNatClampNeg = 2 * t + c := by rw [ix_2c, nI_clamp (by omega)]
  unfold wY_link_24
  refine br_f (nI_pos (by omega)) (br_t (nI_le (b := 1) (by omega) (by decide)) ?_)
  refine re_lt r 0 (fun z => absurd z (by omega)) (fun _ => ?_)
  refine re_le r 4 (fun _ => ?_) (fun z => absurd z (by omega))
  refine br_c (fun z => ⟨21, ?_⟩) h4
  refine ry_link64 ht hc hB hZ hT hF (h5 z) (fun nf => ?_) 20 0 rfl (fun v hv => absurd hv (by omega))
  refine br_t (by decide) ⟨vC, nm_r (e' := rt_e (ru (2 * t + c))) (by rw [eC, (hLK _ hC).2]) ⟨vC, nm_r (e' := upd yr (2 * t + c) (rt_e r)) (by rw [eC]) ?_⟩⟩
  refine re_le 1 r (fun w => ⟨vC, nm_r (e' := upd yl (2 * t + c) (nI b)) (by rw [eC, h3 (by omega)]) (h1 z nf)⟩) (fun w => ⟨vC, nm_r (e' := upd yl (2 * t + c) (nI b)) (by rw [eC, h3' (by omega)]; rfl) (h1 z nf)⟩)
end
end
section
/-! ===== what is owed ===== -/
theorem i_vc0 : wpX_init (fun u => wpY_init (fun v => i_Rel 0 u v)) := by
  have c0 : ∀ (f p : Nat → Int32) (n j : Nat), j < n → rt_cp 0 f n p j = f j := fun f p n j hj => by
    have := cp_i (b := 0) (s := f) (p := p) hj
    rw [Nat.zero_add] at this
    exact this
  unfold wpX_init
  refine ⟨7, ?_⟩
  have kx := rx_init69 (post := fun u => wpY_init (fun v => i_Rel 0 u v)) (xo := 0) (xm := 0) (xl := fun _ => 0) (xr := fun _ => 0) (xt := fun _ => 0) (xf := fun _ => 0) (xv := fun _ => 0) (xh := fun _ => 0) (xp := fun _ => 0) (xg := fun _ => 0) ?_ 6 0 rfl
  · rw [cp_0] at kx
    exact kx
  · show wpY_init _
    unfold wpY_init
    refine ⟨7, ?_⟩
    have ky := ry_init81 (post := fun v => i_Rel 0 (0, 0, fun _ => 0, rt_cp 0 (fun _ => -1) 6 (fun _ => 0), fun _ => 0, rt_cp 0 (fun _ => -1) 120 (fun _ => 0), fun _ => 0, fun _ => 0, fun _ => 0, fun _ => 0) v) (yo := 0) (ym := 0) (ys := 0) (yl := fun _ => 0) (yr := fun _ => 0) (yt := fun _ => 0) (yf := fun _ => 0) (yv := fun _ => 0) (kt := fun _ => 0) (kf := fun _ => 0) (kv := fun _ => 0) (yg := fun _ => 0) ?_ 6 0 rfl
    · rw [cp_0] at ky
      exact ky
    · refine rt_mk (o := false) (m := 0) (ru := fun _ => 0) (li := fun _ => 0) (A := fun _ => false) (F := fun _ _ => 0) (V := fun _ => 0) ⟨rfl, rfl, rfl, rfl, by omega⟩ ⟨fun C _ => ⟨(by decide : (0 : Nat) < 3), Nat.zero_le _⟩, fun C hC => ⟨rfl, c0 _ _ _ _ hC⟩, fun C hC => ⟨rfl, c0 _ _ _ _ hC⟩⟩ ⟨fun t _ k => ?_, fun C hC k hk => c0 _ _ _ _ (by omega), fun _ _ => rfl, fun C _ v _ k => ?_⟩ ⟨fun _ _ => rfl, fun p _ e => (Bool.false_ne_true e).elim, fun r _ e => (Bool.false_ne_true e).elim⟩ ⟨fun _ _ _ _ => Nat.zero_le _, ⟨fun _ _ _ => rfl, fun _ _ _ _ _ => rfl, fun t _ => ?_⟩, fun C _ a => absurd rfl a⟩ (fun e => absurd e (by decide))
      · show bt 0 k = _
        rw [b_0, Bool.and_false]
      · show bt 0 k = (decide (k < 20) && decide (0 = v + 1))
        rw [b_0, decide_eq_false (by omega : ¬ 0 = v + 1), Bool.and_false]
      · rw [cn_z (fun _ _ => rfl)]; omega
theorem i_vc_link {k : Nat} {u : SX} {v : SY} (I : i_Rel k u v) (hk : k + 5 ≤ 2560) (v1 : Int32) (v2 : Int32) (v3 : Int32) (v4 : Int32) : wpX_link (fun r u' => wpY_link (fun r' v' => r' = r ∧ i_Rel (k + 5) u' v') v v1 v2 v3 v4) u v1 v2 v3 v4 := by
  obtain ⟨xo, xm, xl, xr, xt, xf, xv, xh, xp, xg⟩ := u
  obtain ⟨yo, ym, ys, yl, yr, yt, yf, yv, kt, kf, kv, yg⟩ := v
  have I' : rt_R xo xm xl xr xt xf xv xh xp yo ym ys yl yr yt yf yv kt kf kv := I
  obtain ⟨o, m, ru, li, A, F, V, ⟨eo, eo', em, em', hm⟩, ⟨hLB, hLX, hLY⟩, ⟨hT, hR, hV, hH⟩, ⟨yT, yF, yV⟩, ⟨hB, hC, hS⟩, hP⟩ := I'
  rcases rt_ix v1 3 (by decide) with h | ⟨t, ht, rfl⟩
  · unfold wpX_link
    refine rx_isT0 h (br_t rfl ?_)
    show wpY_link _ _ _ _ _ _
    unfold wpY_link
    exact ry_isT0 h (br_t rfl ⟨rfl, I⟩)
  have key : (v4 = -1 ∨ ∃ b, b < 3 ∧ v3 = nI b) → wX_link_22 (fun r u' => wpY_link (fun r' v' => r' = r ∧ i_Rel (k + 5) u' v') (yo, ym, ys, yl, yr, yt, yf, yv, kt, kf, kv, yg) (nI t) v2 v3 v4) (nI t) v2 v3 v4 xo xm xl xr xt xf xv xh xp xg := fun hv => by
    have yy : ∀ {post : Int32 → SY → Prop}, wY_link_24 post (nI t) v2 v3 v4 yo ym ys yl yr yt yf yv kt kf kv yg → wpY_link post (yo, ym, ys, yl, yr, yt, yf, yv, kt, kf, kv, yg) (nI t) v2 v3 v4 := fun {post} w => by
      unfold wpY_link
      refine ry_isT ht (br_f (by decide) ?_)
      by_cases e : v4 = -1
      · exact br_t e w
      · rcases hv with e2 | ⟨b, hb, e2⟩
        · exact absurd e2 e
        · refine br_f e ?_
          have := ry_isT (yo := yo) (ym := ym) (ys := ys) (yl := yl) (yr := yr) (yt := yt) (yf := yf) (yv := yv) (kt := kt) (kf := kf) (kv := kv) (yg := yg) (post := fun r_37 => (r_37 = 0 → post (-1) (yo, ym, ys, yl, yr, yt, yf, yv, kt, kf, kv, yg)) ∧ (¬ r_37 = 0 → wY_link_24 post (nI t) v2 v3 v4 yo ym ys yl yr yt yf yv kt kf kv yg)) hb (br_f (by decide) w)
          rw [← e2] at this
          exact this
    rcases rt_ix v2 2 (by decide) with h | ⟨c, hc, rfl⟩
    · unfold wX_link_22
      refine rx_isC0 h (br_t rfl (yy ?_))
      unfold wY_link_24
      by_cases z : v2 < 0
      · exact br_t z ⟨rfl, I⟩
      · exact br_f z (br_f (rt_ngt (n := 1) (by decide) (h.resolve_left z)) ⟨rfl, I⟩)
    by_cases l1 : v4 < -1
    · unfold wX_link_22
      refine rx_isC hc (br_f (by decide) (br_t l1 (yy ?_)))
      unfold wY_link_24
      exact br_f (nI_pos (by omega)) (br_t (nI_le (b := 1) (by omega) (by decide)) (br_t l1 ⟨rfl, I⟩))
    by_cases l2 : v4 ≤ 3
    · obtain ⟨r, hr, rfl⟩ : ∃ r, r ≤ 4 ∧ v4 = rt_e r := by
        rw [Int32.lt_iff_toInt_lt, show (-1 : Int32).toInt = -1 from by decide] at l1
        rw [Int32.le_iff_toInt_le, show (3 : Int32).toInt = 3 from by decide] at l2
        refine ⟨(v4.toInt + 1).toNat, by omega, ?_⟩
        rw [← Int32.toInt_inj, rt_eI (by omega)]
        omega
      obtain ⟨b, hb, h3, h3'⟩ : ∃ b, b < 3 ∧ (r ≠ 0 → v3 = nI b) ∧ (r = 0 → b = 0) := by
        by_cases r0 : r = 0
        · exact ⟨0, by omega, fun z => absurd r0 z, fun _ => rfl⟩
        · rcases hv with e | ⟨b, hb, e⟩
          · rw [← rt_e0, rt_e_eq (by omega) (by omega)] at e
            exact absurd e r0
          · exact ⟨b, hb, fun _ => e, fun z => absurd z r0⟩
      refine rx_link ht hc hr hb h3 h3' hLB hLX hB hH (fun z => yy ?_) (fun z ex => yy ?_) (fun z nex => yy ?_)
      · exact ry_link ht hc hr hb h3 h3' hLB hLY hB hC.2.1 yT yF (fun _ => ⟨rfl, I⟩) (fun z2 => absurd (eo.trans (eo'.symm.trans z2)) z) (fun z2 => absurd (eo.trans (eo'.symm.trans z2)) z)
      · exact ry_link ht hc hr hb h3 h3' hLB hLY hB hC.2.1 yT yF (fun z2 => absurd (eo'.trans (eo.symm.trans z)) z2) (fun _ _ => ⟨rfl, I⟩) (fun _ nex => absurd ex nex)
      · have oz : o = false := rt_b0.mp (eo.symm.trans z)
        subst oz
        exact ry_link ht hc hr hb h3 h3' hLB hLY hB hC.2.1 yT yF (fun z2 => absurd (eo'.trans (eo.symm.trans z)) z2) (fun _ ex => absurd ex nex) (fun _ _ => ⟨rfl, rt_mk ⟨eo, eo', em, em', hm⟩ ⟨rt_LBu hr hb hLB, rt_LKu hLX, rt_LKu hLY⟩ ⟨hT, hR, hV, hH⟩ ⟨yT, yF, yV⟩ ⟨hB, hC, rt_SDl nex hS⟩ (fun e => absurd e (by decide))⟩)
    · unfold wX_link_22
      refine rx_isC hc (br_f (by decide) (br_f l1 (br_f l2 (yy ?_))))
      unfold wY_link_24
      exact br_f (nI_pos (by omega)) (br_t (nI_le (b := 1) (by omega) (by decide)) (br_f l1 (br_f l2 ⟨rfl, I⟩)))
  unfold wpX_link
  refine rx_isT ht (br_f (by decide) ?_)
  by_cases e : v4 = -1
  · exact br_t e (key (Or.inl e))
  · refine br_f e ?_
    rcases rt_ix v3 3 (by decide) with h | hb
    · refine rx_isT0 h (br_t rfl ?_)
      show wpY_link _ _ _ _ _ _
      unfold wpY_link
      exact ry_isT ht (br_f (by decide) (br_f e (ry_isT0 h (br_t rfl ⟨rfl, I⟩))))
    · have kk := key (Or.inr hb)
      obtain ⟨b, hb, rfl⟩ := hb
      exact rx_isT hb (br_f (by decide) kk)
theorem i_vc_insert {k : Nat} {u : SX} {v : SY} (I : i_Rel k u v) (hk : k + 5 ≤ 2560) (v1 : Int32) (v2 : Int32) : wpX_insert (fun r u' => wpY_insert (fun r' v' => r' = r ∧ i_Rel (k + 5) u' v') v v1 v2) u v1 v2 := by
  obtain ⟨xo, xm, xl, xr, xt, xf, xv, xh, xp, xg⟩ := u
  obtain ⟨yo, ym, ys, yl, yr, yt, yf, yv, kt, kf, kv, yg⟩ := v
  have I' : rt_R xo xm xl xr xt xf xv xh xp yo ym ys yl yr yt yf yv kt kf kv := I
  obtain ⟨o, m, ru, li, A, F, V, ⟨eo, eo', em, em', hm⟩, ⟨hLB, hLX, hLY⟩, ⟨hT, hR, hV, hH⟩, ⟨yT, yF, yV⟩, ⟨hB, hC, hS⟩, hP⟩ := I'
  rcases rt_ix v1 3 (by decide) with h | ⟨t, ht, rfl⟩
  · unfold wpX_insert
    refine rx_isT0 h (br_t rfl ?_)
    show wpY_insert _ _ _ _
    unfold wpY_insert
    exact ry_isT0 h (br_t rfl ⟨rfl, I⟩)
  rcases rt_ix v2 20 (by decide) with h | ⟨q, hq, rfl⟩
  · unfold wpX_insert
    refine rx_isT ht (br_f (by decide) (rx_isK0 h (br_t rfl ?_)))
    show wpY_insert _ _ _ _
    unfold wpY_insert
    exact ry_isT ht (br_f (by decide) (ry_isK0 h (br_t rfl ⟨rfl, I⟩)))
  unfold wpX_insert
  refine rx_isT ht (br_f (by decide) (rx_isK hq (br_f (by decide) (rx_has ht hq hT (fun e => br_f (by decide) ?_) (fun e => br_t rfl ⟨vp_in_nI ht (by decide), ?_⟩)))))
  · show wpY_insert _ _ _ _
    unfold wpY_insert
    exact ry_isT ht (br_f (by decide) (ry_isK hq (br_f (by decide) (ry_isR ht hq yT (fun _ => br_f (by decide) ⟨rfl, I⟩) (fun e2 => absurd (e.symm.trans e2) (by decide))))))
  · have et : (nI t).toNatClampNeg = t := nI_clamp (by omega)
    have vt : vp_in (nI t) 3 := vp_in_nI ht (by decide)
    have ec : rt_cn (bt (xt t)) 20 = rt_cn (fun k => A (20 * t + k)) 20 := cn_cg (fun k hk => rt_THb hT ht hk)
    have h12 := hC.2.2 t ht
    rw [et]
    refine rx_ones (rt_THz hT ht) ?_
    rw [ec]
    refine pk_lt (rt_cn (fun k => A (20 * t + k)) 20) 12 (fun z => ⟨vt, vt, nm_e ?_⟩) (fun z => ?_)
    · show wpY_insert _ _ _ _
      refine ry_insert ht hq eo' hLB hLY hB hC hS yT yF yV e (fun z2 => absurd z2 (by omega)) (fun yt' yf' yv' nz a1 a2 a3 => ⟨?_, ?_⟩)
      · rw [ins_cn hq e]; exact (nI_1 _).symm
      · refine rt_mk ⟨eo, eo', em, em', hm⟩ ⟨hLB, hLX, hLY⟩ ⟨rt_THs hq hT, hR, hV, hH⟩ ⟨a1, a2, a3⟩ ⟨hB, ins_CN ht hq e nz hC, ?_⟩ (rt_P4y hm hP)
        intro C hC a b k hk f
        by_cases z : 20 * li C + (F C k - 1) = 20 * t + q
        · rw [z, ub_s]
        · rw [ub_n z]; exact hS C hC a b k hk f
    · show wpY_insert _ _ _ _
      exact ry_insert ht hq eo' hLB hLY hB hC hS yT yF yV e (fun _ => ⟨rfl, I⟩) (fun yt' yf' yv' nz => absurd (by omega) nz)
theorem i_vc_remove {k : Nat} {u : SX} {v : SY} (I : i_Rel k u v) (hk : k + 5 ≤ 2560) (v1 : Int32) (v2 : Int32) : wpX_remove (fun r u' => wpY_remove (fun r' v' => r' = r ∧ i_Rel (k + 5) u' v') v v1 v2) u v1 v2 := by
  obtain ⟨xo, xm, xl, xr, xt, xf, xv, xh, xp, xg⟩ := u
  obtain ⟨yo, ym, ys, yl, yr, yt, yf, yv, kt, kf, kv, yg⟩ := v
  have I' : rt_R xo xm xl xr xt xf xv xh xp yo ym ys yl yr yt yf yv kt kf kv := I
  obtain ⟨o, m, ru, li, A, F, V, ⟨eo, eo', em, em', hm⟩, ⟨hLB, hLX, hLY⟩, ⟨hT, hR, hV, hH⟩, ⟨yT, yF, yV⟩, ⟨hB, hC, hS⟩, hP⟩ := I'
  rcases rt_ix v1 3 (by decide) with h | ⟨t, ht, rfl⟩
  · unfold wpX_remove
    refine rx_isT0 h (br_t rfl ?_)
    show wpY_remove _ _ _ _
    unfold wpY_remove
    exact ry_isT0 h (br_t rfl ⟨rfl, I⟩)
  rcases rt_ix v2 20 (by decide) with h | ⟨q, hq, rfl⟩
  · unfold wpX_remove
    refine rx_isT ht (br_f (by decide) (rx_has0 h (br_t rfl ?_)))
    show wpY_remove _ _ _ _
    unfold wpY_remove
    exact ry_isT ht (br_f (by decide) (ry_isR0 h (br_t rfl ⟨rfl, I⟩)))
  cases e : A (20 * t + q)
  · unfold wpX_remove
    refine rx_isT ht (br_f (by decide) (rx_has ht hq hT (fun z => absurd (e.symm.trans z) (by decide)) (fun _ => br_t rfl ?_)))
    show wpY_remove _ _ _ _
    unfold wpY_remove
    exact ry_isT ht (br_f (by decide) (ry_isR ht hq yT (fun z => absurd (e.symm.trans z) (by decide)) (fun _ => br_t rfl ⟨rfl, I⟩)))
  · refine rx_remove ht hq eo hLB hLX hB hT hR hV hH e (fun xg' G hI re => ?_) (fun G xt' xf' xv' xh' xg' hI nre sd a1 a2 a3 a4 => ?_) (fun G xt' xf' xv' xh' xg' hI nre ns a1 a2 a3 a4 => ?_)
    · exact ry_remove ht hq eo' hLB hLY hB hC (d_CN hC).2.1 hS yT yF yV e hI (fun yg' _ => ⟨rfl, I⟩) (fun _ _ _ nre => absurd re nre) (fun _ _ _ _ nre => absurd re nre)
    · refine ry_remove ht hq eo' hLB hLY hB hC (d_CN hC).2.1 hS yT yF yV e hI (fun yg' re => absurd re nre) (fun yt' yf' yg' _ _ b1 b2 => ⟨rfl, rt_mk ⟨eo, eo', em, em', hm⟩ ⟨hLB, hLX, hLY⟩ ⟨a1, a2, a3, a4⟩ ⟨b1, b2, ?_⟩ ⟨dF_B (rm_B hB), d_CN hC, sd⟩ (rt_P4 hm hP)⟩) (fun _ _ _ _ _ ns => absurd sd ns)
      intro r hr er
      unfold rt_dA at er
      rw [decide_eq_true hr, Bool.true_and] at er
      obtain ⟨x, y⟩ := Bool.and_eq_true_iff.mp er
      unfold rt_dV
      rw [if_neg (fun z => by rw [z.2] at y; exact absurd y (by decide))]
      exact yV r hr x
    · exact ry_remove ht hq eo' hLB hLY hB hC (d_CN hC).2.1 hS yT yF yV e hI (fun yg' re => absurd re nre) (fun _ _ _ _ sd => absurd sd ns) (fun yt' yf' yv' yg' _ _ b1 b2 b3 => ⟨rfl, rt_mk ⟨eo, eo', em, em', hm⟩ ⟨hLB, hLX, hLY⟩ ⟨a1, a2, a3, a4⟩ ⟨b1, b2, b3⟩ ⟨hB, hC, hS⟩ (rt_P4 hm hP)⟩)
theorem i_vc_rekey {k : Nat} {u : SX} {v : SY} (I : i_Rel k u v) (hk : k + 5 ≤ 2560) (v1 : Int32) (v2 : Int32) (v3 : Int32) : wpX_rekey (fun r u' => wpY_rekey (fun r' v' => r' = r ∧ i_Rel (k + 5) u' v') v v1 v2 v3) u v1 v2 v3 := by
  obtain ⟨xo, xm, xl, xr, xt, xf, xv, xh, xp, xg⟩ := u
  obtain ⟨yo, ym, ys, yl, yr, yt, yf, yv, kt, kf, kv, yg⟩ := v
  have I' : rt_R xo xm xl xr xt xf xv xh xp yo ym ys yl yr yt yf yv kt kf kv := I
  obtain ⟨o, m, ru, li, A, F, V, ⟨eo, eo', em, em', hm⟩, ⟨hLB, hLX, hLY⟩, ⟨hT, hR, hV, hH⟩, ⟨yT, yF, yV⟩, ⟨hB, hC, hS⟩, hP⟩ := I'
  rcases rt_ix v1 3 (by decide) with h | ⟨t, ht, rfl⟩
  · unfold wpX_rekey
    refine rx_isT0 h (br_t rfl ?_)
    show wpY_rekey _ _ _ _ _
    unfold wpY_rekey
    exact ry_isT0 h (br_t rfl ⟨rfl, I⟩)
  rcases rt_ix v2 20 (by decide) with h | ⟨q, hq, rfl⟩
  · unfold wpX_rekey
    refine rx_isT ht (br_f (by decide) (rx_has0 h (br_t rfl ?_)))
    show wpY_rekey _ _ _ _ _
    unfold wpY_rekey
    exact ry_isT ht (br_f (by decide) (ry_isR0 h (br_t rfl ⟨rfl, I⟩)))
  cases e : A (20 * t + q)
  · unfold wpX_rekey
    refine rx_isT ht (br_f (by decide) (rx_has ht hq hT (fun z => absurd (e.symm.trans z) (by decide)) (fun _ => br_t rfl ?_)))
    show wpY_rekey _ _ _ _ _
    unfold wpY_rekey
    exact ry_isT ht (br_f (by decide) (ry_isR ht hq yT (fun z => absurd (e.symm.trans z) (by decide)) (fun _ => br_t rfl ⟨rfl, I⟩)))
  rcases rt_ix v3 20 (by decide) with h | ⟨n, hn, rfl⟩
  · unfold wpX_rekey
    refine rx_isT ht (br_f (by decide) (rx_has ht hq hT (fun _ => br_f (by decide) (rx_isK0 h (br_t rfl ?_))) (fun z => absurd (e.symm.trans z) (by decide))))
    show wpY_rekey _ _ _ _ _
    unfold wpY_rekey
    exact ry_isT ht (br_f (by decide) (ry_isR ht hq yT (fun _ => br_f (by decide) (ry_isK0 h (br_t rfl ⟨rfl, I⟩))) (fun z => absurd (e.symm.trans z) (by decide))))
  cases e2 : A (20 * t + n)
  · have hqn : q ≠ n := fun z => by rw [z, e2] at e; exact absurd e (by decide)
    refine rx_rekey ht hq hn eo hLB hLX hB hT hR hV hH e e2 (fun w => ?_) (fun xt' xf' xv' xh' nw sd a1 a2 a3 a4 => ?_) (fun xt' xf' xv' xh' nw ns a1 a2 a3 a4 => ?_)
    · exact ry_rekey ht hq hn hqn eo' hLB hLY hB hC hS yT yF yV e e2 (fun _ => ⟨rfl, I⟩) (fun _ _ _ nw => absurd w nw) (fun _ _ _ nw => absurd w nw)
    · refine ry_rekey ht hq hn hqn eo' hLB hLY hB hC hS yT yF yV e e2 (fun w => absurd w nw) (fun yt' yf' yv' _ _ b1 b2 b3 => ⟨?_, rt_mk ⟨eo, eo', em, em', hm⟩ ⟨hLB, hLX, hLY⟩ ⟨a1, a2, a3, a4⟩ ⟨b1, b2, b3⟩ ⟨kF_B ht hq hn hB, k_CN ht hq hn hqn e e2 hC, sd⟩ (rt_P4 hm hP)⟩) (fun _ _ _ _ ns => absurd sd ns)
      rw [k_n ht hq hn hqn e2 hC.2.1]
    · exact ry_rekey ht hq hn hqn eo' hLB hLY hB hC hS yT yF yV e e2 (fun w => absurd w nw) (fun _ _ _ _ sd => absurd sd ns) (fun yt' yf' yv' _ _ b1 b2 b3 => ⟨rfl, rt_mk ⟨eo, eo', em, em', hm⟩ ⟨hLB, hLX, hLY⟩ ⟨a1, a2, a3, a4⟩ ⟨b1, b2, b3⟩ ⟨hB, hC, hS⟩ (rt_P4 hm hP)⟩)
  · unfold wpX_rekey
    refine rx_isT ht (br_f (by decide) (rx_has ht hq hT (fun _ => br_f (by decide) (rx_isK hn (br_f (by decide) (rx_has ht hn hT (fun _ => br_f (by decide) ?_) (fun z => absurd (e2.symm.trans z) (by decide)))))) (fun z => absurd (e.symm.trans z) (by decide))))
    show wpY_rekey _ _ _ _ _
    unfold wpY_rekey
    exact ry_isT ht (br_f (by decide) (ry_isR ht hq yT (fun _ => br_f (by decide) (ry_isK hn (br_f (by decide) (ry_isR ht hn yT (fun _ => br_f (by decide) ⟨rfl, I⟩) (fun z => absurd (e2.symm.trans z) (by decide)))))) (fun z => absurd (e.symm.trans z) (by decide))))
end
section
theorem i_vc_refer {k : Nat} {u : SX} {v : SY} (I : i_Rel k u v) (hk : k + 5 ≤ 2560) (v1 : Int32) (v2 : Int32) (v3 : Int32) (v4 : Int32) : wpX_refer (fun r u' => wpY_refer (fun r' v' => r' = r ∧ i_Rel (k + 5) u' v') v v1 v2 v3 v4) u v1 v2 v3 v4 := by
  obtain ⟨xo, xm, xl, xr, xt, xf, xv, xh, xp, xg⟩ := u
  obtain ⟨yo, ym, ys, yl, yr, yt, yf, yv, kt, kf, kv, yg⟩ := v
  have I' : rt_R xo xm xl xr xt xf xv xh xp yo ym ys yl yr yt yf yv kt kf kv := I
  obtain ⟨o, m, ru, li, A, F, V, ⟨eo, eo', em, em', hm⟩, ⟨hLB, hLX, hLY⟩, ⟨hT, hR, hV, hH⟩, ⟨yT, yF, yV⟩, ⟨hB, hC, hS⟩, hP⟩ := I'
  rcases rt_ix v1 3 (by decide) with h | ⟨t, ht, rfl⟩
  · unfold wpX_refer
    refine rx_isT0 h (br_t rfl ?_)
    show wpY_refer _ _ _ _ _ _
    unfold wpY_refer
    exact ry_isT0 h (br_t rfl ⟨rfl, I⟩)
  rcases rt_ix v2 20 (by decide) with h | ⟨q, hq, rfl⟩
  · unfold wpX_refer
    refine rx_isT ht (br_f (by decide) (rx_has0 h (br_t rfl ?_)))
    show wpY_refer _ _ _ _ _ _
    unfold wpY_refer
    exact ry_isT ht (br_f (by decide) (ry_isR0 h (br_t rfl ⟨rfl, I⟩)))
  cases e : A (20 * t + q)
  · unfold wpX_refer
    refine rx_isT ht (br_f (by decide) (rx_has ht hq hT (fun z => absurd (e.symm.trans z) (by decide)) (fun _ => br_t rfl ?_)))
    show wpY_refer _ _ _ _ _ _
    unfold wpY_refer
    exact ry_isT ht (br_f (by decide) (ry_isR ht hq yT (fun z => absurd (e.symm.trans z) (by decide)) (fun _ => br_t rfl ⟨rfl, I⟩)))
  rcases rt_ix v3 2 (by decide) with h | ⟨c, hc, rfl⟩
  · unfold wpX_refer
    refine rx_isT ht (br_f (by decide) (rx_has ht hq hT (fun _ => br_f (by decide) (rx_isC0 h (br_t rfl ?_))) (fun z => absurd (e.symm.trans z) (by decide))))
    show wpY_refer _ _ _ _ _ _
    unfold wpY_refer
    refine ry_isT ht (br_f (by decide) (ry_isR ht hq yT (fun _ => br_f (by decide) ?_) (fun z => absurd (e.symm.trans z) (by decide))))
    by_cases z : v3 < 0
    · exact br_t z ⟨rfl, I⟩
    · exact br_f z (br_f (rt_ngt (n := 1) (by decide) (h.resolve_left z)) ⟨rfl, I⟩)
  have vc : ¬ nI c < 0 := nI_pos (by omega)
  have wc : nI c ≤ 1 := nI_le (b := 1) (by omega) (by decide)
  by_cases l1 : v4 < -1
  · unfold wpX_refer
    refine rx_isT ht (br_f (by decide) (rx_has ht hq hT (fun _ => br_f (by decide) (rx_isC hc (br_f (by decide) (br_t l1 ?_)))) (fun z => absurd (e.symm.trans z) (by decide))))
    show wpY_refer _ _ _ _ _ _
    unfold wpY_refer
    exact ry_isT ht (br_f (by decide) (ry_isR ht hq yT (fun _ => br_f (by decide) (br_f vc (br_t wc (br_t l1 ⟨rfl, I⟩)))) (fun z => absurd (e.symm.trans z) (by decide))))
  by_cases l2 : v4 < 20
  · obtain ⟨n, hn, rfl⟩ : ∃ r, r ≤ 20 ∧ v4 = rt_e r := by
      rw [Int32.lt_iff_toInt_lt, show (-1 : Int32).toInt = -1 from by decide] at l1
      rw [Int32.lt_iff_toInt_lt, show (20 : Int32).toInt = 20 from by decide] at l2
      refine ⟨(v4.toInt + 1).toNat, by omega, ?_⟩
      rw [← Int32.toInt_inj, rt_eI (by omega)]
      omega
    have hCu : rt_CN A (rt_u F (2 * t + c) q n) V := ⟨hC.1, rt_CFu hC.2.1 (by rw [show 20 * ((2 * t + c) / 2) + q = 20 * t + q from by omega]; exact e), hC.2.2⟩
    refine rx_refer ht hq hc hn eo hLB hLX hB hT hR hV hH e (fun xf' xh' sd a1 a2 => ?_) (fun xt' xf' xv' xh' ns a1 a2 a3 a4 => ?_)
    · exact ry_refer ht hq hc hn eo' hLB hLY hB hC.2.1 hS yT yF yV e (fun yf' _ b1 => ⟨rfl, rt_mk ⟨eo, eo', em, em', hm⟩ ⟨hLB, hLX, hLY⟩ ⟨hT, a1, hV, a2⟩ ⟨yT, b1, yV⟩ ⟨rt_FBu hn hB, hCu, sd⟩ (rt_P4 hm hP)⟩) (fun _ _ _ ns => absurd sd ns)
    · exact ry_refer ht hq hc hn eo' hLB hLY hB hC.2.1 hS yT yF yV e (fun _ sd => absurd sd ns) (fun yt' yf' yv' _ b1 b2 b3 => ⟨rfl, rt_mk ⟨eo, eo', em, em', hm⟩ ⟨hLB, hLX, hLY⟩ ⟨a1, a2, a3, a4⟩ ⟨b1, b2, b3⟩ ⟨hB, hC, hS⟩ (rt_P4 hm hP)⟩)
  · have l3 : ¬ v4 ≤ 19 := fun z => l2 (by
      rw [Int32.le_iff_toInt_le, show (19 : Int32).toInt = 19 from by decide] at z
      rw [Int32.lt_iff_toInt_lt, show (20 : Int32).toInt = 20 from by decide]
      omega)
    unfold wpX_refer
    refine rx_isT ht (br_f (by decide) (rx_has ht hq hT (fun _ => br_f (by decide) (rx_isC hc (br_f (by decide) (br_f l1 (br_f l2 ?_))))) (fun z => absurd (e.symm.trans z) (by decide))))
    show wpY_refer _ _ _ _ _ _
    unfold wpY_refer
    exact ry_isT ht (br_f (by decide) (ry_isR ht hq yT (fun _ => br_f (by decide) (br_f vc (br_t wc (br_f l1 (br_f l3 ⟨rfl, I⟩))))) (fun z => absurd (e.symm.trans z) (by decide))))
theorem i_vc_value {k : Nat} {u : SX} {v : SY} (I : i_Rel k u v) (hk : k + 5 ≤ 2560) (v1 : Int32) (v2 : Int32) (v3 : Int32) : wpX_value (fun r u' => wpY_value (fun r' v' => r' = r ∧ i_Rel (k + 5) u' v') v v1 v2 v3) u v1 v2 v3 := by
  obtain ⟨xo, xm, xl, xr, xt, xf, xv, xh, xp, xg⟩ := u
  obtain ⟨yo, ym, ys, yl, yr, yt, yf, yv, kt, kf, kv, yg⟩ := v
  have I' : rt_R xo xm xl xr xt xf xv xh xp yo ym ys yl yr yt yf yv kt kf kv := I
  obtain ⟨o, m, ru, li, A, F, V, ⟨eo, eo', em, em', hm⟩, ⟨hLB, hLX, hLY⟩, ⟨hT, hR, hV, hH⟩, ⟨yT, yF, yV⟩, ⟨hB, hC, hS⟩, hP⟩ := I'
  rcases rt_ix v1 3 (by decide) with h | ⟨t, ht, rfl⟩
  · unfold wpX_value
    refine rx_isT0 h (br_t rfl ?_)
    show wpY_value _ _ _ _ _
    unfold wpY_value
    exact ry_isT0 h (br_t rfl ⟨rfl, I⟩)
  rcases rt_ix v2 20 (by decide) with h | ⟨q, hq, rfl⟩
  · unfold wpX_value
    refine rx_isT ht (br_f (by decide) (rx_has0 h (br_t rfl ?_)))
    show wpY_value _ _ _ _ _
    unfold wpY_value
    exact ry_isT ht (br_f (by decide) (ry_isR0 h (br_t rfl ⟨rfl, I⟩)))
  cases e : A (20 * t + q)
  · unfold wpX_value
    refine rx_isT ht (br_f (by decide) (rx_has ht hq hT (fun z => absurd (e.symm.trans z) (by decide)) (fun _ => br_t rfl ?_)))
    show wpY_value _ _ _ _ _
    unfold wpY_value
    exact ry_isT ht (br_f (by decide) (ry_isR ht hq yT (fun z => absurd (e.symm.trans z) (by decide)) (fun _ => br_t rfl ⟨rfl, I⟩)))
  · have v60 : vp_in ((20 : Int32) * nI t + nI q) 60 := pk_in (20 * t + q) 60 (by omega) (ix_20 t q)
    have er : ((20 : Int32) * nI t + nI q).toNatClampNeg = 20 * t + q := by rw [ix_20, nI_clamp (by omega)]
    unfold wpX_value
    refine rx_isT ht (br_f (by decide) (rx_has ht hq hT (fun _ => br_f (by decide) ⟨v60, nm_r (e' := upd xv (20 * t + q) v3) (by rw [er]) ?_⟩) (fun z => absurd (e.symm.trans z) (by decide))))
    show wpY_value _ _ _ _ _
    unfold wpY_value
    refine ry_isT ht (br_f (by decide) (ry_isR ht hq yT (fun _ => br_f (by decide) ⟨v60, nm_r (e' := upd yv (20 * t + q) v3) (by rw [er]) ⟨rfl, ?_⟩⟩) (fun z => absurd (e.symm.trans z) (by decide))))
    refine rt_mk (V := upd V (20 * t + q) v3) ⟨eo, eo', em, em', hm⟩ ⟨hLB, hLX, hLY⟩ ⟨hT, hR, rt_VLu hV, hH⟩ ⟨yT, yF, fun r hr ha => ?_⟩ ⟨hB, ⟨fun r hr ha => ?_, hC.2⟩, hS⟩ hP
    · by_cases z : r = 20 * t + q
      · rw [z, pk_us, pk_us]
      · rw [pk_un z, pk_un z]; exact yV r hr ha
    · by_cases z : r = 20 * t + q
      · rw [z, e] at ha; exact absurd ha (by decide)
      · rw [pk_un z]; exact hC.1 r hr ha
/-! ===== transactions ===== -/
theorem i_vc_begin {k : Nat} {u : SX} {v : SY} (I : i_Rel k u v) (hk : k + 5 ≤ 2560) : wpX_begin (fun r u' => wpY_begin (fun r' v' => r' = r ∧ i_Rel (k + 5) u' v') v) u := by
  obtain ⟨xo, xm, xl, xr, xt, xf, xv, xh, xp, xg⟩ := u
  obtain ⟨yo, ym, ys, yl, yr, yt, yf, yv, kt, kf, kv, yg⟩ := v
  have I' : rt_R xo xm xl xr xt xf xv xh xp yo ym ys yl yr yt yf yv kt kf kv := I
  obtain ⟨o, m, ru, li, A, F, V, ⟨eo, eo', em, em', hm⟩, ⟨hLB, hLX, hLY⟩, ⟨hT, hR, hV, hH⟩, ⟨yT, yF, yV⟩, ⟨hB, hC, hS⟩, hP⟩ := I'
  unfold wpX_begin
  refine rt_bz o (fun z => ?_) (fun z => ?_) eo
  · subst z
    refine rx_keep (s := 0) (by omega) ?_
    show wpY_begin _ _
    unfold wpY_begin
    refine br_t eo' (ry_keep (s := 0) (by omega) yT (ry_sl hLB hLY hB hC.2.1 yT yF (fun w hw => ⟨rfl, ?_⟩)))
    refine rt_mk (o := true) (m := 0) ⟨rfl, rfl, rfl, rfl, by omega⟩ ⟨hLB, hLX, hLY⟩ ⟨hT, hR, hV, hH⟩ ⟨yT, yF, yV⟩ ⟨hB, hC, rt_SDw hS⟩ (fun _ => ⟨fun C hc => (hw C hc).mpr (fun a => hS C hc a (Or.inr rfl)), fun s hs => ?_⟩)
    obtain rfl : s = 0 := by omega
    exact ⟨A, F, V, rt_XSk hT hR hV, rt_YSk yT yF yV, hB, hC, hS⟩
  · show wpY_begin _ _
    unfold wpY_begin
    exact rt_bz o (fun y => absurd (y.symm.trans z) (by decide)) (fun _ => ⟨rfl, I⟩) eo'
theorem i_vc_mark {k : Nat} {u : SX} {v : SY} (I : i_Rel k u v) (hk : k + 5 ≤ 2560) : wpX_mark (fun r u' => wpY_mark (fun r' v' => r' = r ∧ i_Rel (k + 5) u' v') v) u := by
  obtain ⟨xo, xm, xl, xr, xt, xf, xv, xh, xp, xg⟩ := u
  obtain ⟨yo, ym, ys, yl, yr, yt, yf, yv, kt, kf, kv, yg⟩ := v
  have I' : rt_R xo xm xl xr xt xf xv xh xp yo ym ys yl yr yt yf yv kt kf kv := I
  obtain ⟨o, m, ru, li, A, F, V, ⟨eo, eo', em, em', hm⟩, ⟨hLB, hLX, hLY⟩, ⟨hT, hR, hV, hH⟩, ⟨yT, yF, yV⟩, ⟨hB, hC, hS⟩, hP⟩ := I'
  unfold wpX_mark
  refine rt_bz o (fun z => ?_) (fun z => ?_) eo
  · show wpY_mark _ _
    unfold wpY_mark
    exact rt_bz o (fun _ => ⟨rfl, I⟩) (fun y => absurd (z.symm.trans y) (by decide)) eo'
  · subst z
    refine pk_lt m 3 (fun y => ?_) (fun y => ?_) em rfl
    · refine nm_r (e' := nI (m + 1)) (by rw [em, nI_1]) (rx_keep (s := m + 1) (by omega) ?_)
      show wpY_mark _ _
      unfold wpY_mark
      refine rt_bz true (fun w => absurd w (by decide)) (fun _ => ?_) eo'
      refine pk_eq m 3 (fun w => absurd w (by omega)) (fun _ => ?_) em' rfl
      refine nm_r (e' := nI (m + 1)) (by rw [em', nI_1]) (ry_keep (s := m + 1) (by omega) yT ⟨rfl, ?_⟩)
      refine rt_mk (o := true) (m := m + 1) ⟨eo, eo', rfl, rfl, by omega⟩ ⟨hLB, hLX, hLY⟩ ⟨hT, hR, hV, hH⟩ ⟨yT, yF, yV⟩ ⟨hB, hC, hS⟩ (fun _ => ⟨(hP rfl).1, fun s hs => ?_⟩)
      by_cases es : s = m + 1
      · subst es
        exact ⟨A, F, V, rt_XSk hT hR hV, rt_YSk yT yF yV, hB, hC, by rw [decide_eq_false (by omega)]; exact hS⟩
      · exact rt_PSo es ((hP rfl).2 s (by omega))
    · show wpY_mark _ _
      unfold wpY_mark
      refine rt_bz true (fun w => absurd w (by decide)) (fun _ => ?_) eo'
      exact pk_eq m 3 (fun _ => ⟨rfl, I⟩) (fun w => absurd (by omega) w) em' rfl
theorem i_vc_back {k : Nat} {u : SX} {v : SY} (I : i_Rel k u v) (hk : k + 5 ≤ 2560) : wpX_back (fun r u' => wpY_back (fun r' v' => r' = r ∧ i_Rel (k + 5) u' v') v) u := by
  obtain ⟨xo, xm, xl, xr, xt, xf, xv, xh, xp, xg⟩ := u
  obtain ⟨yo, ym, ys, yl, yr, yt, yf, yv, kt, kf, kv, yg⟩ := v
  have I' : rt_R xo xm xl xr xt xf xv xh xp yo ym ys yl yr yt yf yv kt kf kv := I
  obtain ⟨o, m, ru, li, A, F, V, ⟨eo, eo', em, em', hm⟩, ⟨hLB, hLX, hLY⟩, ⟨hT, hR, hV, hH⟩, ⟨yT, yF, yV⟩, ⟨hB, hC, hS⟩, hP⟩ := I'
  unfold wpX_back
  refine rt_bz o (fun z => ?_) (fun z => ?_) eo
  · show wpY_back _ _
    unfold wpY_back
    exact rt_bz o (fun _ => ⟨rfl, I⟩) (fun y => absurd (z.symm.trans y) (by decide)) eo'
  · subst z
    obtain ⟨A2, F2, V2, X2, Y2, B2, C2, S2⟩ := (hP rfl).2 m (by omega)
    have S3 : rt_SD ru li A2 F2 false := fun C hc a b => S2 C hc a (b.elim Or.inl (fun w => absurd w (by decide)))
    subst em em'
    refine rx_restore (s := m) (by omega) hB hR hH B2 X2 (fun xt' xf' xv' xh' a1 a2 a3 a4 => ?_)
    refine pk_le m 0 (fun y => ?_) (fun y => ?_)
    · obtain rfl : m = 0 := by omega
      show wpY_back _ _
      unfold wpY_back
      refine rt_bz true (fun w => absurd w (by decide)) (fun _ => ?_) eo'
      refine ry_restore (s := 0) (by omega) Y2 (fun yt' yf' yv' b1 b2 b3 => ?_)
      exact br_t (by decide) ⟨rfl, rt_mk (o := true) (m := 0) ⟨eo, eo', rfl, rfl, by omega⟩ ⟨hLB, hLX, hLY⟩ ⟨a1, a2, a3, a4⟩ ⟨b1, b2, b3⟩ ⟨B2, C2, S3⟩ hP⟩
    · obtain ⟨n, rfl⟩ : ∃ n, m = n + 1 := ⟨m - 1, by omega⟩
      refine nm_r (nI_pred n) ?_
      show wpY_back _ _
      unfold wpY_back
      refine rt_bz true (fun w => absurd w (by decide)) (fun _ => ?_) eo'
      refine ry_restore (s := n + 1) (by omega) Y2 (fun yt' yf' yv' b1 b2 b3 => ?_)
      refine pk_le (n + 1) 0 (fun w => absurd w (by omega)) (fun _ => nm_r (nI_pred n) ⟨rfl, ?_⟩)
      exact rt_mk (o := true) (m := n) ⟨eo, eo', rfl, rfl, by omega⟩ ⟨hLB, hLX, hLY⟩ ⟨a1, a2, a3, a4⟩ ⟨b1, b2, b3⟩ ⟨B2, C2, S3⟩ (fun e => ⟨(hP e).1, fun s hs => (hP e).2 s (by omega)⟩)
theorem i_vc_commit {k : Nat} {u : SX} {v : SY} (I : i_Rel k u v) (hk : k + 5 ≤ 2560) : wpX_commit (fun r u' => wpY_commit (fun r' v' => r' = r ∧ i_Rel (k + 5) u' v') v) u := by
  obtain ⟨xo, xm, xl, xr, xt, xf, xv, xh, xp, xg⟩ := u
  obtain ⟨yo, ym, ys, yl, yr, yt, yf, yv, kt, kf, kv, yg⟩ := v
  have I' : rt_R xo xm xl xr xt xf xv xh xp yo ym ys yl yr yt yf yv kt kf kv := I
  obtain ⟨o, m, ru, li, A, F, V, ⟨eo, eo', em, em', hm⟩, ⟨hLB, hLX, hLY⟩, ⟨hT, hR, hV, hH⟩, ⟨yT, yF, yV⟩, ⟨hB, hC, hS⟩, hP⟩ := I'
  unfold wpX_commit
  refine rt_bz o (fun z => ?_) (fun z => ?_) eo
  · show wpY_commit _ _
    unfold wpY_commit
    exact rt_bz o (fun _ => ⟨rfl, I⟩) (fun y => absurd (z.symm.trans y) (by decide)) eo'
  · subst z
    have sd4 : (∀ C, C < 6 → ru C = 4 → rt_S1 li A F C) → rt_SD ru li A F true := fun g C hc a _ => by
      by_cases r4 : ru C = 4
      · exact g C hc r4
      · exact hS C hc a (Or.inl r4)
    refine rx_sound (z := true) hLB hLX hB hT hH (fun sd => br_f (by decide) ?_) (fun ns => br_t rfl ?_)
    · show wpY_commit _ _
      unfold wpY_commit
      refine rt_bz true (fun w => absurd w (by decide)) (fun _ => ?_) eo'
      refine ry_sl hLB hLY hB hC.2.1 yT yF (fun w hw => ⟨7, ?_⟩)
      refine ry_com16 hLB hLY (hP rfl).1 hw (fun _ => ⟨rfl, ?_⟩) (fun g => absurd (fun C hc r4 => sd C hc (by omega) (Or.inr rfl)) g) 6 0 rfl (fun c hc => absurd hc (by omega))
      exact rt_mk (o := false) ⟨rfl, rfl, em, em', hm⟩ ⟨hLB, hLX, hLY⟩ ⟨hT, hR, hV, hH⟩ ⟨yT, yF, yV⟩ ⟨hB, hC, sd⟩ (fun e => absurd e (by decide))
    · show wpY_commit _ _
      unfold wpY_commit
      refine rt_bz true (fun w => absurd w (by decide)) (fun _ => ?_) eo'
      refine ry_sl hLB hLY hB hC.2.1 yT yF (fun w hw => ⟨7, ?_⟩)
      exact ry_com16 hLB hLY (hP rfl).1 hw (fun g => absurd (sd4 g) ns) (fun _ => ⟨rfl, I⟩) 6 0 rfl (fun c hc => absurd hc (by omega))
theorem i_vc_rollback {k : Nat} {u : SX} {v : SY} (I : i_Rel k u v) (hk : k + 5 ≤ 2560) : wpX_rollback (fun r u' => wpY_rollback (fun r' v' => r' = r ∧ i_Rel (k + 5) u' v') v) u := by
  obtain ⟨xo, xm, xl, xr, xt, xf, xv, xh, xp, xg⟩ := u
  obtain ⟨yo, ym, ys, yl, yr, yt, yf, yv, kt, kf, kv, yg⟩ := v
  have I' : rt_R xo xm xl xr xt xf xv xh xp yo ym ys yl yr yt yf yv kt kf kv := I
  obtain ⟨o, m, ru, li, A, F, V, ⟨eo, eo', em, em', hm⟩, ⟨hLB, hLX, hLY⟩, ⟨hT, hR, hV, hH⟩, ⟨yT, yF, yV⟩, ⟨hB, hC, hS⟩, hP⟩ := I'
  unfold wpX_rollback
  refine rt_bz o (fun z => ?_) (fun z => ?_) eo
  · show wpY_rollback _ _
    unfold wpY_rollback
    exact rt_bz o (fun _ => ⟨rfl, I⟩) (fun y => absurd (z.symm.trans y) (by decide)) eo'
  · subst z
    obtain ⟨A2, F2, V2, X2, Y2, B2, C2, S2⟩ := (hP rfl).2 0 (by omega)
    refine rx_restore (s := 0) (by omega) hB hR hH B2 X2 (fun xt' xf' xv' xh' a1 a2 a3 a4 => ?_)
    show wpY_rollback _ _
    unfold wpY_rollback
    refine rt_bz true (fun w => absurd w (by decide)) (fun _ => ?_) eo'
    refine ry_restore (s := 0) (by omega) Y2 (fun yt' yf' yv' b1 b2 b3 => ⟨rfl, ?_⟩)
    exact rt_mk (o := false) ⟨rfl, rfl, em, em', hm⟩ ⟨hLB, hLX, hLY⟩ ⟨a1, a2, a3, a4⟩ ⟨b1, b2, b3⟩ ⟨B2, C2, S2⟩ (fun e => absurd e (by decide))
/-! ===== questions ===== -/
theorem i_vc_rows {k : Nat} {u : SX} {v : SY} (I : i_Rel k u v) (hk : k + 5 ≤ 2560) (v1 : Int32) : wpX_rows (fun r => wpY_rows (fun r' => r' = r ∧ i_Rel (k + 5) u v) v v1) u v1 := by
  obtain ⟨xo, xm, xl, xr, xt, xf, xv, xh, xp, xg⟩ := u
  obtain ⟨yo, ym, ys, yl, yr, yt, yf, yv, kt, kf, kv, yg⟩ := v
  have I' : rt_R xo xm xl xr xt xf xv xh xp yo ym ys yl yr yt yf yv kt kf kv := I
  obtain ⟨o, m, ru, li, A, F, V, ⟨eo, eo', em, em', hm⟩, ⟨hLB, hLX, hLY⟩, ⟨hT, hR, hV, hH⟩, ⟨yT, yF, yV⟩, ⟨hB, hC, hS⟩, hP⟩ := I'
  rcases rt_ix v1 3 (by decide) with h | ⟨t, ht, rfl⟩
  · unfold wpX_rows
    refine rx_isT0 h (br_t rfl ?_)
    show wpY_rows _ _ _
    unfold wpY_rows
    exact ry_isT0 h (br_t rfl ⟨rfl, I⟩)
  · unfold wpX_rows
    refine rx_isT ht (br_f (by decide) ⟨vp_in_nI ht (by decide), ?_⟩)
    rw [nI_clamp (by omega)]
    refine rx_ones (rt_THz hT ht) ?_
    show wpY_rows _ _ _
    unfold wpY_rows
    refine ry_isT ht (br_f (by decide) (ry_count ht yT ⟨?_, I⟩))
    rw [cn_cg (P := bt (xt t)) (Q := fun k => A (20 * t + k)) (fun k hk => rt_THb hT ht hk)]
theorem i_vc_keyAt {k : Nat} {u : SX} {v : SY} (I : i_Rel k u v) (hk : k + 5 ≤ 2560) (v1 : Int32) (v2 : Int32) : wpX_keyAt (fun r => wpY_keyAt (fun r' => r' = r ∧ i_Rel (k + 5) u v) v v1 v2) u v1 v2 := by
  obtain ⟨xo, xm, xl, xr, xt, xf, xv, xh, xp, xg⟩ := u
  obtain ⟨yo, ym, ys, yl, yr, yt, yf, yv, kt, kf, kv, yg⟩ := v
  have I' : rt_R xo xm xl xr xt xf xv xh xp yo ym ys yl yr yt yf yv kt kf kv := I
  obtain ⟨o, m, ru, li, A, F, V, ⟨eo, eo', em, em', hm⟩, ⟨hLB, hLX, hLY⟩, ⟨hT, hR, hV, hH⟩, ⟨yT, yF, yV⟩, ⟨hB, hC, hS⟩, hP⟩ := I'
  rcases rt_ix v1 3 (by decide) with h | ⟨t, ht, rfl⟩
  · unfold wpX_keyAt
    refine rx_isT0 h (br_t rfl ?_)
    show wpY_keyAt _ _ _ _
    unfold wpY_keyAt
    exact ry_isT0 h (br_t rfl ⟨rfl, I⟩)
  · obtain ⟨r, a, b⟩ := rt_keyAt (x := v2) (xo := xo) (xm := xm) (xl := xl) (xr := xr) (xf := xf) (xv := xv) (xh := xh) (xp := xp) (xg := xg) (yo := yo) (ym := ym) (ys := ys) (yl := yl) (yr := yr) (yf := yf) (yv := yv) (kt := kt) (kf := kf) (kv := kv) (yg := yg) ht hT yT 20 0 0 rfl
    rw [nI_0, Int32.sub_zero] at b
    unfold wpX_keyAt
    refine rx_isT ht (br_f (by decide) ⟨21, a _ ?_⟩)
    show wpY_keyAt _ _ _ _
    unfold wpY_keyAt
    exact ry_isT ht (br_f (by decide) ⟨21, b _ ⟨rfl, I⟩⟩)
theorem i_vc_reference {k : Nat} {u : SX} {v : SY} (I : i_Rel k u v) (hk : k + 5 ≤ 2560) (v1 : Int32) (v2 : Int32) (v3 : Int32) : wpX_reference (fun r => wpY_reference (fun r' => r' = r ∧ i_Rel (k + 5) u v) v v1 v2 v3) u v1 v2 v3 := by
  obtain ⟨xo, xm, xl, xr, xt, xf, xv, xh, xp, xg⟩ := u
  obtain ⟨yo, ym, ys, yl, yr, yt, yf, yv, kt, kf, kv, yg⟩ := v
  have I' : rt_R xo xm xl xr xt xf xv xh xp yo ym ys yl yr yt yf yv kt kf kv := I
  obtain ⟨o, m, ru, li, A, F, V, ⟨eo, eo', em, em', hm⟩, ⟨hLB, hLX, hLY⟩, ⟨hT, hR, hV, hH⟩, ⟨yT, yF, yV⟩, ⟨hB, hC, hS⟩, hP⟩ := I'
  rcases rt_ix v1 3 (by decide) with h | ⟨t, ht, rfl⟩
  · unfold wpX_reference
    refine rx_isT0 h (br_t rfl ?_)
    show wpY_reference _ _ _ _ _
    unfold wpY_reference
    exact ry_isT0 h (br_t rfl ⟨rfl, I⟩)
  rcases rt_ix v2 20 (by decide) with h | ⟨q, hq, rfl⟩
  · unfold wpX_reference
    refine rx_isT ht (br_f (by decide) (rx_has0 h (br_t rfl ?_)))
    show wpY_reference _ _ _ _ _
    unfold wpY_reference
    exact ry_isT ht (br_f (by decide) (ry_isR0 h (br_t rfl ⟨rfl, I⟩)))
  cases e : A (20 * t + q)
  · unfold wpX_reference
    refine rx_isT ht (br_f (by decide) (rx_has ht hq hT (fun z => absurd (e.symm.trans z) (by decide)) (fun _ => br_t rfl ?_)))
    show wpY_reference _ _ _ _ _
    unfold wpY_reference
    exact ry_isT ht (br_f (by decide) (ry_isR ht hq yT (fun z => absurd (e.symm.trans z) (by decide)) (fun _ => br_t rfl ⟨rfl, I⟩)))
  rcases rt_ix v3 2 (by decide) with h | ⟨c, hc, rfl⟩
  · unfold wpX_reference
    refine rx_isT ht (br_f (by decide) (rx_has ht hq hT (fun _ => br_f (by decide) (rx_isC0 h (br_t rfl ?_))) (fun z => absurd (e.symm.trans z) (by decide))))
    show wpY_reference _ _ _ _ _
    unfold wpY_reference
    refine ry_isT ht (br_f (by decide) (ry_isR ht hq yT (fun _ => br_f (by decide) ?_) (fun z => absurd (e.symm.trans z) (by decide))))
    by_cases z : v3 < 0
    · exact br_t z ⟨rfl, I⟩
    · exact br_f z (br_f (rt_ngt (n := 1) (by decide) (h.resolve_left z)) ⟨rfl, I⟩)
  · have i1 : (20 : Int32) * (2 * nI t + nI c) + nI q = nI (20 * (2 * t + c) + q) := by rw [ix_2c, ix_20]
    unfold wpX_reference
    refine rx_isT ht (br_f (by decide) (rx_has ht hq hT (fun _ => br_f (by decide) (rx_isC hc (br_f (by decide) ⟨pk_in (20 * (2 * t + c) + q) 120 (by omega) i1, ?_⟩))) (fun z => absurd (e.symm.trans z) (by decide))))
    show wpY_reference _ _ _ _ _
    unfold wpY_reference
    refine ry_isT ht (br_f (by decide) (ry_isR ht hq yT (fun _ => br_f (by decide) (br_f (nI_pos (by omega)) (br_t (nI_le (b := 1) (by omega) (by decide)) ⟨pk_in (40 * t + 2 * q + c) 120 (by omega) (ix_40 t q c), ?_, I⟩))) (fun z => absurd (e.symm.trans z) (by decide))))
    have := yF (40 * t + 2 * q + c) (by omega) (by rw [show (40 * t + 2 * q + c) / 2 = 20 * t + q from by omega]; exact e)
    rw [show (40 * t + 2 * q + c) / 40 * 2 + (40 * t + 2 * q + c) % 2 = 2 * t + c from by omega, show (40 * t + 2 * q + c) / 2 % 20 = q from by omega] at this
    rw [i1, ix_40, nI_clamp (by omega), nI_clamp (by omega), this, hR _ (by omega) _ hq]
theorem i_vc_valueOf {k : Nat} {u : SX} {v : SY} (I : i_Rel k u v) (hk : k + 5 ≤ 2560) (v1 : Int32) (v2 : Int32) : wpX_valueOf (fun r => wpY_valueOf (fun r' => r' = r ∧ i_Rel (k + 5) u v) v v1 v2) u v1 v2 := by
  obtain ⟨xo, xm, xl, xr, xt, xf, xv, xh, xp, xg⟩ := u
  obtain ⟨yo, ym, ys, yl, yr, yt, yf, yv, kt, kf, kv, yg⟩ := v
  have I' : rt_R xo xm xl xr xt xf xv xh xp yo ym ys yl yr yt yf yv kt kf kv := I
  obtain ⟨o, m, ru, li, A, F, V, ⟨eo, eo', em, em', hm⟩, ⟨hLB, hLX, hLY⟩, ⟨hT, hR, hV, hH⟩, ⟨yT, yF, yV⟩, ⟨hB, hC, hS⟩, hP⟩ := I'
  rcases rt_ix v1 3 (by decide) with h | ⟨t, ht, rfl⟩
  · unfold wpX_valueOf
    refine rx_isT0 h (br_t rfl ?_)
    show wpY_valueOf _ _ _ _
    unfold wpY_valueOf
    exact ry_isT0 h (br_t rfl ⟨rfl, I⟩)
  rcases rt_ix v2 20 (by decide) with h | ⟨q, hq, rfl⟩
  · unfold wpX_valueOf
    refine rx_isT ht (br_f (by decide) (rx_has0 h (br_t rfl ?_)))
    show wpY_valueOf _ _ _ _
    unfold wpY_valueOf
    exact ry_isT ht (br_f (by decide) (ry_isR0 h (br_t rfl ⟨rfl, I⟩)))
  have v60 : vp_in ((20 : Int32) * nI t + nI q) 60 := pk_in (20 * t + q) 60 (by omega) (ix_20 t q)
  cases e : A (20 * t + q)
  · unfold wpX_valueOf
    refine rx_isT ht (br_f (by decide) (rx_has ht hq hT (fun z => absurd (e.symm.trans z) (by decide)) (fun _ => br_t rfl ?_)))
    show wpY_valueOf _ _ _ _
    unfold wpY_valueOf
    exact ry_isT ht (br_f (by decide) (ry_isR ht hq yT (fun z => absurd (e.symm.trans z) (by decide)) (fun _ => br_t rfl ⟨rfl, I⟩)))
  · unfold wpX_valueOf
    refine rx_isT ht (br_f (by decide) (rx_has ht hq hT (fun _ => br_f (by decide) ⟨v60, ?_⟩) (fun z => absurd (e.symm.trans z) (by decide))))
    show wpY_valueOf _ _ _ _
    unfold wpY_valueOf
    refine ry_isT ht (br_f (by decide) (ry_isR ht hq yT (fun _ => br_f (by decide) ⟨v60, ?_, I⟩) (fun z => absurd (e.symm.trans z) (by decide))))
    rw [ix_20, nI_clamp (by omega), hV _ (by omega), yV _ (by omega) e]
theorem i_vc_referrers {k : Nat} {u : SX} {v : SY} (I : i_Rel k u v) (hk : k + 5 ≤ 2560) (v1 : Int32) (v2 : Int32) : wpX_referrers (fun r => wpY_referrers (fun r' => r' = r ∧ i_Rel (k + 5) u v) v v1 v2) u v1 v2 := by
  obtain ⟨xo, xm, xl, xr, xt, xf, xv, xh, xp, xg⟩ := u
  obtain ⟨yo, ym, ys, yl, yr, yt, yf, yv, kt, kf, kv, yg⟩ := v
  have I' : rt_R xo xm xl xr xt xf xv xh xp yo ym ys yl yr yt yf yv kt kf kv := I
  obtain ⟨o, m, ru, li, A, F, V, ⟨eo, eo', em, em', hm⟩, ⟨hLB, hLX, hLY⟩, ⟨hT, hR, hV, hH⟩, ⟨yT, yF, yV⟩, ⟨hB, hC, hS⟩, hP⟩ := I'
  rcases rt_ix v1 3 (by decide) with h | ⟨t, ht, rfl⟩
  · unfold wpX_referrers
    refine rx_isT0 h (br_t rfl ?_)
    show wpY_referrers _ _ _ _
    unfold wpY_referrers
    exact ry_isT0 h (br_t rfl ⟨rfl, I⟩)
  rcases rt_ix v2 20 (by decide) with h | ⟨q, hq, rfl⟩
  · unfold wpX_referrers
    refine rx_isT ht (br_f (by decide) (rx_has0 h (br_t rfl ?_)))
    show wpY_referrers _ _ _ _
    unfold wpY_referrers
    exact ry_isT ht (br_f (by decide) (ry_isR0 h (br_t rfl ⟨rfl, I⟩)))
  cases e : A (20 * t + q)
  · unfold wpX_referrers
    refine rx_isT ht (br_f (by decide) (rx_has ht hq hT (fun z => absurd (e.symm.trans z) (by decide)) (fun _ => br_t rfl ?_)))
    show wpY_referrers _ _ _ _
    unfold wpY_referrers
    exact ry_isT ht (br_f (by decide) (ry_isR ht hq yT (fun z => absurd (e.symm.trans z) (by decide)) (fun _ => br_t rfl ⟨rfl, I⟩)))
  · unfold wpX_referrers
    refine rx_isT ht (br_f (by decide) (rx_has ht hq hT (fun _ => br_f (by decide) ⟨7, ?_⟩) (fun z => absurd (e.symm.trans z) (by decide))))
    refine rx_ref26 ht hq hLB hLX hH ?_ 6 0 rfl
    show wpY_referrers _ _ _ _
    unfold wpY_referrers
    refine ry_isT ht (br_f (by decide) (ry_isR ht hq yT (fun _ => br_f (by decide) ⟨121, ?_⟩) (fun z => absurd (e.symm.trans z) (by decide))))
    refine ry_ref27 ht hq hLB hLY hB hC.2.1 yT yF e ⟨?_, I⟩ 120 0 rfl
    rw [rn_6]
theorem i_vc_wouldGo {k : Nat} {u : SX} {v : SY} (I : i_Rel k u v) (hk : k + 5 ≤ 2560) (v1 : Int32) (v2 : Int32) : wpX_wouldGo (fun r u' => wpY_wouldGo (fun r' v' => r' = r ∧ i_Rel (k + 5) u' v') v v1 v2) u v1 v2 := by
  obtain ⟨xo, xm, xl, xr, xt, xf, xv, xh, xp, xg⟩ := u
  obtain ⟨yo, ym, ys, yl, yr, yt, yf, yv, kt, kf, kv, yg⟩ := v
  have I' : rt_R xo xm xl xr xt xf xv xh xp yo ym ys yl yr yt yf yv kt kf kv := I
  obtain ⟨o, m, ru, li, A, F, V, ⟨eo, eo', em, em', hm⟩, ⟨hLB, hLX, hLY⟩, ⟨hT, hR, hV, hH⟩, ⟨yT, yF, yV⟩, ⟨hB, hC, hS⟩, hP⟩ := I'
  rcases rt_ix v1 3 (by decide) with h | ⟨t, ht, rfl⟩
  · unfold wpX_wouldGo
    refine rx_isT0 h (br_t rfl ?_)
    show wpY_wouldGo _ _ _ _
    unfold wpY_wouldGo
    exact ry_isT0 h (br_t rfl ⟨rfl, I⟩)
  rcases rt_ix v2 20 (by decide) with h | ⟨q, hq, rfl⟩
  · unfold wpX_wouldGo
    refine rx_isT ht (br_f (by decide) (rx_has0 h (br_t rfl ?_)))
    show wpY_wouldGo _ _ _ _
    unfold wpY_wouldGo
    exact ry_isT ht (br_f (by decide) (ry_isR0 h (br_t rfl ⟨rfl, I⟩)))
  cases e : A (20 * t + q)
  · unfold wpX_wouldGo
    refine rx_isT ht (br_f (by decide) (rx_has ht hq hT (fun z => absurd (e.symm.trans z) (by decide)) (fun _ => br_t rfl ?_)))
    show wpY_wouldGo _ _ _ _
    unfold wpY_wouldGo
    exact ry_isT ht (br_f (by decide) (ry_isR ht hq yT (fun z => absurd (e.symm.trans z) (by decide)) (fun _ => br_t rfl ⟨rfl, I⟩)))
  · unfold wpX_wouldGo
    refine rx_isT ht (br_f (by decide) (rx_has ht hq hT (fun _ => br_f (by decide) ?_) (fun z => absurd (e.symm.trans z) (by decide))))
    refine rx_spread ht hq hLB hLX hB hH (fun xg' G hG hI => ⟨fun nre => br_f (by decide) ?_, fun re => br_t rfl ?_⟩)
    · refine rx_ones (rt_THz hG (by omega)) (rx_ones (rt_THz hG (by omega)) (rx_ones (rt_THz hG (by omega)) ?_))
      show wpY_wouldGo _ _ _ _
      unfold wpY_wouldGo
      refine ry_isT ht (br_f (by decide) (ry_isR ht hq yT (fun _ => br_f (by decide) ?_) (fun z => absurd (e.symm.trans z) (by decide))))
      rw [ix_20]
      refine ry_spread (by omega) hLB hLY hB hC yT yF e (fun yg' G' hG' hI' => ?_)
      obtain rfl := rt_ICu hI hI'
      refine ⟨fun _ => ⟨?_, I⟩, fun re => absurd re nre⟩
      rw [nI_add, nI_add]
      refine congrArg nI ?_
      have s := sm_mul (fun k => (G k).toNat) 20 3
      rw [cn_cg (P := bt (xg' 0)) (Q := fun k => G (0 * 20 + k)) (fun k hk => (rt_THb hG (t := 0) (by omega) hk).trans (congrArg G (by omega))), cn_cg (P := bt (xg' 1)) (Q := fun k => G (1 * 20 + k)) (fun k hk => (rt_THb hG (t := 1) (by omega) hk).trans (congrArg G (by omega))), cn_cg (P := bt (xg' 2)) (Q := fun k => G (2 * 20 + k)) (fun k hk => (rt_THb hG (t := 2) (by omega) hk).trans (congrArg G (by omega)))]
      refine Eq.trans s ?_
      simp only [rt_sm, rt_cn]
      omega
    · show wpY_wouldGo _ _ _ _
      unfold wpY_wouldGo
      refine ry_isT ht (br_f (by decide) (ry_isR ht hq yT (fun _ => br_f (by decide) ?_) (fun z => absurd (e.symm.trans z) (by decide))))
      rw [ix_20]
      refine ry_spread (by omega) hLB hLY hB hC yT yF e (fun yg' G' hG' hI' => ?_)
      obtain rfl := rt_ICu hI hI'
      exact ⟨fun nre => absurd re nre, fun _ => ⟨rfl, I⟩⟩
theorem i_vc_dangling {k : Nat} {u : SX} {v : SY} (I : i_Rel k u v) (hk : k + 5 ≤ 2560) : wpX_dangling (fun r => wpY_dangling (fun r' => r' = r ∧ i_Rel (k + 5) u v) v) u := by
  obtain ⟨xo, xm, xl, xr, xt, xf, xv, xh, xp, xg⟩ := u
  obtain ⟨yo, ym, ys, yl, yr, yt, yf, yv, kt, kf, kv, yg⟩ := v
  have I' : rt_R xo xm xl xr xt xf xv xh xp yo ym ys yl yr yt yf yv kt kf kv := I
  obtain ⟨o, m, ru, li, A, F, V, ⟨eo, eo', em, em', hm⟩, ⟨hLB, hLX, hLY⟩, ⟨hT, hR, hV, hH⟩, ⟨yT, yF, yV⟩, ⟨hB, hC, hS⟩, hP⟩ := I'
  unfold wpX_dangling
  refine ⟨7, rx_dan4 hLB hLX hB hT hH ?_ 6 0 rfl⟩
  show wpY_dangling _ _
  unfold wpY_dangling
  refine ⟨121, ry_dan4 hLB hLY hB hC.2.1 yT yF ⟨?_, I⟩ 120 0 rfl⟩
  rw [dn_6]
theorem i_vc_sum {k : Nat} {u : SX} {v : SY} (I : i_Rel k u v) (hk : k + 5 ≤ 2560) (v1 : Int32) : wpX_sum (fun r => wpY_sum (fun r' => r' = r ∧ i_Rel (k + 5) u v) v v1) u v1 := by
  obtain ⟨xo, xm, xl, xr, xt, xf, xv, xh, xp, xg⟩ := u
  obtain ⟨yo, ym, ys, yl, yr, yt, yf, yv, kt, kf, kv, yg⟩ := v
  have I' : rt_R xo xm xl xr xt xf xv xh xp yo ym ys yl yr yt yf yv kt kf kv := I
  obtain ⟨o, m, ru, li, A, F, V, ⟨eo, eo', em, em', hm⟩, ⟨hLB, hLX, hLY⟩, ⟨hT, hR, hV, hH⟩, ⟨yT, yF, yV⟩, ⟨hB, hC, hS⟩, hP⟩ := I'
  rcases rt_ix v1 3 (by decide) with h | ⟨t, ht, rfl⟩
  · unfold wpX_sum
    refine rx_isT0 h (br_t rfl ?_)
    show wpY_sum _ _ _
    unfold wpY_sum
    exact ⟨1, br_f (by decide) (ry_isT0 h (br_t rfl ⟨rfl, I⟩))⟩
  · unfold wpX_sum
    refine rx_isT ht (br_f (by decide) ⟨21, ?_⟩)
    refine rx_sum13 ht hV ?_ 20 0 rfl
    show wpY_sum _ _ _
    unfold wpY_sum
    exact ⟨21, ry_sum4 ht hC.1 yT yV ⟨rfl, I⟩ 20 0 rfl⟩
end
