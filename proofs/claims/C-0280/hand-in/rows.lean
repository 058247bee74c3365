section
/-! rows of kit/rows (starting text), then own rows on numbers and bits -/
theorem pk_us {f : Nat → Int32} {k : Nat} {x : Int32} : upd f k x k = x := if_pos rfl
theorem pk_un {f : Nat → Int32} {k j : Nat} {x : Int32} (h : j ≠ k) : upd f k x j = f j := if_neg h
theorem pk_sub {a b : Nat} (h : b ≤ a) : nI a - nI b = nI (a - b) := by
  obtain ⟨c, rfl⟩ : ∃ c, a = c + b := ⟨a - b, by omega⟩
  rw [← nI_add, Int32.add_sub_cancel, Nat.add_sub_cancel]
theorem pk_m1 (n : Nat) : nI (n + 1) + (-1) = nI n := by
  rw [← nI_1, Int32.add_assoc, show (1 : Int32) + (-1) = 0 from rfl, Int32.add_zero]
theorem pk_mul (a b : Nat) : nI a * nI b = nI (a * b) := (Int32.ofNat_mul a b).symm
theorem pk_div {a d : Nat} (ha : a < 2 ^ 31) (h0 : 0 < d) (hd : d < 2 ^ 31) : nI a / nI d = nI (a / d) := by
  apply Int32.toInt_inj.mp
  rw [lg_idiv_nonneg (by rw [nI_toInt ha]; omega) (by rw [nI_toInt hd]; omega), nI_toInt ha, nI_toInt hd, nI_toInt (Nat.lt_of_le_of_lt (Nat.div_le_self a d) ha)]
  first | rfl | exact (Int.natCast_ediv _ _).symm
theorem pk_rem {a d : Nat} (ha : a < 2 ^ 31) (h0 : 0 < d) (hd : d < 2 ^ 31) : nI a - nI a / nI d * nI d = nI (a % d) := by
  rw [pk_div ha h0 hd, pk_mul, pk_sub (Nat.div_mul_le_self a d)]
  exact congrArg nI (by have := Nat.div_add_mod' a d; omega)
theorem pk_sub_toInt {a b : Nat} (ha : a < 2 ^ 30) (hb : b < 2 ^ 30) : (nI a - nI b).toInt = (a : Int) - b := by
  rw [Int32.toInt_sub, nI_toInt (by omega), nI_toInt (by omega)]
  exact Int.bmod_eq_of_le (by omega) (by omega)
theorem pk_sneg {a b : Nat} (hb : b < 2 ^ 30) (h : a < b) : nI a - nI b < 0 := by
  rw [Int32.lt_iff_toInt_lt, pk_sub_toInt (by omega) hb, show (0 : Int32).toInt = 0 from by decide]
  omega
theorem pk_ix (x : Int32) {n : Nat} (hn : n < 2 ^ 31) : x < 0 ∨ nI n ≤ x ∨ ∃ j : Nat, j < n ∧ x = nI j := by
  by_cases h : x < 0
  · exact Or.inl h
  · obtain ⟨j, hj, rfl⟩ := nI_of h
    by_cases h2 : j < n
    · exact Or.inr (Or.inr ⟨j, h2, rfl⟩)
    · exact Or.inr (Or.inl (nI_le (by omega) hj))
theorem pk_le {x y : Int32} {A B : Prop} (a b : Nat) (f : a ≤ b → A) (g : b < a → B) (hx : x = nI a := by rfl) (hy : y = nI b := by rfl) (ha : a < 2 ^ 31 := by omega) (hb : b < 2 ^ 31 := by omega) : (x ≤ y → A) ∧ (¬ x ≤ y → B) := by
  subst hx hy
  rw [nI_leI ha hb]
  exact ⟨f, fun z => g (by omega)⟩
theorem pk_lt {x y : Int32} {A B : Prop} (a b : Nat) (f : a < b → A) (g : b ≤ a → B) (hx : x = nI a := by rfl) (hy : y = nI b := by rfl) (ha : a < 2 ^ 31 := by omega) (hb : b < 2 ^ 31 := by omega) : (x < y → A) ∧ (¬ x < y → B) := by
  subst hx hy
  rw [nI_ltI ha hb]
  exact ⟨f, fun z => g (by omega)⟩
theorem pk_eq {x y : Int32} {A B : Prop} (a b : Nat) (f : a = b → A) (g : a ≠ b → B) (hx : x = nI a := by rfl) (hy : y = nI b := by rfl) (ha : a < 2 ^ 31 := by omega) (hb : b < 2 ^ 31 := by omega) : (x = y → A) ∧ (¬ x = y → B) := by
  subst hx hy
  rw [nI_eq ha hb]
  exact ⟨f, g⟩
theorem pk_in {x : Int32} (n N : Nat) (h : n < N) (hx : x = nI n := by rfl) (hN : N < 2 ^ 31 := by omega) : vp_in x N := by
  subst hx
  exact vp_in_nI h hN
theorem pk_cl {x : Int32} (n : Nat) (hx : x = nI n := by rfl) (h : n < 2 ^ 31 := by omega) : x.toNatClampNeg = n := by
  subst hx
  exact nI_clamp h
theorem pk_tn {n : Nat} (h : n < 2 ^ 32) : (nI n).toBitVec.toNat = n := Nat.mod_eq_of_lt h
theorem pk_and (x : Int32) {m : Int32} (k : Nat) (hm : m.toBitVec.toNat = 2 ^ k - 1) : x &&& m = nI (x.toBitVec.toNat % 2 ^ k) := by
  apply Int32.toBitVec_inj.mp
  apply BitVec.eq_of_toNat_eq
  rw [Int32.toBitVec_and, BitVec.toNat_and, hm, Nat.and_two_pow_sub_one_eq_mod]
  show _ = (BitVec.ofNat 32 _).toNat
  rw [BitVec.toNat_ofNat]
  exact (Nat.mod_eq_of_lt (Nat.lt_of_le_of_lt (Nat.mod_le _ _) x.toBitVec.isLt)).symm
theorem pk_andN {n : Nat} (h : n < 2 ^ 32) {m : Int32} (k : Nat) (hm : m.toBitVec.toNat = 2 ^ k - 1) : nI n &&& m = nI (n % 2 ^ k) := by
  rw [pk_and _ k hm, pk_tn h]
theorem pk_shl (a s : Int32) (k : Nat) (hs : (s.toBitVec.smod 32).toNat = k) : (a <<< s).toBitVec.toNat = a.toBitVec.toNat * 2 ^ k % 2 ^ 32 := by
  show (a.toBitVec <<< (s.toBitVec.smod 32).toNat).toNat = _
  rw [hs, BitVec.toNat_shiftLeft, Nat.shiftLeft_eq]
theorem pk_shlN {n : Nat} (s : Int32) (k : Nat) (hs : (s.toBitVec.smod 32).toNat = k) (h : n * 2 ^ k < 2 ^ 32) : nI n <<< s = nI (n * 2 ^ k) := by
  apply Int32.toBitVec_inj.mp
  apply BitVec.eq_of_toNat_eq
  have hn : n < 2 ^ 32 := Nat.lt_of_le_of_lt (Nat.le_mul_of_pos_right n (Nat.two_pow_pos k)) h
  rw [pk_shl _ _ k hs, pk_tn hn, pk_tn h, Nat.mod_eq_of_lt h]
theorem pk_shr (a s : Int32) (k : Nat) (hs : (s.toBitVec.smod 32).toNat = k) : (a >>> s).toInt = a.toInt >>> k := by
  show (a.toBitVec.sshiftRight (s.toBitVec.smod 32).toNat).toInt = _
  rw [hs, BitVec.toInt_sshiftRight]
  rfl
theorem pk_shrN {n : Nat} (h : n < 2 ^ 31) (s : Int32) (k : Nat) (hs : (s.toBitVec.smod 32).toNat = k) : nI n >>> s = nI (n / 2 ^ k) := by
  apply Int32.toInt_inj.mp
  have h2 : n / 2 ^ k ≤ n := Nat.div_le_self _ _
  rw [pk_shr _ _ k hs, nI_toInt h, nI_toInt (by omega), Int.shiftRight_eq_div_pow]
  rfl
theorem pk_vb (z : Int32) : vp_nar .byte z.toInt8.toInt32 = z.toInt8.toInt32 := by rw [vp_nar_byte]; simp
theorem pk_least (P : Nat → Prop) (h : ∃ k, P k) : ∃ k, P k ∧ ∀ j, j < k → ¬ P j := by
  obtain ⟨k, hk⟩ := h
  induction k using Nat.strongRecOn with
  | ind k ih =>
    by_cases e : ∃ j, j < k ∧ P j
    · obtain ⟨j, hj, pj⟩ := e
      exact ih j hj pj
    · exact ⟨k, hk, fun j hj pj => e ⟨j, hj, pj⟩⟩
theorem s_l : ∀ n, n < 32 → ((nI n &&& 31).toBitVec.smod 32).toNat = n := by decide +kernel
theorem nx_and (a b : Nat) : nI a &&& nI b = nI (a &&& b) := by
  apply Int32.toBitVec_inj.1
  show BitVec.ofNat 32 a &&& BitVec.ofNat 32 b = BitVec.ofNat 32 (a &&& b)
  apply BitVec.eq_of_getLsbD_eq
  intro i hi
  simp [hi]
theorem nx_xor (a b : Nat) : nI a ^^^ nI b = nI (a ^^^ b) := by
  apply Int32.toBitVec_inj.1
  show BitVec.ofNat 32 a ^^^ BitVec.ofNat 32 b = BitVec.ofNat 32 (a ^^^ b)
  apply BitVec.eq_of_getLsbD_eq
  intro i hi
  simp [hi]
theorem sw_or (a b : Nat) : nI a ||| nI b = nI (a ||| b) := by
  apply Int32.toBitVec_inj.1
  show BitVec.ofNat 32 a ||| BitVec.ofNat 32 b = BitVec.ofNat 32 (a ||| b)
  apply BitVec.eq_of_getLsbD_eq
  intro i hi
  simp [hi]
theorem sw_pow {p : Nat} (h : p < 31) : (1 : Int32) <<< (nI p &&& 31) = nI (2 ^ p) := by
  have hp : 1 * 2 ^ p < 2 ^ 32 := by
    rw [Nat.one_mul]
    exact Nat.pow_lt_pow_right (by decide) (by omega)
  have e := pk_shlN (n := 1) (nI p &&& 31) p (s_l p (by omega)) hp
  rw [Nat.one_mul] at e
  exact e
theorem sw_all {p : Nat} (h : p < 31) : (1 : Int32) <<< (nI p &&& 31) - 1 = nI (2 ^ p - 1) := by
  rw [sw_pow h]
  exact pk_sub (b := 1) (Nat.two_pow_pos p)
theorem sw_orp {a p : Nat} (h : p < 31) : nI a ||| ((1 : Int32) <<< (nI p &&& 31)) = nI (a ||| 2 ^ p) := by
  rw [sw_pow h, sw_or]
theorem sw_bit {a p : Nat} (ha : a < 2 ^ 31) (h : p < 32) : (nI a >>> (nI p &&& 31)) &&& 1 = nI (a / 2 ^ p % 2) := by
  rw [pk_shrN ha _ p (s_l p h)]
  have h2 : a / 2 ^ p ≤ a := Nat.div_le_self _ _
  exact pk_andN (by omega) 1 (by decide)
theorem sw_i8 : ∀ x, x < 128 → (nI x).toInt8.toInt32 = nI x := by decide +kernel
theorem sw_nb {x : Nat} (h : x < 128) : vp_nar .byte (nI x) = nI x := by rw [vp_nar_byte, sw_i8 x h]
theorem sw_nbc {x : Nat} (h : x < 128) : vp_nar .byte (nI x).toInt8.toInt32 = nI x := by rw [sw_i8 x h, sw_nb h]
/-- a bit of a number with one more bit -/
theorem sw_obit (a m p : Nat) : (a ||| 2 ^ m) / 2 ^ p % 2 = if m = p then 1 else a / 2 ^ p % 2 := by
  have e : ∀ x : Nat, x / 2 ^ p % 2 = (x.testBit p).toNat := fun x => by
    rw [Nat.testBit_eq_decide_div_mod_eq]
    rcases Nat.mod_two_eq_zero_or_one (x / 2 ^ p) with h | h <;> rw [h] <;> rfl
  rw [e, e, Nat.testBit_or, Nat.testBit_two_pow]
  by_cases h : m = p
  · rw [if_pos h, decide_eq_true h, Bool.or_true]; rfl
  · rw [if_neg h, decide_eq_false h, Bool.or_false]
theorem sw_b2 (a p : Nat) : a / 2 ^ p % 2 = 0 ∨ a / 2 ^ p % 2 = 1 := Nat.mod_two_eq_zero_or_one _
/-- heights as the array holds them -/
def sw_H (h : Nat → Nat) : Nat → Int32 := fun j => nI (h j)
def sw_s (h : Nat → Nat) (k x : Nat) : Nat → Nat := fun j => if j = k then x else h j
theorem sw_Hu (h : Nat → Nat) (k x : Nat) : upd (sw_H h) k (nI x) = sw_H (sw_s h k x) := by
  funext j
  unfold upd sw_H sw_s
  by_cases e : j = k
  · rw [if_pos e, if_pos e]
  · rw [if_neg e, if_neg e]
theorem sw_ss (h : Nat → Nat) (k x : Nat) : sw_s h k x k = x := if_pos rfl
theorem sw_sn {h : Nat → Nat} {k x j : Nat} (e : j ≠ k) : sw_s h k x j = h j := if_neg e
theorem sw_s7 {h : Nat → Nat} {k x : Nat} (hh : ∀ j, h j ≤ 7) (hx : x ≤ 7) : ∀ j, sw_s h k x j ≤ 7 := by
  intro j
  unfold sw_s
  by_cases e : j = k
  · rw [if_pos e]; exact hx
  · rw [if_neg e]; exact hh j
def sw_b (b : Bool) : Int32 := cond b 1 0
theorem sw_b0 {b : Bool} (h : b = false) : sw_b b = 0 := by rw [h]; rfl
theorem sw_b1 {b : Bool} (h : b = true) : sw_b b = 1 := by rw [h]; rfl
/-- a branch on a flag -/
theorem sw_br {b : Bool} {A B : Prop} (f : b = false → A) (g : b = true → B) : (sw_b b = 0 → A) ∧ (¬ sw_b b = 0 → B) := by
  cases b
  · exact ⟨fun _ => f rfl, fun z => absurd rfl z⟩
  · exact ⟨fun z => absurd z (by decide), fun _ => g rfl⟩
theorem sw_lt_or {a b n : Nat} (ha : a < 2 ^ n) (hb : b < n) : a ||| 2 ^ b < 2 ^ n := Nat.or_lt_two_pow ha (Nat.pow_lt_pow_right (by decide) hb)
theorem sw_p5 {n : Nat} (h : n ≤ 5) : 2 ^ n ≤ 32 := Nat.pow_le_pow_right (by decide) h
end
section
/-! the pattern: landings, the taken set, lists of patterns in order -/
/-- where throw i comes down -/
def sw_ld (n : Nat) (h : Nat → Nat) (i : Nat) : Nat := (i + h i) % n
def sw_tk (n : Nat) (h : Nat → Nat) : Nat → Nat
  | 0 => 0
  | i + 1 => sw_tk n h i ||| 2 ^ sw_ld n h i
def sw_jg (n : Nat) (h : Nat → Nat) : Bool := decide (sw_tk n h n = 2 ^ n - 1)
theorem sw_ld_lt {n : Nat} (hn : 1 ≤ n) (h : Nat → Nat) (i : Nat) : sw_ld n h i < n := Nat.mod_lt _ hn
theorem sw_tk_lt {n : Nat} (hn : 1 ≤ n) (h : Nat → Nat) : ∀ i, sw_tk n h i < 2 ^ n
  | 0 => Nat.two_pow_pos n
  | i + 1 => sw_lt_or (sw_tk_lt hn h i) (sw_ld_lt hn h i)
theorem sw_tk_c {n : Nat} {h g : Nat → Nat} : ∀ i, (∀ j, j < i → h j = g j) → sw_tk n h i = sw_tk n g i
  | 0, _ => rfl
  | i + 1, e => by
    show sw_tk n h i ||| 2 ^ ((i + h i) % n) = sw_tk n g i ||| 2 ^ ((i + g i) % n)
    rw [sw_tk_c i (fun j hj => e j (by omega)), e i (by omega)]
/-- a bit is taken by a throw -/
theorem sw_tk_bit {n : Nat} {h : Nat → Nat} {p : Nat} : ∀ i, sw_tk n h i / 2 ^ p % 2 = 1 → ∃ j, j < i ∧ sw_ld n h j = p
  | 0, e => by
    have e2 : (0 : Nat) / 2 ^ p % 2 = 1 := e
    rw [Nat.zero_div] at e2
    exact absurd e2 (by decide)
  | i + 1, e => by
    have e2 : (sw_tk n h i ||| 2 ^ sw_ld n h i) / 2 ^ p % 2 = 1 := e
    rw [sw_obit] at e2
    by_cases q : sw_ld n h i = p
    · exact ⟨i, by omega, q⟩
    · rw [if_neg q] at e2
      obtain ⟨j, hj, ej⟩ := sw_tk_bit i e2
      exact ⟨j, by omega, ej⟩
theorem sw_all_bit : ∀ n, n < 6 → ∀ p, p < n → (2 ^ n - 1) / 2 ^ p % 2 = 1 := by decide +kernel
theorem sw_surj {n : Nat} {h : Nat → Nat} (hn5 : n ≤ 5) (hj : sw_jg n h = true) {p : Nat} (hp : p < n) : ∃ j, j < n ∧ sw_ld n h j = p := by
  apply sw_tk_bit n
  rw [of_decide_eq_true hj]
  exact sw_all_bit n (by omega) p hp
/-- how many of the first i bits -/
def sw_pc (st : Nat) : Nat → Nat
  | 0 => 0
  | i + 1 => sw_pc st i + st / 2 ^ i % 2
theorem sw_pc_or : ∀ st, st < 32 → ∀ p, p < 5 → sw_pc (st ||| 2 ^ p) 5 = sw_pc st 5 + (1 - st / 2 ^ p % 2) := by decide +kernel
theorem sw_pc_n : ∀ n, n < 6 → ∀ st, st < 32 → st < 2 ^ n → sw_pc st 5 ≤ n ∧ (sw_pc st 5 = n ↔ st = 2 ^ n - 1) := by decide +kernel
theorem sw_or_lt : ∀ st, st < 32 → ∀ p, p < 5 → st / 2 ^ p % 2 = 0 → st < (st ||| 2 ^ p) := by decide +kernel
theorem sw_pc_up {n : Nat} (hn : 1 ≤ n) (hn5 : n ≤ 5) (h : Nat → Nat) (i : Nat) : sw_pc (sw_tk n h (i + 1)) 5 = sw_pc (sw_tk n h i) 5 + (1 - sw_tk n h i / 2 ^ sw_ld n h i % 2) :=
  sw_pc_or _ (Nat.lt_of_lt_of_le (sw_tk_lt hn h i) (sw_p5 hn5)) _ (Nat.lt_of_lt_of_le (sw_ld_lt hn h i) hn5)
theorem sw_pc_i {n : Nat} (hn : 1 ≤ n) (hn5 : n ≤ 5) (h : Nat → Nat) : ∀ i, sw_pc (sw_tk n h i) 5 ≤ i
  | 0 => by
    show sw_pc 0 5 ≤ 0
    decide
  | i + 1 => by
    have a := sw_pc_i hn hn5 h i
    have b := sw_pc_up hn hn5 h i
    omega
theorem sw_pc_d {n : Nat} (hn : 1 ≤ n) (hn5 : n ≤ 5) {h : Nat → Nat} (hj : sw_jg n h = true) : ∀ d i, i + d = n → n ≤ sw_pc (sw_tk n h i) 5 + d
  | 0, i, e => by
    have e2 : i = n := by omega
    have k := sw_tk_lt hn h i
    have b := (sw_pc_n n (by omega) (sw_tk n h i) (Nat.lt_of_lt_of_le k (sw_p5 hn5)) k).2.mpr (by rw [e2]; exact of_decide_eq_true hj)
    omega
  | d + 1, i, e => by
    have a := sw_pc_d hn hn5 hj d (i + 1) (by omega)
    have b := sw_pc_up hn hn5 h i
    omega
theorem sw_pc_e {n : Nat} (hn : 1 ≤ n) (hn5 : n ≤ 5) {h : Nat → Nat} (hj : sw_jg n h = true) {i : Nat} (hi : i ≤ n) : sw_pc (sw_tk n h i) 5 = i := by
  have a := sw_pc_i hn hn5 h i
  have b := sw_pc_d hn hn5 hj (n - i) i (by omega)
  omega
/-- in a jugglable pattern each throw comes down at a free place -/
theorem sw_free {n : Nat} (hn : 1 ≤ n) (hn5 : n ≤ 5) {h : Nat → Nat} (hj : sw_jg n h = true) {i : Nat} (hi : i < n) : sw_tk n h i / 2 ^ sw_ld n h i % 2 = 0 := by
  have a := sw_pc_e hn hn5 hj (i := i) (by omega)
  have b := sw_pc_e hn hn5 hj (i := i + 1) (by omega)
  have c := sw_pc_up hn hn5 h i
  omega
/-! lists by the first height -/
def sw_go (B : Nat → List (List Nat)) : Nat → List (List Nat)
  | 0 => []
  | d + 1 => B (7 - d) ++ sw_go B d
def sw_fs (B : Nat → List (List Nat)) : Nat → List (List Nat)
  | 0 => []
  | h + 1 => sw_fs B h ++ B h
theorem sw_go_at (B : Nat → List (List Nat)) {h : Nat} (hh : h ≤ 7) : sw_go B (8 - h) = B h ++ sw_go B (8 - (h + 1)) := by
  have e : 8 - h = (8 - (h + 1)) + 1 := by omega
  rw [e]
  show B (7 - (8 - (h + 1))) ++ sw_go B (8 - (h + 1)) = _
  rw [show 7 - (8 - (h + 1)) = h by omega]
theorem sw_split (B : Nat → List (List Nat)) : ∀ h, h ≤ 8 → sw_go B 8 = sw_fs B h ++ sw_go B (8 - h)
  | 0, _ => rfl
  | h + 1, hh => by
    rw [sw_split B h (by omega), sw_go_at B (by omega)]
    show _ = (sw_fs B h ++ B h) ++ sw_go B (8 - (h + 1))
    rw [List.append_assoc]
theorem sw_go_filter (B : Nat → List (List Nat)) (f : List Nat → Bool) : ∀ d, (sw_go B d).filter f = sw_go (fun h => (B h).filter f) d
  | 0 => rfl
  | d + 1 => by
    show (B (7 - d) ++ sw_go B d).filter f = (B (7 - d)).filter f ++ sw_go (fun h => (B h).filter f) d
    rw [List.filter_append, sw_go_filter B f d]
theorem sw_go_len {B : Nat → List (List Nat)} {M : Nat} (hB : ∀ h, (B h).length ≤ M) : ∀ d, (sw_go B d).length ≤ d * M
  | 0 => Nat.zero_le _
  | d + 1 => by
    show (B (7 - d) ++ sw_go B d).length ≤ (d + 1) * M
    rw [List.length_append, Nat.add_mul, Nat.one_mul]
    have a := sw_go_len hB d
    have b := hB (7 - d)
    omega
theorem sw_go_mem {B : Nat → List (List Nat)} {p : List Nat} : ∀ d, p ∈ sw_go B d → ∃ h, h ≤ 7 ∧ p ∈ B h
  | 0, e => absurd e List.not_mem_nil
  | d + 1, e => by
    have e2 : p ∈ B (7 - d) ++ sw_go B d := e
    rcases List.mem_append.mp e2 with a | a
    · exact ⟨7 - d, by omega, a⟩
    · exact sw_go_mem d a
/-- the place of throw n - (r + 1) with a height -/
def sw_pl (n r h : Nat) : Nat := (n - (r + 1) + h) % n
def sw_pt (n : Nat) : Nat → Nat → List (List Nat)
  | 0, _ => [[]]
  | r + 1, st => sw_go (fun h => if st / 2 ^ sw_pl n r h % 2 = 0 then (sw_pt n r (st ||| 2 ^ sw_pl n r h)).map (fun t => h :: t) else []) 8
def sw_pb (n r st h : Nat) : List (List Nat) := if st / 2 ^ sw_pl n r h % 2 = 0 then (sw_pt n r (st ||| 2 ^ sw_pl n r h)).map (fun t => h :: t) else []
theorem sw_pt_s (n r st : Nat) : sw_pt n (r + 1) st = sw_go (sw_pb n r st) 8 := rfl
def sw_fl (n : Nat) : Nat → Nat → Nat → List (List Nat)
  | 0, _, s => if s = 0 then [[]] else []
  | r + 1, st, s => sw_go (fun h => if st / 2 ^ sw_pl n r h % 2 = 0 ∧ h ≤ s then (sw_fl n r (st ||| 2 ^ sw_pl n r h) (s - h)).map (fun t => h :: t) else []) 8
def sw_fb (n r st s h : Nat) : List (List Nat) := if st / 2 ^ sw_pl n r h % 2 = 0 ∧ h ≤ s then (sw_fl n r (st ||| 2 ^ sw_pl n r h) (s - h)).map (fun t => h :: t) else []
theorem sw_fl_s (n r st s : Nat) : sw_fl n (r + 1) st s = sw_go (sw_fb n r st s) 8 := rfl
theorem sw_flt (n : Nat) : ∀ r st s, (sw_pt n r st).filter (fun p => decide (p.sum = s)) = sw_fl n r st s
  | 0, st, s => by
    show [[]].filter (fun p : List Nat => decide (p.sum = s)) = if s = 0 then [[]] else []
    by_cases e : s = 0
    · subst e; rfl
    · rw [if_neg e, List.filter_cons_of_neg]
      · rfl
      · exact fun z => e (of_decide_eq_true z).symm
  | r + 1, st, s => by
    rw [sw_pt_s, sw_fl_s, sw_go_filter]
    congr 1
    funext h
    unfold sw_pb sw_fb
    by_cases e : st / 2 ^ sw_pl n r h % 2 = 0
    · rw [if_pos e, List.filter_map]
      by_cases e2 : h ≤ s
      · rw [if_pos ⟨e, e2⟩, ← sw_flt n r _ (s - h)]
        congr 2
        funext t
        show decide ((h :: t).sum = s) = decide (t.sum = s - h)
        rw [List.sum_cons]
        exact decide_eq_decide.mpr (by omega)
      · rw [if_neg (fun z => e2 z.2)]
        rw [List.filter_eq_nil_iff.mpr, List.map_nil]
        intro t _
        show ¬ decide ((h :: t).sum = s) = true
        rw [List.sum_cons, decide_eq_true_iff]
        omega
    · rw [if_neg e, if_neg (fun z => e z.1), List.filter_nil]
theorem sw_fl_le (n : Nat) : ∀ r st s, (sw_fl n r st s).length ≤ 8 ^ r
  | 0, st, s => by
    show (if s = 0 then [[]] else [] : List (List Nat)).length ≤ 1
    by_cases e : s = 0
    · rw [if_pos e]; exact Nat.le_refl 1
    · rw [if_neg e]; exact Nat.zero_le 1
  | r + 1, st, s => by
    rw [sw_fl_s, Nat.pow_succ, Nat.mul_comm]
    apply sw_go_len
    intro h
    unfold sw_fb
    by_cases e : st / 2 ^ sw_pl n r h % 2 = 0 ∧ h ≤ s
    · rw [if_pos e, List.length_map]; exact sw_fl_le n r _ _
    · rw [if_neg e]; exact Nat.zero_le _
/-- how many have a lesser first height -/
def sw_ls (n r st s h : Nat) : Nat := (sw_fs (sw_fb n r st s) h).length
theorem sw_ls_0 (n r st s : Nat) : sw_ls n r st s 0 = 0 := rfl
theorem sw_ls_no {n r st s h : Nat} (e : ¬ (st / 2 ^ sw_pl n r h % 2 = 0 ∧ h ≤ s)) : sw_ls n r st s (h + 1) = sw_ls n r st s h := by
  show (sw_fs (sw_fb n r st s) h ++ sw_fb n r st s h).length = _
  unfold sw_fb
  rw [if_neg e, List.append_nil]
  rfl
theorem sw_ls_yes {n r st s h : Nat} (e : st / 2 ^ sw_pl n r h % 2 = 0 ∧ h ≤ s) : sw_ls n r st s (h + 1) = sw_ls n r st s h + (sw_fl n r (st ||| 2 ^ sw_pl n r h) (s - h)).length := by
  show (sw_fs (sw_fb n r st s) h ++ sw_fb n r st s h).length = _
  rw [List.length_append]
  have e2 : (sw_fb n r st s h).length = (sw_fl n r (st ||| 2 ^ sw_pl n r h) (s - h)).length := by
    unfold sw_fb
    rw [if_pos e, List.length_map]
  rw [e2]
  rfl
theorem sw_ls_end {n r st s h : Nat} (hs : s < h) : ∀ d, sw_ls n r st s (h + d) = sw_ls n r st s h
  | 0 => rfl
  | d + 1 => by
    show sw_ls n r st s ((h + d) + 1) = _
    rw [sw_ls_no (fun z => by omega), sw_ls_end hs d]
theorem sw_ls_8 (n r st s : Nat) : (sw_fl n (r + 1) st s).length = sw_ls n r st s 8 := by
  rw [sw_fl_s, sw_split _ 8 (Nat.le_refl 8)]
  show (sw_fs (sw_fb n r st s) 8 ++ []).length = _
  rw [List.append_nil]
  rfl
/-- the table of the class -/
def sw_wy (n k : Nat) : Nat := (sw_fl n (n - sw_pc (k / 36) 5) (k / 36) (k % 36)).length
end
section
/-! own pattern as a list; rank and load on the lists -/
def sw_ts (h : Nat → Nat) : Nat → Nat → List Nat
  | 0, _ => []
  | r + 1, i => h i :: sw_ts h r (i + 1)
theorem sw_ts_len (h : Nat → Nat) : ∀ r i, (sw_ts h r i).length = r
  | 0, _ => rfl
  | r + 1, i => by
    show (sw_ts h r (i + 1)).length + 1 = r + 1
    rw [sw_ts_len h r (i + 1)]
theorem sw_ts_snoc (h : Nat → Nat) : ∀ r i, sw_ts h (r + 1) i = sw_ts h r i ++ [h (i + r)]
  | 0, _ => rfl
  | r + 1, i => by
    show h i :: sw_ts h (r + 1) (i + 1) = h i :: (sw_ts h r (i + 1) ++ [h (i + (r + 1))])
    rw [sw_ts_snoc h r (i + 1), show i + 1 + r = i + (r + 1) by omega]
theorem sw_ts_c {h g : Nat → Nat} : ∀ r i, (∀ j, i ≤ j → j < i + r → h j = g j) → sw_ts h r i = sw_ts g r i
  | 0, _, _ => rfl
  | r + 1, i, e => by
    show h i :: sw_ts h r (i + 1) = g i :: sw_ts g r (i + 1)
    rw [e i (by omega) (by omega), sw_ts_c r (i + 1) (fun j a b => e j (by omega) (by omega))]
theorem sw_ts_inj {h g : Nat → Nat} : ∀ r i, sw_ts h r i = sw_ts g r i → ∀ j, i ≤ j → j < i + r → h j = g j
  | 0, _, _ => fun j a b => by omega
  | r + 1, i, e => by
    have e2 : h i :: sw_ts h r (i + 1) = g i :: sw_ts g r (i + 1) := e
    injection e2 with e3 e4
    intro j a b
    by_cases q : j = i
    · subst q; exact e3
    · exact sw_ts_inj r (i + 1) e4 j (by omega) (by omega)
theorem sw_ts_get (h : Nat → Nat) : ∀ r i j, j < r → (sw_ts h r i).getD j 0 = h (i + j)
  | 0, _, _, e => absurd e (Nat.not_lt_zero _)
  | r + 1, i, 0, _ => rfl
  | r + 1, i, j + 1, e => by
    show (sw_ts h r (i + 1)).getD j 0 = h (i + (j + 1))
    rw [sw_ts_get h r (i + 1) j (by omega), show i + 1 + j = i + (j + 1) by omega]
/-- how many stand before p -/
def sw_bf (p : List Nat) : List (List Nat) → Nat
  | [] => 0
  | q :: l => if q = p then 0 else sw_bf p l + 1
theorem sw_bf_not {p : List Nat} {m : List (List Nat)} : ∀ l, ¬ p ∈ l → sw_bf p (l ++ m) = l.length + sw_bf p m
  | [], _ => by rw [List.nil_append, List.length_nil, Nat.zero_add]
  | q :: l, e => by
    have e1 : ¬ q = p := fun z => e (by rw [z]; exact List.mem_cons_self)
    have e2 : ¬ p ∈ l := fun z => e (List.mem_cons_of_mem _ z)
    show (if q = p then 0 else sw_bf p (l ++ m) + 1) = l.length + 1 + sw_bf p m
    rw [if_neg e1, sw_bf_not l e2]
    omega
theorem sw_bf_in {p : List Nat} {m : List (List Nat)} : ∀ l, p ∈ l → sw_bf p (l ++ m) = sw_bf p l
  | [], e => absurd e List.not_mem_nil
  | q :: l, e => by
    show (if q = p then 0 else sw_bf p (l ++ m) + 1) = (if q = p then 0 else sw_bf p l + 1)
    by_cases z : q = p
    · rw [if_pos z, if_pos z]
    · have e2 : p ∈ l := by
        rcases List.mem_cons.mp e with a | a
        · exact absurd a.symm z
        · exact a
      rw [if_neg z, if_neg z, sw_bf_in l e2]
theorem sw_bf_map (h : Nat) (t : List Nat) : ∀ l, sw_bf (h :: t) (l.map (fun t => h :: t)) = sw_bf t l
  | [] => rfl
  | q :: l => by
    show (if h :: q = h :: t then 0 else sw_bf (h :: t) (l.map (fun t => h :: t)) + 1) = (if q = t then 0 else sw_bf t l + 1)
    rw [sw_bf_map h t l]
    by_cases z : q = t
    · rw [if_pos z, if_pos (by rw [z])]
    · rw [if_neg z, if_neg (fun y => z (List.cons.inj y).2)]
theorem sw_fs_head {n r st s : Nat} {h : Nat} {t : List Nat} : ∀ k, k ≤ h → ¬ (h :: t) ∈ sw_fs (sw_fb n r st s) k
  | 0, _ => List.not_mem_nil
  | k + 1, hk => by
    intro e
    have e2 : (h :: t) ∈ sw_fs (sw_fb n r st s) k ++ sw_fb n r st s k := e
    rcases List.mem_append.mp e2 with a | a
    · exact sw_fs_head k (by omega) a
    · unfold sw_fb at a
      by_cases c : st / 2 ^ sw_pl n r k % 2 = 0 ∧ k ≤ s
      · rw [if_pos c] at a
        obtain ⟨x, _, hx⟩ := List.mem_map.mp a
        injection hx with h1 h2
        omega
      · rw [if_neg c] at a
        exact List.not_mem_nil a
theorem sw_fb_yes {n r st s h : Nat} (e : st / 2 ^ sw_pl n r h % 2 = 0) (e2 : h ≤ s) : sw_fb n r st s h = (sw_fl n r (st ||| 2 ^ sw_pl n r h) (s - h)).map (fun t => h :: t) := if_pos ⟨e, e2⟩
theorem sw_fl_at (n r st s : Nat) {h : Nat} (hh : h ≤ 7) : sw_fl n (r + 1) st s = sw_fs (sw_fb n r st s) h ++ (sw_fb n r st s h ++ sw_go (sw_fb n r st s) (8 - (h + 1))) := by
  rw [sw_fl_s, sw_split _ h (by omega), sw_go_at _ hh]
theorem sw_fl_mem {n r st s h : Nat} {t : List Nat} (hh : h ≤ 7) (e : st / 2 ^ sw_pl n r h % 2 = 0) (e2 : h ≤ s) (ht : t ∈ sw_fl n r (st ||| 2 ^ sw_pl n r h) (s - h)) : (h :: t) ∈ sw_fl n (r + 1) st s := by
  rw [sw_fl_at n r st s hh, sw_fb_yes e e2]
  exact List.mem_append_right _ (List.mem_append_left _ (List.mem_map.mpr ⟨t, ht, rfl⟩))
theorem sw_bf_step {n r st s h : Nat} {t : List Nat} (hh : h ≤ 7) (e : st / 2 ^ sw_pl n r h % 2 = 0) (e2 : h ≤ s) (ht : t ∈ sw_fl n r (st ||| 2 ^ sw_pl n r h) (s - h)) : sw_bf (h :: t) (sw_fl n (r + 1) st s) = sw_ls n r st s h + sw_bf t (sw_fl n r (st ||| 2 ^ sw_pl n r h) (s - h)) := by
  rw [sw_fl_at n r st s hh, sw_bf_not _ (sw_fs_head h (Nat.le_refl h)), sw_fb_yes e e2, sw_bf_in _ (List.mem_map.mpr ⟨t, ht, rfl⟩), sw_bf_map]
  rfl
theorem sw_pl_i {n i : Nat} (hi : i < n) (h : Nat) : sw_pl n (n - (i + 1)) h = (i + h) % n := by
  unfold sw_pl
  rw [show n - (n - (i + 1) + 1) = i by omega]
/-- own tail is in the list of its sum -/
theorem sw_own_mem {n : Nat} (hn : 1 ≤ n) (hn5 : n ≤ 5) {h : Nat → Nat} (hh : ∀ j, h j ≤ 7) (hj : sw_jg n h = true) : ∀ r i, i + r = n → sw_ts h r i ∈ sw_fl n r (sw_tk n h i) (sw_ts h r i).sum
  | 0, i, e => by
    show [] ∈ sw_fl n 0 (sw_tk n h i) 0
    exact List.mem_cons_self
  | r + 1, i, e => by
    have hi : i < n := by omega
    have er : r = n - (i + 1) := by omega
    have pl : sw_pl n r (h i) = sw_ld n h i := by rw [er, sw_pl_i hi]; rfl
    have ih := sw_own_mem hn hn5 hh hj r (i + 1) (by omega)
    have es : (sw_ts h (r + 1) i).sum = h i + (sw_ts h r (i + 1)).sum := List.sum_cons
    refine sw_fl_mem (hh i) (by rw [pl]; exact sw_free hn hn5 hj hi) (by omega) ?_
    rw [pl, es, Nat.add_sub_cancel_left]
    exact ih
/-- the rank, one throw more -/
theorem sw_own_bf {n : Nat} (hn : 1 ≤ n) (hn5 : n ≤ 5) {h : Nat → Nat} (hh : ∀ j, h j ≤ 7) (hj : sw_jg n h = true) {i : Nat} (hi : i < n) {r : Nat} (er : r = n - (i + 1)) : sw_bf (sw_ts h (r + 1) i) (sw_fl n (r + 1) (sw_tk n h i) (sw_ts h (r + 1) i).sum) = sw_ls n r (sw_tk n h i) (sw_ts h (r + 1) i).sum (h i) + sw_bf (sw_ts h r (i + 1)) (sw_fl n r (sw_tk n h (i + 1)) (sw_ts h r (i + 1)).sum) := by
  have pl : sw_pl n r (h i) = sw_ld n h i := by rw [er, sw_pl_i hi]; rfl
  have ih := sw_own_mem hn hn5 hh hj r (i + 1) (by omega)
  have es : (sw_ts h (r + 1) i).sum = h i + (sw_ts h r (i + 1)).sum := List.sum_cons
  have e3 : (sw_ts h (r + 1) i).sum - h i = (sw_ts h r (i + 1)).sum := by omega
  have st := sw_bf_step (n := n) (r := r) (st := sw_tk n h i) (s := (sw_ts h (r + 1) i).sum) (h := h i) (t := sw_ts h r (i + 1)) (hh i) (by rw [pl]; exact sw_free hn hn5 hj hi) (by omega) (by rw [pl, e3]; exact ih)
  rw [pl, e3] at st
  exact st
/-- the first height of the k-th -/
theorem sw_nth {n r st s h k : Nat} {p : List Nat} (hh : h ≤ 7) (a : sw_ls n r st s h ≤ k) (b : k < sw_ls n r st s (h + 1)) (e : (sw_fl n (r + 1) st s)[k]? = some p) : st / 2 ^ sw_pl n r h % 2 = 0 ∧ h ≤ s ∧ ∃ t, p = h :: t ∧ (sw_fl n r (st ||| 2 ^ sw_pl n r h) (s - h))[k - sw_ls n r st s h]? = some t := by
  by_cases c : st / 2 ^ sw_pl n r h % 2 = 0 ∧ h ≤ s
  · refine ⟨c.1, c.2, ?_⟩
    have lb : (sw_fb n r st s h).length = (sw_fl n r (st ||| 2 ^ sw_pl n r h) (s - h)).length := by rw [sw_fb_yes c.1 c.2, List.length_map]
    rw [sw_ls_yes c] at b
    rw [sw_fl_at n r st s hh, List.getElem?_append_right a] at e
    have e2 : (sw_fb n r st s h ++ sw_go (sw_fb n r st s) (8 - (h + 1)))[k - sw_ls n r st s h]? = some p := e
    rw [List.getElem?_append_left (by omega), sw_fb_yes c.1 c.2, List.getElem?_map] at e2
    cases q : (sw_fl n r (st ||| 2 ^ sw_pl n r h) (s - h))[k - sw_ls n r st s h]? with
    | none => rw [q] at e2; exact absurd e2 (by simp)
    | some t =>
      rw [q] at e2
      exact ⟨t, (Option.some.inj e2).symm, rfl⟩
  · rw [sw_ls_no c] at b
    omega
theorem sw_ls_mono (n r st s : Nat) {a : Nat} : ∀ d, sw_ls n r st s a ≤ sw_ls n r st s (a + d)
  | 0 => Nat.le_refl _
  | d + 1 => by
    have ih := sw_ls_mono n r st s (a := a) d
    by_cases c : st / 2 ^ sw_pl n r (a + d) % 2 = 0 ∧ a + d ≤ s
    · have e : sw_ls n r st s (a + d + 1) = _ := sw_ls_yes c
      show sw_ls n r st s a ≤ sw_ls n r st s (a + d + 1)
      omega
    · have e : sw_ls n r st s (a + d + 1) = _ := sw_ls_no c
      show sw_ls n r st s a ≤ sw_ls n r st s (a + d + 1)
      omega
theorem sw_ls_lt (n r st s : Nat) (hr : r ≤ 4) {h : Nat} (hh : h ≤ 8) : sw_ls n r st s h < 2 ^ 31 := by
  have a := sw_ls_mono n r st s (a := h) (8 - h)
  rw [show h + (8 - h) = 8 by omega, ← sw_ls_8] at a
  have b := sw_fl_le n (r + 1) st s
  have c : 8 ^ (r + 1) ≤ 8 ^ 5 := Nat.pow_le_pow_right (by decide) (by omega)
  have d : 8 ^ 5 < 2 ^ 31 := by decide
  omega
/-! what is left for the reference's walk through all patterns -/
def sw_fr (n : Nat) (q : Nat → Nat) (i c : Nat) : List (List Nat) := (sw_go (sw_pb n (n - (i + 1)) (sw_tk n q i)) (8 - c)).map (fun t => sw_ts q i 0 ++ t)
def sw_up (n : Nat) (q : Nat → Nat) : Nat → List (List Nat)
  | 0 => []
  | i + 1 => sw_fr n q i (q i + 1) ++ sw_up n q i
def sw_rm (n : Nat) (q : Nat → Nat) (i c : Nat) : List (List Nat) := sw_fr n q i c ++ sw_up n q i
theorem sw_fr_c {n : Nat} {q g : Nat → Nat} {i : Nat} (e : ∀ j, j < i → q j = g j) (c : Nat) : sw_fr n q i c = sw_fr n g i c := by
  unfold sw_fr
  rw [sw_tk_c i e, sw_ts_c i 0 (fun j _ b => e j (by omega))]
theorem sw_up_c {n : Nat} {q g : Nat → Nat} : ∀ i, (∀ j, j < i → q j = g j) → sw_up n q i = sw_up n g i
  | 0, _ => rfl
  | i + 1, e => by
    show sw_fr n q i (q i + 1) ++ sw_up n q i = sw_fr n g i (g i + 1) ++ sw_up n g i
    rw [e i (by omega), sw_fr_c (fun j hj => e j (by omega)), sw_up_c i (fun j hj => e j (by omega))]
theorem sw_rm_c {n : Nat} {q g : Nat → Nat} {i : Nat} (e : ∀ j, j < i → q j = g j) (c : Nat) : sw_rm n q i c = sw_rm n g i c := by
  unfold sw_rm
  rw [sw_fr_c e, sw_up_c i e]
theorem sw_rm_0 (n : Nat) (hn : 1 ≤ n) (q : Nat → Nat) : sw_rm n q 0 0 = sw_pt n n 0 := by
  obtain ⟨m, rfl⟩ : ∃ m, n = m + 1 := ⟨n - 1, by omega⟩
  show (sw_go (sw_pb (m + 1) (m + 1 - (0 + 1)) 0) 8).map (fun t => [] ++ t) ++ [] = sw_go (sw_pb (m + 1) m 0) 8
  rw [List.append_nil, show m + 1 - (0 + 1) = m by omega]
  exact List.map_id _
/-- the next height of throw i: d heights are left to try -/
def sw_nh (n : Nat) (q : Nat → Nat) (i : Nat) : Nat → Nat
  | 0 => 8
  | d + 1 => if sw_tk n q i / 2 ^ ((i + (7 - d)) % n) % 2 = 0 then 7 - d else sw_nh n q i d
theorem sw_nh_go {n : Nat} {q : Nat → Nat} {i : Nat} (hi : i < n) : ∀ d, d ≤ 8 → (8 - d ≤ sw_nh n q i d ∧ sw_nh n q i d ≤ 8) ∧ (sw_nh n q i d = 8 → sw_go (sw_pb n (n - (i + 1)) (sw_tk n q i)) d = []) ∧ (sw_nh n q i d ≤ 7 → sw_go (sw_pb n (n - (i + 1)) (sw_tk n q i)) d = (sw_pt n (n - (i + 1)) (sw_tk n q i ||| 2 ^ ((i + sw_nh n q i d) % n))).map (fun t => sw_nh n q i d :: t) ++ sw_go (sw_pb n (n - (i + 1)) (sw_tk n q i)) (8 - (sw_nh n q i d + 1)))
  | 0, _ => ⟨⟨Nat.le_refl 8, Nat.le_refl 8⟩, fun _ => rfl, fun z => absurd (show 8 ≤ 7 from z) (by decide)⟩
  | d + 1, hd => by
    have ih := sw_nh_go hi (q := q) d (by omega)
    have eg : sw_go (sw_pb n (n - (i + 1)) (sw_tk n q i)) (d + 1) = sw_pb n (n - (i + 1)) (sw_tk n q i) (7 - d) ++ sw_go (sw_pb n (n - (i + 1)) (sw_tk n q i)) d := rfl
    by_cases c : sw_tk n q i / 2 ^ ((i + (7 - d)) % n) % 2 = 0
    · have e : sw_nh n q i (d + 1) = 7 - d := if_pos c
      rw [e, eg]
      refine ⟨⟨by omega, by omega⟩, fun z => by omega, fun _ => ?_⟩
      rw [show 8 - (7 - d + 1) = d by omega]
      congr 1
      unfold sw_pb
      rw [sw_pl_i hi, if_pos c]
    · have e : sw_nh n q i (d + 1) = sw_nh n q i d := if_neg c
      have eb : sw_pb n (n - (i + 1)) (sw_tk n q i) (7 - d) = [] := by
        unfold sw_pb
        rw [sw_pl_i hi, if_neg c]
      rw [e, eg, eb, List.nil_append]
      exact ⟨⟨by omega, ih.1.2⟩, ih.2.1, ih.2.2⟩
theorem sw_rm_no {n : Nat} {q : Nat → Nat} {i c : Nat} (hi : i < n) (hx : sw_nh n q i (8 - c) = 8) : sw_rm n q i c = sw_up n q i := by
  unfold sw_rm sw_fr
  rw [(sw_nh_go hi (8 - c) (by omega)).2.1 hx]
  rfl
theorem sw_rm_yes {n : Nat} {q : Nat → Nat} {i c : Nat} (hi : i < n) {x : Nat} (ex : sw_nh n q i (8 - c) = x) (hx : x ≤ 7) : sw_rm n q i c = ((sw_pt n (n - (i + 1)) (sw_tk n q i ||| 2 ^ ((i + x) % n))).map (fun t => x :: t)).map (fun t => sw_ts q i 0 ++ t) ++ sw_rm n q i (x + 1) := by
  have k := (sw_nh_go hi (q := q) (8 - c) (by omega)).2.2 (by omega)
  rw [ex] at k
  unfold sw_rm sw_fr
  rw [k, List.map_append, List.append_assoc]
theorem sw_s_below {q : Nat → Nat} {i x : Nat} : ∀ j, j < i → sw_s q i x j = q j := fun j hj => sw_sn (by omega)
theorem sw_rm_down {n : Nat} {q : Nat → Nat} {i c : Nat} (hi : i + 1 < n) {x : Nat} (ex : sw_nh n q i (8 - c) = x) (hx : x ≤ 7) : sw_rm n q i c = sw_rm n (sw_s q i x) (i + 1) 0 := by
  rw [sw_rm_yes (by omega) ex hx]
  have eu : sw_up n (sw_s q i x) (i + 1) = sw_rm n q i (x + 1) := by
    show sw_fr n (sw_s q i x) i (sw_s q i x i + 1) ++ sw_up n (sw_s q i x) i = sw_fr n q i (x + 1) ++ sw_up n q i
    rw [sw_ss, sw_fr_c sw_s_below, sw_up_c i sw_s_below]
  show _ = sw_fr n (sw_s q i x) (i + 1) 0 ++ sw_up n (sw_s q i x) (i + 1)
  rw [eu]
  congr 1
  unfold sw_fr
  have et : sw_tk n (sw_s q i x) (i + 1) = sw_tk n q i ||| 2 ^ ((i + x) % n) := by
    show sw_tk n (sw_s q i x) i ||| 2 ^ ((i + sw_s q i x i) % n) = _
    rw [sw_ss, sw_tk_c i sw_s_below]
  have es : sw_ts (sw_s q i x) (i + 1) 0 = sw_ts q i 0 ++ [x] := by
    rw [sw_ts_snoc, Nat.zero_add, sw_ss, sw_ts_c i 0 (fun j _ b => sw_s_below j (by omega))]
  rw [et, es, show n - (i + 1) = (n - (i + 1 + 1)) + 1 by omega, sw_pt_s, List.map_map]
  congr 1
  funext t
  show sw_ts q i 0 ++ (x :: t) = (sw_ts q i 0 ++ [x]) ++ t
  rw [List.append_assoc]
  rfl
theorem sw_rm_end {n : Nat} {q : Nat → Nat} {i c : Nat} (hi : i + 1 = n) {x : Nat} (ex : sw_nh n q i (8 - c) = x) (hx : x ≤ 7) : sw_rm n q i c = sw_ts (sw_s q i x) n 0 :: sw_rm n (sw_s q i x) i (sw_s q i x i + 1) := by
  rw [sw_rm_yes (by omega) ex hx, sw_ss, sw_rm_c (q := sw_s q i x) (g := q) sw_s_below]
  have es : sw_ts (sw_s q i x) (i + 1) 0 = sw_ts q i 0 ++ [x] := by
    rw [sw_ts_snoc, Nat.zero_add, sw_ss, sw_ts_c i 0 (fun j _ b => sw_s_below j (by omega))]
  have en : sw_ts (sw_s q i x) n 0 = sw_ts q i 0 ++ [x] := by rw [← hi]; exact es
  rw [en, show n - (i + 1) = 0 by omega]
  rfl
end
section
/-! the relation; landing, fits, jugglable -/
def sw_Tab (c : Nat) (w : Nat → Int32) : Prop := c = 0 ∨ ∀ k, k < 36 * 2 ^ c → w k = nI (sw_wy c k)
/-- the relation: n and the heights alike, all heights at most 7, the table right for countedFor -/
def i_Rel (k : Nat) (u : SX) (v : SY) : Prop := ∃ (n c : Nat) (h : Nat → Nat) (oX w aX oY m f : Nat → Int32), u = (nI n, nI c, sw_H h, oX, w, aX) ∧ v = (nI n, sw_H h, oY, m, f) ∧ 1 ≤ n ∧ n ≤ 5 ∧ (∀ j, h j ≤ 7) ∧ c ≤ 5 ∧ sw_Tab c w
theorem i_up {k : Nat} {u : SX} {v : SY} (h : i_Rel k u v) : i_Rel (k + 3) u v := h
theorem sw_rel {k n c : Nat} {h : Nat → Nat} {oX w aX oY m f : Nat → Int32} (hn : 1 ≤ n) (hn5 : n ≤ 5) (hh : ∀ j, h j ≤ 7) (hc : c ≤ 5) (hT : sw_Tab c w) : i_Rel k (nI n, nI c, sw_H h, oX, w, aX) (nI n, sw_H h, oY, m, f) := ⟨n, c, h, oX, w, aX, oY, m, f, rfl, rfl, hn, hn5, hh, hc, hT⟩
theorem i_vc0 : wpX_init (fun u => wpY_init (fun v => i_Rel 0 u v)) := by
  intro a ea
  intro b eb
  have e3 : vp_nar .byte 3 = 3 := sw_nb (x := 3) (by decide)
  have e0 : (fun _ => 0 : Nat → Int32) = sw_H (fun _ => 0) := rfl
  have e1 : a = sw_H (sw_s (fun _ => 0) 0 3) := by
    rw [ea, e3, ← sw_Hu, ← e0]
    rfl
  have e2 : b = sw_H (sw_s (fun _ => 0) 0 3) := by
    rw [eb, ← sw_Hu, ← e0]
    rfl
  subst e1
  subst e2
  exact sw_rel (n := 1) (c := 0) (by decide) (by decide) (sw_s7 (fun _ => Nat.zero_le 7) (by decide)) (by decide) (Or.inl rfl)
/-! arguments -/
theorem sw_h7 (x : Int32) : (∃ j : Nat, j ≤ 7 ∧ x = nI j) ∨ (x < 0 ∨ ¬ x < 0 ∧ ¬ x ≤ 7) := by
  by_cases h : x < 0
  · exact Or.inr (Or.inl h)
  · by_cases h7 : x ≤ 7
    · exact Or.inl (nI_of2 (M := 7) (n := 7) (by decide) h h7)
    · exact Or.inr (Or.inr ⟨h, h7⟩)
theorem sw_ix (x : Int32) (n : Nat) (hn : n < 2 ^ 31) : (∃ j : Nat, j < n ∧ x = nI j) ∨ (x < 0 ∨ ¬ x < 0 ∧ ¬ x < nI n) := by
  by_cases h : x < 0
  · exact Or.inr (Or.inl h)
  · by_cases h7 : x < nI n
    · obtain ⟨j, hj, rfl⟩ := nI_of h
      exact Or.inl ⟨j, (nI_ltI hj hn).mp h7, rfl⟩
    · exact Or.inr (Or.inr ⟨h, h7⟩)
theorem sw_xbh0 {post : Int32 → Prop} {u : SX} {j : Nat} (hj : j ≤ 7) (hp : post 0) : wpX_badHeight post u (nI j) := by
  obtain ⟨_, _, _, _, _, _⟩ := u
  exact br_f (nI_pos (by omega)) (br_t (nI_le (b := 7) hj (by decide)) hp)
theorem sw_xbh1 {post : Int32 → Prop} {u : SX} {x : Int32} (hx : x < 0 ∨ ¬ x < 0 ∧ ¬ x ≤ 7) (hp : post 1) : wpX_badHeight post u x := by
  obtain ⟨_, _, _, _, _, _⟩ := u
  rcases hx with h | h
  · exact br_t h hp
  · exact br_f h.1 (br_f h.2 hp)
theorem sw_ybh0 {post : Int32 → Prop} {u : SY} {j : Nat} (hj : j ≤ 7) (hp : post 0) : wpY_noHeight post u (nI j) := by
  obtain ⟨_, _, _, _, _⟩ := u
  exact br_f (nI_pos (by omega)) (br_t (nI_le (b := 7) hj (by decide)) hp)
theorem sw_ybh1 {post : Int32 → Prop} {u : SY} {x : Int32} (hx : x < 0 ∨ ¬ x < 0 ∧ ¬ x ≤ 7) (hp : post 1) : wpY_noHeight post u x := by
  obtain ⟨_, _, _, _, _⟩ := u
  rcases hx with h | h
  · exact br_t h hp
  · exact br_f h.1 (br_f h.2 hp)
theorem sw_ynb0 {post : Int32 → Prop} {u : SY} {j : Nat} (hj : j ≤ 7) (hp : post 0) : wpY_noBalls post u (nI j) := by
  obtain ⟨_, _, _, _, _⟩ := u
  exact br_f (nI_pos (by omega)) (br_t (nI_le (b := 7) hj (by decide)) hp)
theorem sw_ynb1 {post : Int32 → Prop} {u : SY} {x : Int32} (hx : x < 0 ∨ ¬ x < 0 ∧ ¬ x ≤ 7) (hp : post 1) : wpY_noBalls post u x := by
  obtain ⟨_, _, _, _, _⟩ := u
  rcases hx with h | h
  · exact br_t h hp
  · exact br_f h.1 (br_f h.2 hp)
section
variable {n c : Nat} {h : Nat → Nat} {o w a m f : Nat → Int32}
theorem sw_xbt0 {post : Int32 → Prop} {H : Nat → Int32} {j : Nat} (hn5 : n ≤ 5) (hj : j < n) (hp : post 0) : wpX_badThrow post (nI n, nI c, H, o, w, a) (nI j) :=
  br_f (nI_pos (by omega)) (br_t (nI_lt hj (by omega)) hp)
theorem sw_xbt1 {post : Int32 → Prop} {H : Nat → Int32} {x : Int32} (hx : x < 0 ∨ ¬ x < 0 ∧ ¬ x < nI n) (hp : post 1) : wpX_badThrow post (nI n, nI c, H, o, w, a) x := by
  rcases hx with h | h
  · exact br_t h hp
  · exact br_f h.1 (br_f h.2 hp)
theorem sw_ybt0 {post : Int32 → Prop} {H : Nat → Int32} {j : Nat} (hn5 : n ≤ 5) (hj : j < n) (hp : post 0) : wpY_noThrow post (nI n, H, o, m, f) (nI j) :=
  br_f (nI_pos (by omega)) (br_t (nI_lt hj (by omega)) hp)
theorem sw_ybt1 {post : Int32 → Prop} {H : Nat → Int32} {x : Int32} (hx : x < 0 ∨ ¬ x < 0 ∧ ¬ x < nI n) (hp : post 1) : wpY_noThrow post (nI n, H, o, m, f) x := by
  rcases hx with h | h
  · exact br_t h hp
  · exact br_f h.1 (br_f h.2 hp)
theorem sw_rd {i : Nat} (hi : i < 2 ^ 31) : sw_H h (nI i).toNatClampNeg = nI (h i) := by
  rw [nI_clamp hi]
  rfl
theorem sw_xland {post : Int32 → Prop} (hn : 1 ≤ n) (hn5 : n ≤ 5) (hh : ∀ j, h j ≤ 7) {i : Nat} (hi : i < 5) (hp : post (nI (sw_ld n h i))) : wpX_landing post (nI n, nI c, sw_H h, o, w, a) (nI i) := by
  unfold wpX_landing
  dsimp only
  have e : nI i + sw_H h (nI i).toNatClampNeg = nI (i + h i) := by
    rw [sw_rd (by omega)]
    exact nI_add _ _
  have h7 := hh i
  refine ⟨vp_in_nI hi (by omega), nm_r e (br_f (nI_nle (by omega) (by omega)) ⟨nI_ne0 (by omega) (by omega), ?_⟩)⟩
  rw [pk_rem (by omega) (by omega) (by omega)]
  exact hp
theorem sw_end {post : Int32 → Prop} (hn : 1 ≤ n) (hn5 : n ≤ 5) (hp : post (sw_b (sw_jg n h))) : (nI (sw_tk n h n) = ((1 : Int32) <<< (nI n &&& 31)) - 1 → post 1) ∧ (¬ nI (sw_tk n h n) = ((1 : Int32) <<< (nI n &&& 31)) - 1 → post 0) := by
  rw [sw_all (by omega)]
  have k := sw_tk_lt hn h n
  have k2 := sw_p5 hn5
  by_cases q : sw_tk n h n = 2 ^ n - 1
  · rw [sw_b1 (b := sw_jg n h) (decide_eq_true q)] at hp
    exact br_t (congrArg nI q) hp
  · rw [sw_b0 (b := sw_jg n h) (decide_eq_false q)] at hp
    exact br_f (fun z => q ((nI_eq (by omega) (by omega)).mp z)) hp
theorem sw_xfits4 {post : Int32 → Prop} (hn : 1 ≤ n) (hn5 : n ≤ 5) (hh : ∀ j, h j ≤ 7) (hp : post (sw_b (sw_jg n h))) : ∀ d i fu, i + d = n → d < fu → wX_fits_4 post (nI n) (nI c) (sw_H h) o w a fu (nI (sw_tk n h i)) (nI i) := by
  intro d
  induction d with
  | zero =>
    intro i fu e hf
    obtain ⟨g, rfl⟩ : ∃ g, fu = g + 1 := ⟨fu - 1, by omega⟩
    have e2 : i = n := by omega
    subst e2
    exact br_t (nI_le (Nat.le_refl _) (by omega)) (sw_end hn hn5 hp)
  | succ d ih =>
    intro i fu e hf
    obtain ⟨g, rfl⟩ : ∃ g, fu = g + 1 := ⟨fu - 1, by omega⟩
    refine br_f (nI_ge (by omega) (by omega)) (sw_xland hn hn5 hh (by omega) ?_)
    have l := sw_ld_lt hn h i
    exact nm_r (sw_orp (by omega)) (nm_r (nI_1 i) (ih (i + 1) g (by omega) (by omega)))
theorem sw_xfits {post : Int32 → Prop} (hn : 1 ≤ n) (hn5 : n ≤ 5) (hh : ∀ j, h j ≤ 7) (hp : post (sw_b (sw_jg n h))) : wpX_fits post (nI n, nI c, sw_H h, o, w, a) :=
  ⟨n + 1, sw_xfits4 hn hn5 hh hp n 0 (n + 1) (by omega) (by omega)⟩
theorem sw_yfits4 {post : Int32 → Prop} (hn : 1 ≤ n) (hn5 : n ≤ 5) (hh : ∀ j, h j ≤ 7) (hp : post (sw_b (sw_jg n h))) : ∀ d i fu, i + d = n → d < fu → wY_isJugglable_4 post (nI n) (sw_H h) o m f fu (nI (sw_tk n h i)) (nI i) := by
  intro d
  induction d with
  | zero =>
    intro i fu e hf
    obtain ⟨g, rfl⟩ : ∃ g, fu = g + 1 := ⟨fu - 1, by omega⟩
    have e2 : i = n := by omega
    subst e2
    exact br_t (nI_le (Nat.le_refl _) (by omega)) (sw_end hn hn5 hp)
  | succ d ih =>
    intro i fu e hf
    obtain ⟨g, rfl⟩ : ∃ g, fu = g + 1 := ⟨fu - 1, by omega⟩
    have h7 := hh i
    have l := sw_ld_lt hn h i
    have e1 : (nI i + sw_H h (nI i).toNatClampNeg) - (nI i + sw_H h (nI i).toNatClampNeg) / nI n * nI n = nI (sw_ld n h i) := by
      rw [sw_rd (by omega), nI_add, pk_rem (by omega) (by omega) (by omega)]
      rfl
    refine br_f (nI_ge (by omega) (by omega)) ⟨vp_in_nI (by omega) (by omega), nI_ne0 (by omega) (by omega), ?_⟩
    refine nm_r (e' := nI (sw_tk n h (i + 1))) ?_ (nm_r (nI_1 i) (ih (i + 1) g (by omega) (by omega)))
    rw [e1]
    exact sw_orp (by omega)
theorem sw_yfits {post : Int32 → Prop} (hn : 1 ≤ n) (hn5 : n ≤ 5) (hh : ∀ j, h j ≤ 7) (hp : post (sw_b (sw_jg n h))) : wpY_isJugglable post (nI n, sw_H h, o, m, f) :=
  ⟨n + 1, sw_yfits4 hn hn5 hh hp n 0 (n + 1) (by omega) (by omega)⟩
theorem sw_yjug {post : Int32 → Prop} (hn : 1 ≤ n) (hn5 : n ≤ 5) (hh : ∀ j, h j ≤ 7) (hp : post (sw_b (sw_jg n h))) : wpY_jugglable post (nI n, sw_H h, o, m, f) := by
  unfold wpY_jugglable
  dsimp only
  refine sw_yfits hn hn5 hh (sw_br (fun e => ?_) (fun e => ?_))
  · rw [sw_b0 e] at hp; exact hp
  · rw [sw_b1 e] at hp; exact hp
end
end
section
/-! the small methods -/
theorem i_vc_size {k : Nat} {u : SX} {v : SY} (I : i_Rel k u v) (hk : k + 3 ≤ 1536) : wpX_size (fun r => wpY_size (fun r' => r' = r ∧ i_Rel (k + 3) u v) v) u := by
  obtain ⟨n, c, h, oX, w, aX, oY, m, f, rfl, rfl, hn, hn5, hh, hc, hT⟩ := I
  exact ⟨rfl, sw_rel hn hn5 hh hc hT⟩
theorem i_vc_put {k : Nat} {u : SX} {v : SY} (I : i_Rel k u v) (hk : k + 3 ≤ 1536) (v1 : Int32) : wpX_put (fun r u' => wpY_put (fun r' v' => r' = r ∧ i_Rel (k + 3) u' v') v v1) u v1 := by
  obtain ⟨n, c, h, oX, w, aX, oY, m, f, rfl, rfl, hn, hn5, hh, hc, hT⟩ := I
  unfold wpX_put wpY_put
  dsimp only
  rcases sw_h7 v1 with ⟨j, hj, rfl⟩ | hb
  · refine sw_xbh0 hj (br_t (rfl : (0 : Int32) = 0) ?_)
    by_cases e : n = 5
    · subst e
      exact br_t (rfl : nI 5 = 5) (sw_ybh0 hj (br_t (rfl : (0 : Int32) = 0) (br_t (rfl : nI 5 = 5) ⟨rfl, sw_rel hn hn5 hh hc hT⟩)))
    · have e5 : ¬ nI n = 5 := fun z => e ((nI_eq (b := 5) (by omega) (by decide)).mp z)
      have hi : vp_in (nI n) 5 := vp_in_nI (by omega) (by decide)
      refine br_f e5 ⟨hi, nm_r (e' := sw_H (sw_s h n j)) ?_ (nm_r (nI_1 n) (sw_ybh0 hj (br_t (rfl : (0 : Int32) = 0) (br_f e5 ⟨hi, nm_r (e' := sw_H (sw_s h n j)) ?_ (nm_r (nI_1 n) ⟨rfl, sw_rel (by omega) (by omega) (sw_s7 hh hj) hc hT⟩)⟩))))⟩
      · rw [sw_nbc (by omega), nI_clamp (by omega)]; exact sw_Hu h n j
      · rw [nI_clamp (by omega)]; exact sw_Hu h n j
  · exact sw_xbh1 hb (br_f (by decide : ¬ (1 : Int32) = 0) (sw_ybh1 hb (br_f (by decide : ¬ (1 : Int32) = 0) ⟨rfl, sw_rel hn hn5 hh hc hT⟩)))
theorem i_vc_drop {k : Nat} {u : SX} {v : SY} (I : i_Rel k u v) (hk : k + 3 ≤ 1536) : wpX_drop (fun r u' => wpY_drop (fun r' v' => r' = r ∧ i_Rel (k + 3) u' v') v) u := by
  obtain ⟨n, c, h, oX, w, aX, oY, m, f, rfl, rfl, hn, hn5, hh, hc, hT⟩ := I
  unfold wpX_drop wpY_drop
  dsimp only
  by_cases e : n = 1
  · subst e
    exact br_t (rfl : nI 1 = 1) (br_t (rfl : nI 1 = 1) ⟨rfl, sw_rel hn hn5 hh hc hT⟩)
  · have e1 : ¬ nI n = 1 := fun z => e ((nI_eq (b := 1) (by omega) (by decide)).mp z)
    obtain ⟨p, rfl⟩ : ∃ p, n = p + 1 := ⟨n - 1, by omega⟩
    have hi : vp_in (nI p) 5 := vp_in_nI (by omega) (by decide)
    exact br_f e1 (nm_r (nI_pred p) ⟨hi, br_f e1 (nm_r (nI_pred p) ⟨hi, rfl, sw_rel (by omega) (by omega) hh hc hT⟩)⟩)
theorem i_vc_set {k : Nat} {u : SX} {v : SY} (I : i_Rel k u v) (hk : k + 3 ≤ 1536) (v1 : Int32) (v2 : Int32) : wpX_set (fun r u' => wpY_set (fun r' v' => r' = r ∧ i_Rel (k + 3) u' v') v v1 v2) u v1 v2 := by
  obtain ⟨n, c, h, oX, w, aX, oY, m, f, rfl, rfl, hn, hn5, hh, hc, hT⟩ := I
  unfold wpX_set wpY_set
  dsimp only
  rcases sw_ix v1 n (by omega) with ⟨i, hi, rfl⟩ | hb
  · refine sw_xbt0 hn5 hi (br_t (rfl : (0 : Int32) = 0) ?_)
    have hin : vp_in (nI i) 5 := vp_in_nI (by omega) (by decide)
    rcases sw_h7 v2 with ⟨j, hj, rfl⟩ | hb2
    · refine sw_xbh0 hj (br_t (rfl : (0 : Int32) = 0) ⟨hin, nm_e ⟨hin, nm_r (e' := sw_H (sw_s h i j)) ?_ ?_⟩⟩)
      · rw [sw_nbc (by omega), nI_clamp (by omega)]; exact sw_Hu h i j
      · refine sw_ybt0 hn5 hi (br_t (rfl : (0 : Int32) = 0) (sw_ybh0 hj (br_t (rfl : (0 : Int32) = 0) ⟨hin, nm_e ⟨hin, nm_r (e' := sw_H (sw_s h i j)) ?_ ⟨rfl, sw_rel hn hn5 (sw_s7 hh hj) hc hT⟩⟩⟩)))
        rw [nI_clamp (by omega)]; exact sw_Hu h i j
    · exact sw_xbh1 hb2 (br_f (by decide : ¬ (1 : Int32) = 0) (sw_ybt0 hn5 hi (br_t (rfl : (0 : Int32) = 0) (sw_ybh1 hb2 (br_f (by decide : ¬ (1 : Int32) = 0) ⟨rfl, sw_rel hn hn5 hh hc hT⟩)))))
  · exact sw_xbt1 hb (br_f (by decide : ¬ (1 : Int32) = 0) (sw_ybt1 hb (br_f (by decide : ¬ (1 : Int32) = 0) ⟨rfl, sw_rel hn hn5 hh hc hT⟩)))
theorem i_vc_height {k : Nat} {u : SX} {v : SY} (I : i_Rel k u v) (hk : k + 3 ≤ 1536) (v1 : Int32) : wpX_height (fun r => wpY_height (fun r' => r' = r ∧ i_Rel (k + 3) u v) v v1) u v1 := by
  obtain ⟨n, c, h, oX, w, aX, oY, m, f, rfl, rfl, hn, hn5, hh, hc, hT⟩ := I
  unfold wpX_height wpY_height
  dsimp only
  rcases sw_ix v1 n (by omega) with ⟨i, hi, rfl⟩ | hb
  · have hin : vp_in (nI i) 5 := vp_in_nI (by omega) (by decide)
    exact sw_xbt0 hn5 hi (br_t (rfl : (0 : Int32) = 0) ⟨hin, sw_ybt0 hn5 hi (br_t (rfl : (0 : Int32) = 0) ⟨hin, rfl, sw_rel hn hn5 hh hc hT⟩)⟩)
  · exact sw_xbt1 hb (br_f (by decide : ¬ (1 : Int32) = 0) (sw_ybt1 hb (br_f (by decide : ¬ (1 : Int32) = 0) ⟨rfl, sw_rel hn hn5 hh hc hT⟩)))
theorem i_vc_jugglable {k : Nat} {u : SX} {v : SY} (I : i_Rel k u v) (hk : k + 3 ≤ 1536) : wpX_jugglable (fun r => wpY_jugglable (fun r' => r' = r ∧ i_Rel (k + 3) u v) v) u := by
  obtain ⟨n, c, h, oX, w, aX, oY, m, f, rfl, rfl, hn, hn5, hh, hc, hT⟩ := I
  unfold wpX_jugglable
  dsimp only
  exact sw_xfits hn hn5 hh (sw_br (fun e => sw_yjug hn hn5 hh ⟨sw_b0 e, sw_rel hn hn5 hh hc hT⟩) (fun e => sw_yjug hn hn5 hh ⟨sw_b1 e, sw_rel hn hn5 hh hc hT⟩))
/-! swap -/
theorem sw_jj {n i : Nat} (hi : i < n) : (i + 1 < n → (i + 1) % n = i + 1) ∧ (n ≤ i + 1 → (i + 1) % n = 0) :=
  ⟨fun h => Nat.mod_eq_of_lt h, fun h => by rw [show i + 1 = n by omega]; exact Nat.mod_self n⟩
section
variable {n c : Nat} {h : Nat → Nat} {o w a m f : Nat → Int32}
theorem sw_xswap27 {post : Int32 → SX → Prop} (hn : 1 ≤ n) (hn5 : n ≤ 5) (hh : ∀ j, h j ≤ 7) {i j : Nat} (hi : i < n) (hj : j < n) (hN : (i = j ∨ h j = 7 ∨ h i = 0) → post (-4) (nI n, nI c, sw_H h, o, w, a)) (hY : i ≠ j → h j < 7 → 0 < h i → post (sw_b (sw_jg n (sw_s (sw_s h i (h j + 1)) j (h i - 1)))) (nI n, nI c, sw_H (sw_s (sw_s h i (h j + 1)) j (h i - 1)), o, w, a)) : wX_swap_27 post (nI i) (nI j) (nI n) (nI c) (sw_H h) o w a := by
  unfold wX_swap_27
  have hi5 : vp_in (nI i) 5 := vp_in_nI (by omega) (by decide)
  have hj5 : vp_in (nI j) 5 := vp_in_nI (by omega) (by decide)
  have hhi := hh i
  have hhj := hh j
  rw [sw_rd (h := h) (i := i) (by omega), sw_rd (h := h) (i := j) (by omega)]
  refine pk_eq i j (fun e => hN (Or.inl e)) (fun e => ⟨hj5, pk_eq (h j) 7 (fun e2 => hN (Or.inr (Or.inl e2))) (fun e2 => ⟨hi5, pk_eq (h i) 0 (fun e3 => hN (Or.inr (Or.inr e3))) (fun e3 => ⟨hi5, nm_e ⟨hj5, hi5, nm_r (e' := sw_H (sw_s h i (h j + 1))) ?_ ⟨hj5, nm_r (e' := sw_H (sw_s (sw_s h i (h j + 1)) j (h i - 1))) ?_ ?_⟩⟩⟩)⟩)⟩)
  · rw [nI_1, sw_nbc (by omega), nI_clamp (by omega)]; exact sw_Hu h i _
  · have e4 : nI (h i) - 1 = nI (h i - 1) := pk_sub (b := 1) (by omega)
    rw [e4, sw_nbc (by omega), nI_clamp (by omega)]; exact sw_Hu _ j _
  · have hY2 := hY e (by omega) (by omega)
    have h2 : ∀ q, sw_s (sw_s h i (h j + 1)) j (h i - 1) q ≤ 7 := sw_s7 (sw_s7 hh (by omega)) (by omega)
    refine sw_xfits hn hn5 h2 (sw_br (fun e => ?_) (fun e => ?_))
    · rw [sw_b0 e] at hY2; exact hY2
    · rw [sw_b1 e] at hY2; exact hY2
theorem sw_xswap {post : Int32 → SX → Prop} (hn : 1 ≤ n) (hn5 : n ≤ 5) (hh : ∀ j, h j ≤ 7) {i : Nat} (hi : i < n) (hN : (i = (i + 1) % n ∨ h ((i + 1) % n) = 7 ∨ h i = 0) → post (-4) (nI n, nI c, sw_H h, o, w, a)) (hY : i ≠ (i + 1) % n → h ((i + 1) % n) < 7 → 0 < h i → post (sw_b (sw_jg n (sw_s (sw_s h i (h ((i + 1) % n) + 1)) ((i + 1) % n) (h i - 1)))) (nI n, nI c, sw_H (sw_s (sw_s h i (h ((i + 1) % n) + 1)) ((i + 1) % n) (h i - 1)), o, w, a)) : wpX_swap post (nI n, nI c, sw_H h, o, w, a) (nI i) := by
  unfold wpX_swap
  dsimp only
  have j1 := sw_jj hi
  refine sw_xbt0 hn5 hi (br_t (rfl : (0 : Int32) = 0) ?_)
  rw [nI_1]
  refine pk_le n (i + 1) (fun e => ?_) (fun e => ?_)
  · rw [j1.2 e] at hN hY
    exact sw_xswap27 (j := 0) hn hn5 hh hi hn hN hY
  · rw [j1.1 e] at hN hY
    exact sw_xswap27 hn hn5 hh hi (by omega) hN hY
theorem sw_yswap {post : Int32 → SY → Prop} (hn : 1 ≤ n) (hn5 : n ≤ 5) (hh : ∀ j, h j ≤ 7) {i : Nat} (hi : i < n) (hN : (i = (i + 1) % n ∨ h ((i + 1) % n) = 7 ∨ h i = 0) → post (-4) (nI n, sw_H h, o, m, f)) (hY : i ≠ (i + 1) % n → h ((i + 1) % n) < 7 → 0 < h i → post (sw_b (sw_jg n (sw_s (sw_s h i (h ((i + 1) % n) + 1)) ((i + 1) % n) (h i - 1)))) (nI n, sw_H (sw_s (sw_s h i (h ((i + 1) % n) + 1)) ((i + 1) % n) (h i - 1)), o, m, f)) : wpY_swap post (nI n, sw_H h, o, m, f) (nI i) := by
  unfold wpY_swap
  dsimp only
  have j1 := sw_jj hi
  have jl : (i + 1) % n < n := Nat.mod_lt _ hn
  have er : (nI i + 1) - (nI i + 1) / nI n * nI n = nI ((i + 1) % n) := by
    rw [nI_1, pk_rem (by omega) (by omega) (by omega)]
  have hi5 : vp_in (nI i) 5 := vp_in_nI (by omega) (by decide)
  have en : i = (i + 1) % n ↔ n = 1 := by
    rcases Nat.lt_or_ge (i + 1) n with e | e
    · rw [j1.1 e]; omega
    · rw [j1.2 e]; omega
  generalize hj : (i + 1) % n = j at *
  have hj5 : vp_in (nI j) 5 := vp_in_nI (by omega) (by decide)
  have hhi := hh i
  have hhj := hh j
  refine sw_ybt0 hn5 hi (br_t (rfl : (0 : Int32) = 0) ⟨nI_ne0 (by omega) (by omega), nm_r er ⟨hj5, nm_r (e' := nI (h j + 1)) ?_ ⟨hi5, nm_e ?_⟩⟩⟩)
  · rw [sw_rd (by omega)]; exact nI_1 _
  · rw [sw_rd (by omega)]
    refine pk_eq n 1 (fun e => hN (Or.inl (en.mpr e))) (fun e => pk_lt 7 (h j + 1) (fun e2 => hN (Or.inr (Or.inl (by omega)))) (fun e2 => ?_))
    by_cases e3 : h i = 0
    · rw [e3]
      exact br_f (by decide) (hN (Or.inr (Or.inr e3)))
    · have e4 : nI (h i) - 1 = nI (h i - 1) := pk_sub (b := 1) (by omega)
      rw [e4]
      refine br_t (nI_pos' (by omega)) ⟨hi5, nm_r (e' := sw_H (sw_s h i (h j + 1))) ?_ ⟨hj5, nm_r (e' := sw_H (sw_s (sw_s h i (h j + 1)) j (h i - 1))) ?_ ?_⟩⟩
      · rw [nI_clamp (by omega)]; exact sw_Hu h i _
      · rw [nI_clamp (by omega)]; exact sw_Hu _ j _
      · exact sw_yjug hn hn5 (sw_s7 (sw_s7 hh (by omega)) (by omega)) (hY (fun z => e (en.mp z)) (by omega) (by omega))
end
theorem i_vc_swap {k : Nat} {u : SX} {v : SY} (I : i_Rel k u v) (hk : k + 3 ≤ 1536) (v1 : Int32) : wpX_swap (fun r u' => wpY_swap (fun r' v' => r' = r ∧ i_Rel (k + 3) u' v') v v1) u v1 := by
  obtain ⟨n, c, h, oX, w, aX, oY, m, f, rfl, rfl, hn, hn5, hh, hc, hT⟩ := I
  rcases sw_ix v1 n (by omega) with ⟨i, hi, rfl⟩ | hb
  · have hhi := hh i
    refine sw_xswap hn hn5 hh hi (fun e => ?_) (fun e e2 e3 => ?_)
    · exact sw_yswap hn hn5 hh hi (fun _ => ⟨rfl, sw_rel hn hn5 hh hc hT⟩) (fun d1 d2 d3 => by omega)
    · exact sw_yswap hn hn5 hh hi (fun d => by omega) (fun _ _ _ => ⟨rfl, sw_rel hn hn5 (sw_s7 (sw_s7 hh (by omega)) (by omega)) hc hT⟩)
  · unfold wpX_swap wpY_swap
    dsimp only
    exact sw_xbt1 hb (br_f (by decide : ¬ (1 : Int32) = 0) (sw_ybt1 hb (br_f (by decide : ¬ (1 : Int32) = 0) ⟨rfl, sw_rel hn hn5 hh hc hT⟩)))
end
section
/-! turn and mirror -/
def sw_tn (h : Nat → Nat) : Nat → Nat → Nat
  | 0 => h
  | i + 1 => sw_s (sw_tn h i) i (sw_tn h i (i + 1))
theorem sw_tn7 {h : Nat → Nat} (hh : ∀ j, h j ≤ 7) : ∀ i j, sw_tn h i j ≤ 7
  | 0 => hh
  | i + 1 => sw_s7 (sw_tn7 hh i) (sw_tn7 hh i (i + 1))
/-- the first i taken from g -/
def sw_cp (h g : Nat → Nat) (i : Nat) : Nat → Nat := fun j => if j < i then g j else h j
theorem sw_cp0 (h g : Nat → Nat) : sw_cp h g 0 = h := by
  funext j
  exact if_neg (Nat.not_lt_zero j)
theorem sw_cps (h g : Nat → Nat) (i : Nat) : sw_s (sw_cp h g i) i (g i) = sw_cp h g (i + 1) := by
  funext j
  unfold sw_s sw_cp
  by_cases e : j = i
  · subst e
    rw [if_pos rfl, if_pos (by omega)]
  · by_cases e2 : j < i
    · rw [if_neg e, if_pos e2, if_pos (by omega)]
    · rw [if_neg e, if_neg e2, if_neg (by omega)]
theorem sw_cp7 {h g : Nat → Nat} (hh : ∀ j, h j ≤ 7) {i : Nat} (hg : ∀ j, j < i → g j ≤ 7) : ∀ j, sw_cp h g i j ≤ 7 := by
  intro j
  unfold sw_cp
  by_cases e : j < i
  · rw [if_pos e]; exact hg j e
  · rw [if_neg e]; exact hh j
theorem sw_cpc {h g g' : Nat → Nat} {i : Nat} (e : ∀ j, j < i → g j = g' j) : sw_cp h g i = sw_cp h g' i := by
  funext j
  unfold sw_cp
  by_cases e2 : j < i
  · rw [if_pos e2, if_pos e2, e j e2]
  · rw [if_neg e2, if_neg e2]
/-- where the mirror puts throw i -/
def sw_mb (n : Nat) (h : Nat → Nat) (i : Nat) : Nat := (n - sw_ld n h i) % n
def sw_mv (n : Nat) (h : Nat → Nat) : Nat → Nat → Nat
  | 0 => fun _ => 0
  | i + 1 => sw_s (sw_mv n h i) (sw_mb n h i) (h i)
theorem sw_mv7 {n : Nat} {h : Nat → Nat} (hh : ∀ j, h j ≤ 7) : ∀ i j, sw_mv n h i j ≤ 7
  | 0, _ => Nat.zero_le 7
  | i + 1, j => sw_s7 (sw_mv7 hh i) (hh i) j
/-- other holds what the first i throws have put there -/
def sw_mo (n : Nat) (h : Nat → Nat) (i : Nat) (o : Nat → Int32) : Prop := ∀ q, (∃ j, j < i ∧ sw_mb n h j = q) → o q = nI (sw_mv n h i q)
theorem sw_mo0 (n : Nat) (h : Nat → Nat) (o : Nat → Int32) : sw_mo n h 0 o := by
  intro q ⟨j, hj, _⟩
  omega
theorem sw_mos {n : Nat} {h : Nat → Nat} {i : Nat} {o : Nat → Int32} (I : sw_mo n h i o) : sw_mo n h (i + 1) (upd o (sw_mb n h i) (nI (h i))) := by
  intro q ⟨j, hj, e⟩
  show upd o (sw_mb n h i) (nI (h i)) q = nI (sw_s (sw_mv n h i) (sw_mb n h i) (h i) q)
  by_cases c : q = sw_mb n h i
  · rw [c, pk_us, sw_ss]
  · rw [pk_un c, sw_sn c]
    refine I q ⟨j, ?_, e⟩
    by_cases d : j = i
    · subst d; exact absurd e.symm c
    · omega
theorem sw_mon {n : Nat} {h : Nat → Nat} (hn : 1 ≤ n) (hn5 : n ≤ 5) (hj : sw_jg n h = true) {o : Nat → Int32} (I : sw_mo n h n o) {q : Nat} (hq : q < n) : o q = nI (sw_mv n h n q) := by
  apply I
  obtain ⟨j, a, b⟩ := sw_surj hn5 hj (p := (n - q) % n) (Nat.mod_lt _ hn)
  refine ⟨j, a, ?_⟩
  unfold sw_mb
  rw [b]
  by_cases e : q = 0
  · subst e
    rw [Nat.sub_zero, Nat.mod_self, Nat.sub_zero, Nat.mod_self]
  · rw [Nat.mod_eq_of_lt (a := n - q) (by omega), show n - (n - q) = q by omega, Nat.mod_eq_of_lt hq]
section
variable {n c : Nat} {h : Nat → Nat} {o w a m f : Nat → Int32}
theorem sw_xturn9 {post : Int32 → SX → Prop} (hn : 1 ≤ n) (hn5 : n ≤ 5) (hh : ∀ j, h j ≤ 7) (hp : post (nI (h 0)) (nI n, nI c, sw_H (sw_s (sw_tn h (n - 1)) (n - 1) (h 0)), o, w, a)) : ∀ d i fu, i + 1 + d = n → d < fu → wX_turn_9 post (nI (h 0)) (nI n) (nI c) fu (nI (i + 1)) (sw_H (sw_tn h i)) o w a := by
  intro d
  induction d with
  | zero =>
    intro i fu e hf
    obtain ⟨g, rfl⟩ : ∃ g, fu = g + 1 := ⟨fu - 1, by omega⟩
    have e2 : n = i + 1 := by omega
    subst e2
    have h0 := hh 0
    refine br_t (nI_le (Nat.le_refl _) (by omega)) ?_
    rw [nI_pred]
    refine ⟨vp_in_nI (by omega) (by decide), nm_r (e' := sw_H (sw_s (sw_tn h i) i (h 0))) ?_ hp⟩
    rw [sw_nb (by omega), nI_clamp (by omega), sw_Hu]
  | succ d ih =>
    intro i fu e hf
    obtain ⟨g, rfl⟩ : ∃ g, fu = g + 1 := ⟨fu - 1, by omega⟩
    refine br_f (nI_ge (by omega) (by omega)) ⟨vp_in_nI (by omega) (by decide), ?_⟩
    rw [nI_pred]
    refine ⟨vp_in_nI (by omega) (by decide), nm_r (e' := sw_H (sw_tn h (i + 1))) ?_ (nm_r (nI_1 (i + 1)) (ih (i + 1) g (by omega) (by omega)))⟩
    have h7 := sw_tn7 hh i (i + 1)
    rw [sw_rd (by omega), sw_nb (by omega), nI_clamp (by omega), sw_Hu]
    rfl
theorem sw_yturn9 {post : Int32 → SY → Prop} (hn : 1 ≤ n) (hn5 : n ≤ 5) (hh : ∀ j, h j ≤ 7) (hp : post (nI (h 0)) (nI n, sw_H (sw_s (sw_tn h (n - 1)) (n - 1) (h 0)), o, m, f)) : ∀ d i fu, i + 1 + d = n → d < fu → wY_turn_9 post (nI (h 0)) (nI n) fu (nI i) (sw_H (sw_tn h i)) o m f := by
  intro d
  induction d with
  | zero =>
    intro i fu e hf
    obtain ⟨g, rfl⟩ : ∃ g, fu = g + 1 := ⟨fu - 1, by omega⟩
    have e2 : n = i + 1 := by omega
    subst e2
    show ((nI (i + 1) - 1) ≤ nI i → _) ∧ _
    rw [nI_pred]
    refine br_t (nI_le (Nat.le_refl _) (by omega)) ?_
    refine ⟨vp_in_nI (by omega) (by decide), nm_r (e' := sw_H (sw_s (sw_tn h i) i (h 0))) ?_ hp⟩
    rw [nI_clamp (by omega), sw_Hu]
  | succ d ih =>
    intro i fu e hf
    obtain ⟨g, rfl⟩ : ∃ g, fu = g + 1 := ⟨fu - 1, by omega⟩
    have en : nI n - 1 = nI (n - 1) := pk_sub (b := 1) hn
    have e1 : ¬ nI n - 1 ≤ nI i := by
      rw [en]
      exact nI_ge (by omega) (by omega)
    refine br_f e1 ?_
    rw [nI_1]
    refine ⟨vp_in_nI (by omega) (by decide), vp_in_nI (by omega) (by decide), nm_r (e' := sw_H (sw_tn h (i + 1))) ?_ (nm_e (ih (i + 1) g (by omega) (by omega)))⟩
    rw [sw_rd (by omega), nI_clamp (by omega), sw_Hu]
    rfl
theorem sw_xcp {post : Int32 → SX → Prop} (hn5 : n ≤ 5) {g : Nat → Nat} (hg : ∀ j, j < n → g j ≤ 7 ∧ o j = nI (g j)) (hp : post 0 (nI n, nI c, sw_H (sw_cp h g n), o, w, a)) : ∀ d i fu, i + d = n → d < fu → wX_mirror_65 post (nI n) (nI c) fu (nI i) (sw_H (sw_cp h g i)) o w a := by
  intro d
  induction d with
  | zero =>
    intro i fu e hf
    obtain ⟨q, rfl⟩ : ∃ q, fu = q + 1 := ⟨fu - 1, by omega⟩
    have e2 : i = n := by omega
    subst e2
    exact br_t (nI_le (Nat.le_refl _) (by omega)) hp
  | succ d ih =>
    intro i fu e hf
    obtain ⟨q, rfl⟩ : ∃ q, fu = q + 1 := ⟨fu - 1, by omega⟩
    have h7 := hg i (by omega)
    refine br_f (nI_ge (by omega) (by omega)) ⟨vp_in_nI (by omega) (by decide), vp_in_nI (by omega) (by decide), nm_r (e' := sw_H (sw_cp h g (i + 1))) ?_ (nm_r (nI_1 i) (ih (i + 1) q (by omega) (by omega)))⟩
    rw [nI_clamp (by omega), h7.2, sw_nb (by omega), sw_Hu, sw_cps]
theorem sw_ycp {post : Int32 → SY → Prop} (hn5 : n ≤ 5) {g : Nat → Nat} (hg : ∀ j, j < n → o j = nI (g j)) (hp : post 0 (nI n, sw_H (sw_cp h g n), o, m, f)) : ∀ d i fu, i + d = n → d < fu → wY_mirror_64 post (nI n) fu (nI i) (sw_H (sw_cp h g i)) o m f := by
  intro d
  induction d with
  | zero =>
    intro i fu e hf
    obtain ⟨q, rfl⟩ : ∃ q, fu = q + 1 := ⟨fu - 1, by omega⟩
    have e2 : i = n := by omega
    subst e2
    exact br_t (nI_le (Nat.le_refl _) (by omega)) hp
  | succ d ih =>
    intro i fu e hf
    obtain ⟨q, rfl⟩ : ∃ q, fu = q + 1 := ⟨fu - 1, by omega⟩
    have h7 := hg i (by omega)
    refine br_f (nI_ge (by omega) (by omega)) ⟨vp_in_nI (by omega) (by decide), vp_in_nI (by omega) (by decide), nm_r (e' := sw_H (sw_cp h g (i + 1))) ?_ (nm_r (nI_1 i) (ih (i + 1) q (by omega) (by omega)))⟩
    rw [nI_clamp (by omega), h7, sw_Hu, sw_cps]
theorem sw_ycp2 {post : Int32 → SY → Prop} (hn5 : n ≤ 5) {g : Nat → Nat} (hg : ∀ j, j < n → o j = nI (g j)) (hp : post 0 (nI n, sw_H (sw_cp h g n), o, m, f)) : ∀ d i fu, i + d = n → d < fu → wY_load_49 post (nI n) fu (nI i) (sw_H (sw_cp h g i)) o m f := by
  intro d
  induction d with
  | zero =>
    intro i fu e hf
    obtain ⟨q, rfl⟩ : ∃ q, fu = q + 1 := ⟨fu - 1, by omega⟩
    have e2 : i = n := by omega
    subst e2
    exact br_t (nI_le (Nat.le_refl _) (by omega)) hp
  | succ d ih =>
    intro i fu e hf
    obtain ⟨q, rfl⟩ : ∃ q, fu = q + 1 := ⟨fu - 1, by omega⟩
    have h7 := hg i (by omega)
    refine br_f (nI_ge (by omega) (by omega)) ⟨vp_in_nI (by omega) (by decide), vp_in_nI (by omega) (by decide), nm_r (e' := sw_H (sw_cp h g (i + 1))) ?_ (nm_r (nI_1 i) (ih (i + 1) q (by omega) (by omega)))⟩
    rw [nI_clamp (by omega), h7, sw_Hu, sw_cps]
theorem sw_xmir14 {post : Int32 → SX → Prop} (hn : 1 ≤ n) (hn5 : n ≤ 5) (hh : ∀ j, h j ≤ 7) (hj : sw_jg n h = true) (hp : ∀ o', post 0 (nI n, nI c, sw_H (sw_cp h (sw_mv n h n) n), o', w, a)) : ∀ d i fu o, i + d = n → d < fu → sw_mo n h i o → wX_mirror_14 post (nI n) (nI c) fu (nI i) (sw_H h) o w a := by
  intro d
  induction d with
  | zero =>
    intro i fu o e hf I
    obtain ⟨q, rfl⟩ : ∃ q, fu = q + 1 := ⟨fu - 1, by omega⟩
    have e2 : i = n := by omega
    subst e2
    refine br_t (nI_le (Nat.le_refl _) (by omega)) ⟨i + 1, ?_⟩
    have k := sw_xcp (c := c) (h := h) (o := o) (w := w) (a := a) (post := post) hn5 (g := sw_mv i h i) (fun j hj2 => ⟨sw_mv7 hh i j, sw_mon hn hn5 hj I hj2⟩) (hp o) i 0 (i + 1) (by omega) (by omega)
    rw [sw_cp0] at k
    exact k
  | succ d ih =>
    intro i fu o e hf I
    obtain ⟨q, rfl⟩ : ∃ q, fu = q + 1 := ⟨fu - 1, by omega⟩
    have h7 := hh i
    have l := sw_ld_lt hn h i
    have fin : ∀ z : Nat, z = sw_mb n h i → wX_mirror_42 post (wX_mirror_14 post (nI n) (nI c) q) (nI i) (nI z) (nI n) (nI c) (sw_H h) o w a := by
      intro z ez
      have hz : z < n := by rw [ez]; exact Nat.mod_lt _ hn
      refine ⟨vp_in_nI (by omega) (by decide), vp_in_nI (by omega) (by decide), nm_r (e' := upd o (sw_mb n h i) (nI (h i))) ?_ (nm_r (nI_1 i) (ih (i + 1) q _ (by omega) (by omega) (sw_mos I)))⟩
      rw [sw_rd (by omega), sw_nb (by omega), nI_clamp (by omega), ez]
    refine br_f (nI_ge (by omega) (by omega)) (sw_xland hn hn5 hh (by omega) (pk_eq (sw_ld n h i) 0 (fun e0 => ?_) (fun e0 => ?_)))
    · exact fin 0 (by unfold sw_mb; rw [e0, Nat.sub_zero, Nat.mod_self])
    · rw [pk_sub (by omega)]
      exact fin _ (by unfold sw_mb; rw [Nat.mod_eq_of_lt (by omega)])
theorem sw_ymir12 {post : Int32 → SY → Prop} (hn : 1 ≤ n) (hn5 : n ≤ 5) (hh : ∀ j, h j ≤ 7) (hj : sw_jg n h = true) (hp : ∀ o', post 0 (nI n, sw_H (sw_cp h (sw_mv n h n) n), o', m, f)) : ∀ d i fu o, i + d = n → d < fu → sw_mo n h i o → wY_mirror_12 post (nI n) fu (nI i) (sw_H h) o m f := by
  intro d
  induction d with
  | zero =>
    intro i fu o e hf I
    obtain ⟨q, rfl⟩ : ∃ q, fu = q + 1 := ⟨fu - 1, by omega⟩
    have e2 : i = n := by omega
    subst e2
    refine br_t (nI_le (Nat.le_refl _) (by omega)) ⟨i + 1, ?_⟩
    have k := sw_ycp (h := h) (o := o) (m := m) (f := f) (post := post) hn5 (g := sw_mv i h i) (fun j hj2 => sw_mon hn hn5 hj I hj2) (hp o) i 0 (i + 1) (by omega) (by omega)
    rw [sw_cp0] at k
    exact k
  | succ d ih =>
    intro i fu o e hf I
    obtain ⟨q, rfl⟩ : ∃ q, fu = q + 1 := ⟨fu - 1, by omega⟩
    have h7 := hh i
    have l := sw_ld_lt hn h i
    have hz : sw_mb n h i < n := Nat.mod_lt _ hn
    have e1 : (nI i + sw_H h (nI i).toNatClampNeg) - (nI i + sw_H h (nI i).toNatClampNeg) / nI n * nI n = nI (sw_ld n h i) := by
      rw [sw_rd (by omega), nI_add, pk_rem (by omega) (by omega) (by omega)]
      rfl
    have e2 : (nI n - nI (sw_ld n h i)) - (nI n - nI (sw_ld n h i)) / nI n * nI n = nI (sw_mb n h i) := by
      rw [pk_sub (by omega), pk_rem (by omega) (by omega) (by omega)]
      rfl
    have ne := nI_ne0 (n := n) (by omega) (by omega)
    refine br_f (nI_ge (by omega) (by omega)) ⟨vp_in_nI (by omega) (by decide), ne, nm_r e1 ⟨ne, vp_in_nI (by omega) (by decide), ?_⟩⟩
    rw [e2]
    refine ⟨vp_in_nI (by omega) (by decide), nm_r (e' := upd o (sw_mb n h i) (nI (h i))) ?_ (nm_r (nI_1 i) (ih (i + 1) q _ (by omega) (by omega) (sw_mos I)))⟩
    rw [sw_rd (by omega), nI_clamp (by omega)]
end
theorem i_vc_turn {k : Nat} {u : SX} {v : SY} (I : i_Rel k u v) (hk : k + 3 ≤ 1536) : wpX_turn (fun r u' => wpY_turn (fun r' v' => r' = r ∧ i_Rel (k + 3) u' v') v) u := by
  obtain ⟨n, c, h, oX, w, aX, oY, m, f, rfl, rfl, hn, hn5, hh, hc, hT⟩ := I
  unfold wpX_turn wpY_turn
  dsimp only
  refine nm_e ⟨n, sw_xturn9 hn hn5 hh ?_ (n - 1) 0 n (by omega) (by omega)⟩
  refine nm_e ⟨n, sw_yturn9 hn hn5 hh ?_ (n - 1) 0 n (by omega) (by omega)⟩
  exact ⟨rfl, sw_rel hn hn5 (sw_s7 (sw_tn7 hh _) (hh 0)) hc hT⟩
theorem i_vc_mirror {k : Nat} {u : SX} {v : SY} (I : i_Rel k u v) (hk : k + 3 ≤ 1536) : wpX_mirror (fun r u' => wpY_mirror (fun r' v' => r' = r ∧ i_Rel (k + 3) u' v') v) u := by
  obtain ⟨n, c, h, oX, w, aX, oY, m, f, rfl, rfl, hn, hn5, hh, hc, hT⟩ := I
  unfold wpX_mirror wpY_mirror
  dsimp only
  refine sw_xfits hn hn5 hh (sw_br (fun e => ?_) (fun e => ?_))
  · refine sw_yfits hn hn5 hh ?_
    rw [sw_b0 e]
    exact br_t rfl ⟨rfl, sw_rel hn hn5 hh hc hT⟩
  · refine ⟨n + 1, sw_xmir14 hn hn5 hh e (fun o' => ?_) n 0 (n + 1) _ (by omega) (by omega) (sw_mo0 _ _ _)⟩
    refine sw_yfits hn hn5 hh ?_
    rw [sw_b1 e]
    refine br_f (by decide) ⟨n + 1, sw_ymir12 hn hn5 hh e (fun o2 => ?_) n 0 (n + 1) _ (by omega) (by omega) (sw_mo0 _ _ _)⟩
    exact ⟨rfl, sw_rel hn hn5 (sw_cp7 hh (fun j _ => sw_mv7 hh n j)) hc hT⟩
end
section
/-! states, balls, prime -/
/-- the state before beat T - 1020, by the last b beats -/
def sw_sb (n : Nat) (h : Nat → Nat) (T : Nat) : Nat → Nat
  | 0 => 0
  | b + 1 => if b + 1 ≤ h ((T - (b + 1)) % n) then sw_sb n h T b ||| 2 ^ (h ((T - (b + 1)) % n) - (b + 1)) else sw_sb n h T b
def sw_st (n : Nat) (h : Nat → Nat) (T : Nat) : Nat := sw_sb n h T 7
theorem sw_sb_lt {n : Nat} {h : Nat → Nat} (hh : ∀ j, h j ≤ 7) (T : Nat) : ∀ b, sw_sb n h T b < 2 ^ 7
  | 0 => by show 0 < 2 ^ 7; decide
  | b + 1 => by
    have ih := sw_sb_lt hh T (n := n) b
    have h7 := hh ((T - (b + 1)) % n)
    unfold sw_sb
    by_cases e : b + 1 ≤ h ((T - (b + 1)) % n)
    · rw [if_pos e]
      exact sw_lt_or ih (by omega)
    · rw [if_neg e]
      exact ih
theorem sw_sb_yes {n : Nat} {h : Nat → Nat} {T b p : Nat} (ep : (T - (b + 1)) % n = p) (e : b + 1 ≤ h p) : sw_sb n h T (b + 1) = sw_sb n h T b ||| 2 ^ (h p - (b + 1)) := by
  subst ep
  exact if_pos e
theorem sw_sb_no {n : Nat} {h : Nat → Nat} {T b p : Nat} (ep : (T - (b + 1)) % n = p) (e : ¬ b + 1 ≤ h p) : sw_sb n h T (b + 1) = sw_sb n h T b := by
  subst ep
  exact if_neg e
theorem sw_sb_c {n : Nat} (hn : 1 ≤ n) {h g : Nat → Nat} (e : ∀ j, j < n → h j = g j) (T : Nat) : ∀ b, sw_sb n h T b = sw_sb n g T b
  | 0 => rfl
  | b + 1 => by
    unfold sw_sb
    rw [sw_sb_c hn e T b, e _ (Nat.mod_lt _ hn)]
theorem sw_tm (m y : Int) (hm : m = 1 ∨ m = 2 ∨ m = 3 ∨ m = 4 ∨ m = 5) : (y - 1020).tmod m = y % m ∨ (y - 1020).tmod m = y % m - m := by
  by_cases c : 0 ≤ y - 1020
  · rw [Int.tmod_eq_emod_of_nonneg c]
    rcases hm with rfl | rfl | rfl | rfl | rfl <;> omega
  · have e : y - 1020 = -(1020 - y) := by omega
    rw [e, Int.neg_tmod, Int.tmod_eq_emod_of_nonneg (by omega)]
    rcases hm with rfl | rfl | rfl | rfl | rfl <;> omega
theorem sw_rem {n y : Nat} (hn : 1 ≤ n) (hn5 : n ≤ 5) (hy : y ≤ 2020) : (nI y - nI 1020) - (nI y - nI 1020) / nI n * nI n = nI (y % n) ∨ (nI y - nI 1020) - (nI y - nI 1020) / nI n * nI n = nI (y % n) - nI n := by
  have l : y % n < n := Nat.mod_lt _ hn
  have ec : ((y % n : Nat) : Int) = (y : Int) % (n : Int) := by first | rfl | exact Int.natCast_emod _ _
  rcases sw_tm (n : Int) (y : Int) (by omega) with e | e
  · refine Or.inl (Int32.toInt_inj.mp ?_)
    rw [rem_toInt, pk_sub_toInt (by omega) (by omega), nI_toInt (by omega), nI_toInt (by omega), ec]
    exact e
  · refine Or.inr (Int32.toInt_inj.mp ?_)
    rw [rem_toInt, pk_sub_toInt (by omega) (by omega), nI_toInt (by omega), pk_sub_toInt (by omega) (by omega), ec]
    exact e
theorem sw_back {T b : Nat} (h : b ≤ T) : nI T - nI 1020 - nI b = nI (T - b) - nI 1020 := by
  rw [← pk_sub h]
  generalize nI T = x
  generalize nI b = y
  generalize nI 1020 = z
  grind
section
variable {n c : Nat} {h : Nat → Nat} {o w a m f : Nat → Int32}
theorem sw_xplace {post : Int32 → Prop} (hn : 1 ≤ n) (hn5 : n ≤ 5) {y : Nat} (hy : y ≤ 2020) (hp : post (nI (y % n))) : wpX_placeOf post (nI n, nI c, sw_H h, o, w, a) (nI y - nI 1020) := by
  unfold wpX_placeOf
  dsimp only
  refine br_f (nI_nle (by omega) (by omega)) ⟨nI_ne0 (by omega) (by omega), ?_⟩
  have l : y % n < n := Nat.mod_lt _ hn
  rcases sw_rem hn hn5 hy with e | e
  · exact nm_r e (br_t (nI_pos' (by omega)) hp)
  · refine nm_r e (br_f (Int32.not_le.mpr (pk_sneg (by omega) l)) ?_)
    rw [Int32.sub_add_cancel]
    exact hp
theorem sw_xst4 {post : Int32 → Prop} (hn : 1 ≤ n) (hn5 : n ≤ 5) (hh : ∀ j, h j ≤ 7) {T : Nat} (hT : 7 ≤ T) (hT2 : T ≤ 2020) (hp : post (nI (sw_st n h T))) : ∀ d b fu, b + d = 7 → d < fu → wX_stateOf_4 post (nI T - nI 1020) (nI n) (nI c) (sw_H h) o w a fu (nI (sw_sb n h T b)) (nI (b + 1)) := by
  intro d
  induction d with
  | zero =>
    intro b fu e hf
    obtain ⟨g, rfl⟩ : ∃ g, fu = g + 1 := ⟨fu - 1, by omega⟩
    have e2 : b = 7 := by omega
    subst e2
    exact br_t (by decide) hp
  | succ d ih =>
    intro b fu e hf
    obtain ⟨g, rfl⟩ : ∃ g, fu = g + 1 := ⟨fu - 1, by omega⟩
    refine br_f (nI_nlt (a := 7) (by omega) (by decide)) ?_
    rw [sw_back (by omega)]
    have l : (T - (b + 1)) % n < n := Nat.mod_lt _ hn
    have h7 := hh ((T - (b + 1)) % n)
    refine sw_xplace hn hn5 (by omega) ⟨vp_in_nI (by omega) (by decide), nm_e ?_⟩
    rw [sw_rd (by omega)]
    have nx := ih (b + 1) g (by omega) (by omega)
    by_cases q : b + 1 ≤ h ((T - (b + 1)) % n)
    · rw [sw_sb_yes rfl q] at nx
      rw [pk_sub q]
      exact br_f (nI_pos (by omega)) (nm_r (sw_orp (by omega)) (nm_r (nI_1 (b + 1)) nx))
    · rw [sw_sb_no rfl q] at nx
      exact br_t (pk_sneg (by omega) (by omega)) (nm_r (nI_1 (b + 1)) nx)
theorem sw_xst {post : Int32 → Prop} (hn : 1 ≤ n) (hn5 : n ≤ 5) (hh : ∀ j, h j ≤ 7) {T : Nat} (hT : 7 ≤ T) (hT2 : T ≤ 2020) (hp : post (nI (sw_st n h T))) : wpX_stateOf post (nI n, nI c, sw_H h, o, w, a) (nI T - nI 1020) :=
  ⟨8, sw_xst4 hn hn5 hh hT hT2 hp 7 0 8 (by omega) (by omega)⟩
theorem sw_xsti {post : Int32 → Prop} (hn : 1 ≤ n) (hn5 : n ≤ 5) (hh : ∀ j, h j ≤ 7) {i : Nat} (hi : i ≤ 5) (hp : post (nI (sw_st n h (i + 1020)))) : wpX_stateOf post (nI n, nI c, sw_H h, o, w, a) (nI i) := by
  have k := sw_xst (c := c) (o := o) (w := w) (a := a) hn hn5 hh (T := i + 1020) (by omega) (by omega) hp
  rw [pk_sub (by omega), Nat.add_sub_cancel] at k
  exact k
theorem sw_yst4 {post : Int32 → Prop} (hn : 1 ≤ n) (hn5 : n ≤ 5) (hh : ∀ j, h j ≤ 7) {T : Nat} (hT : 7 ≤ T) (hT2 : T ≤ 2020) (hp : post (nI (sw_st n h T))) : ∀ d b fu, b + d = 7 → d < fu → wY_stateBefore_4 post (nI T - nI 1020) (nI n) (sw_H h) o m f fu (nI (sw_sb n h T b)) (nI (b + 1)) := by
  intro d
  induction d with
  | zero =>
    intro b fu e hf
    obtain ⟨g, rfl⟩ : ∃ g, fu = g + 1 := ⟨fu - 1, by omega⟩
    have e2 : b = 7 := by omega
    subst e2
    exact br_t (by decide) hp
  | succ d ih =>
    intro b fu e hf
    obtain ⟨g, rfl⟩ : ∃ g, fu = g + 1 := ⟨fu - 1, by omega⟩
    have l : (T - (b + 1)) % n < n := Nat.mod_lt _ hn
    have h7 := hh ((T - (b + 1)) % n)
    have ne := nI_ne0 (n := n) (by omega) (by omega)
    have ev : ∀ x : Int32, x = nI (T - (b + 1)) - nI 1020 → ((x - x / nI n * nI n) + nI n) - ((x - x / nI n * nI n) + nI n) / nI n * nI n = nI ((T - (b + 1)) % n) := by
      intro x ex
      subst ex
      rcases sw_rem hn hn5 (y := T - (b + 1)) (by omega) with e | e
      · rw [e, nI_add, pk_rem (by omega) (by omega) (by omega), Nat.add_mod_right, Nat.mod_mod]
      · rw [e, Int32.sub_add_cancel, pk_rem (by omega) (by omega) (by omega), Nat.mod_mod]
    refine br_f (nI_nlt (a := 7) (by omega) (by decide)) (nm_r (sw_back (by omega)) ⟨ne, ne, nm_r (ev _ rfl) ⟨vp_in_nI (by omega) (by decide), nm_e ⟨vp_in_nI (by omega) (by decide), ?_⟩⟩⟩)
    rw [sw_rd (by omega)]
    have nx := ih (b + 1) g (by omega) (by omega)
    by_cases q : b + 1 ≤ h ((T - (b + 1)) % n)
    · rw [sw_sb_yes rfl q] at nx
      rw [pk_sub q]
      exact br_f (nI_nle (by omega) (by omega)) (br_f (nI_pos (by omega)) (nm_r (sw_orp (by omega)) (nm_r (nI_1 (b + 1)) nx)))
    · rw [sw_sb_no rfl q] at nx
      exact br_c (fun _ => nm_r (nI_1 (b + 1)) nx) (fun _ => br_t (pk_sneg (by omega) (by omega)) (nm_r (nI_1 (b + 1)) nx))
theorem sw_yst {post : Int32 → Prop} (hn : 1 ≤ n) (hn5 : n ≤ 5) (hh : ∀ j, h j ≤ 7) {T : Nat} (hT : 7 ≤ T) (hT2 : T ≤ 2020) (hp : post (nI (sw_st n h T))) : wpY_stateBefore post (nI n, sw_H h, o, m, f) (nI T - nI 1020) :=
  ⟨8, sw_yst4 hn hn5 hh hT hT2 hp 7 0 8 (by omega) (by omega)⟩
theorem sw_ysti {post : Int32 → Prop} (hn : 1 ≤ n) (hn5 : n ≤ 5) (hh : ∀ j, h j ≤ 7) {i : Nat} (hi : i ≤ 5) (hp : post (nI (sw_st n h (i + 1020)))) : wpY_stateBefore post (nI n, sw_H h, o, m, f) (nI i) := by
  have k := sw_yst (o := o) (m := m) (f := f) hn hn5 hh (T := i + 1020) (by omega) (by omega) hp
  rw [pk_sub (by omega), Nat.add_sub_cancel] at k
  exact k
end
theorem i_vc_state {k : Nat} {u : SX} {v : SY} (I : i_Rel k u v) (hk : k + 3 ≤ 1536) (v1 : Int32) : wpX_state (fun r => wpY_state (fun r' => r' = r ∧ i_Rel (k + 3) u v) v v1) u v1 := by
  obtain ⟨n, c, h, oX, w, aX, oY, m, f, rfl, rfl, hn, hn5, hh, hc, hT⟩ := I
  unfold wpX_state wpY_state
  dsimp only
  have R := sw_rel (k := k + 3) (oX := oX) (aX := aX) (oY := oY) (m := m) (f := f) hn hn5 hh hc hT
  by_cases c1 : v1 < -1000
  · exact br_t c1 (br_t c1 ⟨rfl, R⟩)
  · by_cases c2 : v1 ≤ 1000
    · have e1 : (-1000 : Int32).toInt = -1000 := by decide
      have e2 : (1000 : Int32).toInt = 1000 := by decide
      rw [Int32.lt_iff_toInt_lt, e1] at c1
      rw [Int32.le_iff_toInt_le, e2] at c2
      obtain ⟨T, a1, a2, rfl⟩ : ∃ T : Nat, 20 ≤ T ∧ T ≤ 2020 ∧ v1 = nI T - nI 1020 := by
        refine ⟨(v1.toInt + 1020).toNat, by omega, by omega, Int32.toInt_inj.mp ?_⟩
        rw [pk_sub_toInt (by omega) (by omega)]
        omega
      have c1' : ¬ nI T - nI 1020 < -1000 := by rw [Int32.lt_iff_toInt_lt, e1]; exact c1
      have c2' : nI T - nI 1020 ≤ 1000 := by rw [Int32.le_iff_toInt_le, e2]; exact c2
      refine br_f c1' (br_t c2' (sw_xfits hn hn5 hh (sw_br (fun e => ?_) (fun e => ?_))))
      · refine br_f c1' (br_t c2' (sw_yfits hn hn5 hh ?_))
        rw [sw_b0 e]
        exact br_t rfl ⟨rfl, R⟩
      · refine sw_xst hn hn5 hh (by omega) a2 (br_f c1' (br_t c2' (sw_yfits hn hn5 hh ?_)))
        rw [sw_b1 e]
        exact br_f (by decide) (sw_yst hn hn5 hh (by omega) a2 ⟨rfl, R⟩)
    · exact br_f c1 (br_f c2 (br_f c1 (br_f c2 ⟨rfl, R⟩)))
/-! prime -/
def sw_two (n : Nat) (h : Nat → Nat) : Prop := ∃ i j, i < j ∧ j < n ∧ sw_st n h (i + 1020) = sw_st n h (j + 1020)
def sw_xp (n : Nat) (h : Nat → Nat) : Nat → Bool
  | 0 => true
  | k + 1 => sw_xp n h k && !(decide (k / n < k % n) && decide (sw_st n h (k / n + 1020) = sw_st n h (k % n + 1020)))
theorem sw_xp_t {n : Nat} {h : Nat → Nat} : ∀ K, sw_xp n h K = true → ∀ k, k < K → k / n < k % n → ¬ sw_st n h (k / n + 1020) = sw_st n h (k % n + 1020)
  | 0, _, k, hk, _ => absurd hk (Nat.not_lt_zero k)
  | K + 1, e, k, hk, lt => by
    have e2 : (sw_xp n h K && !(decide (K / n < K % n) && decide (sw_st n h (K / n + 1020) = sw_st n h (K % n + 1020)))) = true := e
    rw [Bool.and_eq_true] at e2
    by_cases q : k = K
    · subst q
      intro z
      rw [decide_eq_true lt, decide_eq_true z] at e2
      exact absurd e2.2 (by decide)
    · exact sw_xp_t K e2.1 k (by omega) lt
theorem sw_xp_f {n : Nat} {h : Nat → Nat} (hn : 1 ≤ n) : ∀ K, K ≤ n * n → sw_xp n h K = false → sw_two n h
  | 0, _, e => absurd (show true = false from e) (by decide)
  | K + 1, hK, e => by
    have e2 : (sw_xp n h K && !(decide (K / n < K % n) && decide (sw_st n h (K / n + 1020) = sw_st n h (K % n + 1020)))) = false := e
    cases q : sw_xp n h K with
    | false => exact sw_xp_f hn K (by omega) q
    | true =>
      rw [q, Bool.true_and, Bool.not_eq_false', Bool.and_eq_true] at e2
      exact ⟨K / n, K % n, of_decide_eq_true e2.1, Nat.mod_lt _ hn, of_decide_eq_true e2.2⟩
theorem sw_xp_n {n : Nat} {h : Nat → Nat} (e : sw_xp n h (n * n) = true) : ¬ sw_two n h := by
  intro ⟨i, j, a, b, z⟩
  have e1 : (i * n + j) / n = i := by
    rw [Nat.mul_comm, Nat.mul_add_div (by omega), Nat.div_eq_of_lt b, Nat.add_zero]
  have e2 : (i * n + j) % n = j := by
    rw [Nat.mul_comm, Nat.mul_add_mod, Nat.mod_eq_of_lt b]
  have l : i * n + j < n * n := by
    have k : (i + 1) * n ≤ n * n := Nat.mul_le_mul_right n (by omega)
    rw [Nat.add_mul, Nat.one_mul] at k
    omega
  have t := sw_xp_t (n * n) e (i * n + j) l
  rw [e1, e2] at t
  exact t a z
section
variable {n c : Nat} {h : Nat → Nat} {o w a m f : Nat → Int32}
theorem sw_xprime {post : Int32 → Prop} (hn : 1 ≤ n) (hn5 : n ≤ 5) (hh : ∀ j, h j ≤ 7) (hp : post (sw_b (sw_xp n h (n * n)))) : ∀ d k fu, k + d = n * n → d < fu → wX_prime_16 post (nI n) (nI c) (sw_H h) o w a fu (sw_b (sw_xp n h k)) (nI k) := by
  have n25 : n * n ≤ 25 := Nat.mul_le_mul hn5 hn5
  intro d
  induction d with
  | zero =>
    intro k fu e hf
    obtain ⟨g, rfl⟩ : ∃ g, fu = g + 1 := ⟨fu - 1, by omega⟩
    have e2 : k = n * n := by omega
    subst e2
    show (nI n * nI n ≤ nI (n * n) → _) ∧ _
    rw [pk_mul]
    refine br_t (nI_le (Nat.le_refl _) (by omega)) (sw_br (fun e => ?_) (fun e => ?_))
    · rw [sw_b0 e] at hp; exact hp
    · rw [sw_b1 e] at hp; exact hp
  | succ d ih =>
    intro k fu e hf
    obtain ⟨g, rfl⟩ : ∃ g, fu = g + 1 := ⟨fu - 1, by omega⟩
    have ne := nI_ne0 (n := n) (by omega) (by omega)
    have el : ¬ nI n * nI n ≤ nI k := by
      rw [pk_mul]
      exact nI_ge (by omega) (by omega)
    have kd : k / n < n := (Nat.div_lt_iff_lt_mul (by omega)).mpr (by omega)
    have km : k % n < n := Nat.mod_lt _ hn
    have nx := ih (k + 1) g (by omega) (by omega)
    have ex : sw_xp n h (k + 1) = (sw_xp n h k && !(decide (k / n < k % n) && decide (sw_st n h (k / n + 1020) = sw_st n h (k % n + 1020)))) := rfl
    rw [ex] at nx
    refine br_f el ⟨ne, nm_r (pk_div (by omega) (by omega) (by omega)) ⟨ne, nm_r (pk_rem (by omega) (by omega) (by omega)) (pk_le (k % n) (k / n) (fun q => ?_) (fun q => ?_))⟩⟩
    · rw [decide_eq_false (p := k / n < k % n) (by omega), Bool.false_and, Bool.not_false, Bool.and_true] at nx
      exact nm_r (nI_1 k) nx
    · rw [decide_eq_true q, Bool.true_and] at nx
      have s1 : sw_st n h (k / n + 1020) < 2 ^ 7 := sw_sb_lt hh _ 7
      have s2 : sw_st n h (k % n + 1020) < 2 ^ 7 := sw_sb_lt hh _ 7
      refine sw_xsti hn hn5 hh (by omega) (sw_xsti hn hn5 hh (by omega) (sw_br (fun z => ?_) (fun z => ?_)))
      · rw [z, Bool.false_and] at nx
        exact nm_r (nI_1 k) nx
      · rw [z, Bool.true_and] at nx
        refine pk_eq _ _ (fun y => ?_) (fun y => ?_) rfl rfl (by omega) (by omega)
        · rw [decide_eq_true y] at nx
          exact nm_r (nI_1 k) nx
        · rw [decide_eq_false y] at nx
          exact nm_r (nI_1 k) nx
theorem sw_yprime22 {post : Int32 → Prop} {J : Int32 → Prop} (hn : 1 ≤ n) (hn5 : n ≤ 5) (hh : ∀ j, h j ≤ 7) (h0 : sw_two n h → post 0) {t : Nat} (ht : t < n) (hJ : (∀ i, i < t → ¬ sw_st n h (i + 1020) = sw_st n h (t + 1020)) → J (nI (t + 1))) : ∀ d i fu, i + d = t → d < fu → (∀ j, j < i → ¬ sw_st n h (j + 1020) = sw_st n h (t + 1020)) → wY_prime_22 post J (nI t) (nI n) (sw_H h) o m f fu (nI i) := by
  intro d
  induction d with
  | zero =>
    intro i fu e hf N
    obtain ⟨g, rfl⟩ : ∃ g, fu = g + 1 := ⟨fu - 1, by omega⟩
    have e2 : i = t := by omega
    subst e2
    exact br_t (nI_le (Nat.le_refl _) (by omega)) (nm_r (nI_1 i) (hJ N))
  | succ d ih =>
    intro i fu e hf N
    obtain ⟨g, rfl⟩ : ∃ g, fu = g + 1 := ⟨fu - 1, by omega⟩
    have s1 : sw_st n h (i + 1020) < 2 ^ 7 := sw_sb_lt hh _ 7
    have s2 : sw_st n h (t + 1020) < 2 ^ 7 := sw_sb_lt hh _ 7
    refine br_f (nI_ge (by omega) (by omega)) (sw_ysti hn hn5 hh (by omega) (sw_ysti hn hn5 hh (by omega) (pk_eq _ _ (fun y => ?_) (fun y => ?_) rfl rfl (by omega) (by omega))))
    · exact h0 ⟨i, t, by omega, ht, y.symm⟩
    · refine nm_r (nI_1 i) (ih (i + 1) g (by omega) (by omega) (fun j hj => ?_))
      by_cases q : j = i
      · subst q; exact fun z => y z.symm
      · exact N j (by omega)
theorem sw_yprime12 {post : Int32 → Prop} (hn : 1 ≤ n) (hn5 : n ≤ 5) (hh : ∀ j, h j ≤ 7) (h0 : sw_two n h → post 0) (h1 : ¬ sw_two n h → post 1) : ∀ d t fu, t + d = n → d < fu → (∀ i j, i < j → j < t → ¬ sw_st n h (i + 1020) = sw_st n h (j + 1020)) → wY_prime_12 post (nI n) (sw_H h) o m f fu (nI t) := by
  intro d
  induction d with
  | zero =>
    intro t fu e hf N
    obtain ⟨g, rfl⟩ : ∃ g, fu = g + 1 := ⟨fu - 1, by omega⟩
    have e2 : t = n := by omega
    subst e2
    exact br_t (nI_le (Nat.le_refl _) (by omega)) (h1 (fun ⟨i, j, a, b, z⟩ => N i j a b z))
  | succ d ih =>
    intro t fu e hf N
    obtain ⟨g, rfl⟩ : ∃ g, fu = g + 1 := ⟨fu - 1, by omega⟩
    refine br_f (nI_ge (by omega) (by omega)) ⟨t + 1, sw_yprime22 hn hn5 hh h0 (by omega) (fun M => ?_) t 0 (t + 1) (by omega) (by omega) (fun j hj => absurd hj (Nat.not_lt_zero j))⟩
    refine ih (t + 1) g (by omega) (by omega) (fun i j a b => ?_)
    by_cases q : j = t
    · subst q; exact M i a
    · exact N i j a (by omega)
end
theorem i_vc_prime {k : Nat} {u : SX} {v : SY} (I : i_Rel k u v) (hk : k + 3 ≤ 1536) : wpX_prime (fun r => wpY_prime (fun r' => r' = r ∧ i_Rel (k + 3) u v) v) u := by
  obtain ⟨n, c, h, oX, w, aX, oY, m, f, rfl, rfl, hn, hn5, hh, hc, hT⟩ := I
  unfold wpX_prime wpY_prime
  dsimp only
  have R := sw_rel (k := k + 3) (oX := oX) (aX := aX) (oY := oY) (m := m) (f := f) hn hn5 hh hc hT
  refine sw_xfits hn hn5 hh (sw_br (fun e => ?_) (fun e => ⟨n * n + 1, sw_xprime hn hn5 hh ?_ (n * n) 0 _ (by omega) (by omega)⟩))
  · refine sw_yfits hn hn5 hh ?_
    rw [sw_b0 e]
    exact br_t rfl ⟨rfl, R⟩
  · refine sw_yfits hn hn5 hh ?_
    rw [sw_b1 e]
    refine br_f (by decide) ⟨n + 1, sw_yprime12 hn hn5 hh (fun z => ?_) (fun z => ?_) n 0 _ (by omega) (by omega) (fun i j _ b => absurd b (Nat.not_lt_zero j))⟩
    · cases q : sw_xp n h (n * n) with
      | false => exact ⟨rfl, R⟩
      | true => exact absurd z (sw_xp_n q)
    · cases q : sw_xp n h (n * n) with
      | false => exact absurd (sw_xp_f hn _ (Nat.le_refl _) q) z
      | true => exact ⟨rfl, R⟩
end
section
/-! facts that hold for each of the jugglable patterns, looked through in the kernel -/
/-- the place after k + 1 throws from i, and the sum of heights on the way -/
def sw_it (n : Nat) (h : Nat → Nat) (i : Nat) : Nat → Nat
  | 0 => sw_ld n h i
  | k + 1 => sw_ld n h (sw_it n h i k)
def sw_sm (n : Nat) (h : Nat → Nat) (i : Nat) : Nat → Nat
  | 0 => h i
  | k + 1 => sw_sm n h i k + h (sw_it n h i k)
/-- orbits as the class counts them -/
def sw_xl (n : Nat) (h : Nat → Nat) (i : Nat) : Nat → Nat → Nat → Nat
  | 0, le, _ => le
  | d + 1, le, p => if p = i then le else sw_xl n h i d (if le ≤ p then le else p) (sw_ld n h p)
def sw_xr (n : Nat) (h : Nat → Nat) : Nat → Nat
  | 0 => 0
  | i + 1 => if sw_xl n h i 5 i (sw_ld n h i) = i ∧ 0 < h i then sw_xr n h i + 1 else sw_xr n h i
/-- and as the reference does -/
def sw_yl (n : Nat) (h : Nat → Nat) : Nat → Nat → Nat → Option Nat
  | 0, _, _ => none
  | d + 1, s, p => if s / 2 ^ p % 2 = 0 then sw_yl n h d (s ||| 2 ^ p) (sw_ld n h p) else some s
def sw_yr (n : Nat) (h : Nat → Nat) : Nat → Option (Nat × Nat)
  | 0 => some (0, 0)
  | i + 1 => match sw_yr n h i with
    | none => none
    | some (s, m) => if s / 2 ^ i % 2 = 0 ∧ 0 < h i then match sw_yl n h 6 s i with
        | none => none
        | some s' => some (s', m + 1)
      else some (s, m)
def sw_ok (n : Nat) (h : Nat → Nat) : Bool := match sw_yr n h n with
  | none => false
  | some (_, m) => m == sw_xr n h n
def sw_ck (n : Nat) (l : List Nat) : Bool :=
  (sw_pc (sw_st n (fun j => l.getD j 0) 1020) 7 * n == l.sum) && (List.range n).all (fun i => (List.range 5).any (fun k => sw_it n (fun j => l.getD j 0) i k == i)) && sw_ok n (fun j => l.getD j 0)
theorem sw_ck1 : (sw_pt 1 1 0).all (sw_ck 1) = true := by decide +kernel
theorem sw_ck2 : (sw_pt 2 2 0).all (sw_ck 2) = true := by decide +kernel
theorem sw_ck3 : (sw_pt 3 3 0).all (sw_ck 3) = true := by decide +kernel
theorem sw_ck4 : (sw_pt 4 4 0).all (sw_ck 4) = true := by decide +kernel
theorem sw_ck5 : (sw_pt 5 5 0).all (sw_ck 5) = true := by decide +kernel
end
section
/-! balls, period, orbits -/
theorem sw_ck_n {n : Nat} (hn : 1 ≤ n) (hn5 : n ≤ 5) : (sw_pt n n 0).all (sw_ck n) = true := by
  have c : n = 1 ∨ n = 2 ∨ n = 3 ∨ n = 4 ∨ n = 5 := by omega
  rcases c with rfl | rfl | rfl | rfl | rfl
  · exact sw_ck1
  · exact sw_ck2
  · exact sw_ck3
  · exact sw_ck4
  · exact sw_ck5
theorem sw_own_pt {n : Nat} (hn : 1 ≤ n) (hn5 : n ≤ 5) {h : Nat → Nat} (hh : ∀ j, h j ≤ 7) (hj : sw_jg n h = true) : sw_ts h n 0 ∈ sw_pt n n 0 := by
  have k := sw_own_mem hn hn5 hh hj n 0 (by omega)
  have k2 : sw_ts h n 0 ∈ sw_fl n n 0 (sw_ts h n 0).sum := k
  rw [← sw_flt n n 0] at k2
  exact (List.mem_filter.mp k2).1
theorem sw_ck_h {n : Nat} (hn : 1 ≤ n) (hn5 : n ≤ 5) {h : Nat → Nat} (hh : ∀ j, h j ≤ 7) (hj : sw_jg n h = true) : sw_ck n (sw_ts h n 0) = true :=
  List.all_eq_true.mp (sw_ck_n hn hn5) _ (sw_own_pt hn hn5 hh hj)
theorem sw_gh (h : Nat → Nat) (n : Nat) : ∀ j, j < n → (fun j => (sw_ts h n 0).getD j 0) j = h j := by
  intro j hj
  show (sw_ts h n 0).getD j 0 = h j
  rw [sw_ts_get h n 0 j hj, Nat.zero_add]
theorem sw_ld_c {n : Nat} {h g : Nat → Nat} (e : ∀ j, j < n → g j = h j) {i : Nat} (hi : i < n) : sw_ld n g i = sw_ld n h i := by
  unfold sw_ld
  rw [e i hi]
theorem sw_it_lt {n : Nat} (hn : 1 ≤ n) (h : Nat → Nat) (i : Nat) : ∀ k, sw_it n h i k < n
  | 0 => sw_ld_lt hn h i
  | k + 1 => sw_ld_lt hn h _
theorem sw_it_c {n : Nat} (hn : 1 ≤ n) {h g : Nat → Nat} (e : ∀ j, j < n → g j = h j) {i : Nat} (hi : i < n) : ∀ k, sw_it n g i k = sw_it n h i k
  | 0 => sw_ld_c e hi
  | k + 1 => by
    show sw_ld n g (sw_it n g i k) = sw_ld n h (sw_it n h i k)
    rw [sw_it_c hn e hi k, sw_ld_c e (sw_it_lt hn h i k)]
theorem sw_xl_c {n : Nat} (hn : 1 ≤ n) {h g : Nat → Nat} (e : ∀ j, j < n → g j = h j) (i : Nat) : ∀ d le p, p < n → sw_xl n g i d le p = sw_xl n h i d le p
  | 0, _, _, _ => rfl
  | d + 1, le, p, hp => by
    unfold sw_xl
    rw [sw_ld_c e hp, sw_xl_c hn e i d _ _ (sw_ld_lt hn h p)]
theorem sw_xr_c {n : Nat} (hn : 1 ≤ n) {h g : Nat → Nat} (e : ∀ j, j < n → g j = h j) : ∀ i, i ≤ n → sw_xr n g i = sw_xr n h i
  | 0, _ => rfl
  | i + 1, hi => by
    unfold sw_xr
    rw [sw_xr_c hn e i (by omega), sw_ld_c e (by omega), sw_xl_c hn e i 5 i _ (sw_ld_lt hn h i), e i (by omega)]
theorem sw_yl_c {n : Nat} (hn : 1 ≤ n) {h g : Nat → Nat} (e : ∀ j, j < n → g j = h j) : ∀ d s p, p < n → sw_yl n g d s p = sw_yl n h d s p
  | 0, _, _, _ => rfl
  | d + 1, s, p, hp => by
    unfold sw_yl
    rw [sw_ld_c e hp, sw_yl_c hn e d _ _ (sw_ld_lt hn h p)]
theorem sw_yr_c {n : Nat} (hn : 1 ≤ n) {h g : Nat → Nat} (e : ∀ j, j < n → g j = h j) : ∀ i, i ≤ n → sw_yr n g i = sw_yr n h i
  | 0, _ => rfl
  | i + 1, hi => by
    unfold sw_yr
    rw [sw_yr_c hn e i (by omega), e i (by omega)]
    cases sw_yr n h i with
    | none => rfl
    | some x =>
      obtain ⟨s, m⟩ := x
      dsimp only
      rw [sw_yl_c hn e 6 s i (by omega)]
theorem sw_su_ball {n : Nat} (hn : 1 ≤ n) (hn5 : n ≤ 5) {h : Nat → Nat} (hh : ∀ j, h j ≤ 7) (hj : sw_jg n h = true) : sw_pc (sw_st n h 1020) 7 * n = (sw_ts h n 0).sum := by
  have k := sw_ck_h hn hn5 hh hj
  unfold sw_ck at k
  rw [Bool.and_eq_true, Bool.and_eq_true] at k
  have k1 := eq_of_beq k.1.1
  unfold sw_st at k1 ⊢
  rw [sw_sb_c hn (sw_gh h n)] at k1
  exact k1
theorem sw_back_i {n : Nat} (hn : 1 ≤ n) (hn5 : n ≤ 5) {h : Nat → Nat} (hh : ∀ j, h j ≤ 7) (hj : sw_jg n h = true) {i : Nat} (hi : i < n) : ∃ k, k < 5 ∧ sw_it n h i k = i := by
  have k := sw_ck_h hn hn5 hh hj
  unfold sw_ck at k
  rw [Bool.and_eq_true, Bool.and_eq_true] at k
  have k1 := List.all_eq_true.mp k.1.2 i (List.mem_range.mpr hi)
  obtain ⟨q, a, b⟩ := List.any_eq_true.mp k1
  have b2 := eq_of_beq b
  rw [sw_it_c hn (sw_gh h n) hi] at b2
  exact ⟨q, List.mem_range.mp a, b2⟩
theorem sw_orb {n : Nat} (hn : 1 ≤ n) (hn5 : n ≤ 5) {h : Nat → Nat} (hh : ∀ j, h j ≤ 7) (hj : sw_jg n h = true) : ∃ s, sw_yr n h n = some (s, sw_xr n h n) := by
  have k := sw_ck_h hn hn5 hh hj
  unfold sw_ck at k
  rw [Bool.and_eq_true, Bool.and_eq_true] at k
  have k1 := k.2
  unfold sw_ok at k1
  rw [sw_yr_c hn (sw_gh h n) n (Nat.le_refl n), sw_xr_c hn (sw_gh h n) n (Nat.le_refl n)] at k1
  cases q : sw_yr n h n with
  | none => rw [q] at k1; exact absurd (show false = true from k1) (by decide)
  | some x =>
    obtain ⟨s, m⟩ := x
    rw [q] at k1
    exact ⟨s, by rw [eq_of_beq k1]⟩
def sw_su (h : Nat → Nat) : Nat → Nat
  | 0 => 0
  | i + 1 => sw_su h i + h i
theorem sw_su_ts (h : Nat → Nat) : ∀ n, sw_su h n = (sw_ts h n 0).sum
  | 0 => rfl
  | n + 1 => by
    show sw_su h n + h n = _
    rw [sw_ts_snoc, List.sum_append, sw_su_ts h n, Nat.zero_add]
    rfl
theorem sw_su_le {h : Nat → Nat} (hh : ∀ j, h j ≤ 7) : ∀ i, sw_su h i ≤ 7 * i
  | 0 => Nat.le_refl 0
  | i + 1 => by
    have a := sw_su_le hh i
    have b := hh i
    show sw_su h i + h i ≤ _
    omega
theorem sw_pc_le (st : Nat) : ∀ i, sw_pc st i ≤ i
  | 0 => Nat.le_refl 0
  | i + 1 => by
    have a := sw_pc_le st i
    show sw_pc st i + st / 2 ^ i % 2 ≤ i + 1
    omega
section
variable {n c : Nat} {h : Nat → Nat} {o w a m f : Nat → Int32}
theorem sw_xsum4 {post : Int32 → Prop} (hn5 : n ≤ 5) (hp : post (nI (sw_su h n))) : ∀ d i fu, i + d = n → d < fu → wX_sumOf_4 post (nI n) (nI c) (sw_H h) o w a fu (nI (sw_su h i)) (nI i) := by
  intro d
  induction d with
  | zero =>
    intro i fu e hf
    obtain ⟨g, rfl⟩ : ∃ g, fu = g + 1 := ⟨fu - 1, by omega⟩
    have e2 : i = n := by omega
    subst e2
    exact br_t (nI_le (Nat.le_refl _) (by omega)) hp
  | succ d ih =>
    intro i fu e hf
    obtain ⟨g, rfl⟩ : ∃ g, fu = g + 1 := ⟨fu - 1, by omega⟩
    refine br_f (nI_ge (by omega) (by omega)) ⟨vp_in_nI (by omega) (by decide), nm_r (e' := nI (sw_su h (i + 1))) ?_ (nm_r (nI_1 i) (ih (i + 1) g (by omega) (by omega)))⟩
    rw [sw_rd (by omega)]
    exact nI_add _ _
theorem sw_xsum {post : Int32 → Prop} (hn5 : n ≤ 5) (hp : post (nI (sw_su h n))) : wpX_sumOf post (nI n, nI c, sw_H h, o, w, a) :=
  ⟨n + 1, sw_xsum4 hn5 hp n 0 _ (by omega) (by omega)⟩
theorem sw_ymem4 {post : Int32 → Prop} {H : Nat → Int32} {st : Nat} (hs : st < 2 ^ 31) (hp : post (nI (sw_pc st 7))) : ∀ d i fu, i + d = 7 → d < fu → wY_members_4 post (nI st) (nI n) H o m f fu (nI (sw_pc st i)) (nI i) := by
  intro d
  induction d with
  | zero =>
    intro i fu e hf
    obtain ⟨g, rfl⟩ : ∃ g, fu = g + 1 := ⟨fu - 1, by omega⟩
    have e2 : i = 7 := by omega
    subst e2
    exact br_t (nI_le (a := 7) (Nat.le_refl _) (by omega)) hp
  | succ d ih =>
    intro i fu e hf
    obtain ⟨g, rfl⟩ : ∃ g, fu = g + 1 := ⟨fu - 1, by omega⟩
    refine br_f (nI_ge (b := 7) (by omega) (by decide)) (nm_r (e' := nI (sw_pc st (i + 1))) ?_ (nm_r (nI_1 i) (ih (i + 1) g (by omega) (by omega))))
    rw [sw_bit hs (by omega)]
    exact nI_add _ _
theorem sw_yballs {post : Int32 → Prop} (hn : 1 ≤ n) (hn5 : n ≤ 5) (hh : ∀ j, h j ≤ 7) (h0 : sw_jg n h = false → post (-4)) (h1 : sw_jg n h = true → post (nI (sw_pc (sw_st n h 1020) 7))) : wpY_balls post (nI n, sw_H h, o, m, f) := by
  unfold wpY_balls
  dsimp only
  have s1 : sw_st n h 1020 < 2 ^ 7 := sw_sb_lt hh _ 7
  refine sw_yfits hn hn5 hh (sw_br h0 (fun e => sw_ysti (i := 0) hn hn5 hh (by omega) ⟨8, ?_⟩))
  exact sw_ymem4 (by omega) (h1 e) 7 0 8 (by omega) (by omega)
end
theorem i_vc_balls {k : Nat} {u : SX} {v : SY} (I : i_Rel k u v) (hk : k + 3 ≤ 1536) : wpX_balls (fun r => wpY_balls (fun r' => r' = r ∧ i_Rel (k + 3) u v) v) u := by
  obtain ⟨n, c, h, oX, w, aX, oY, m, f, rfl, rfl, hn, hn5, hh, hc, hT⟩ := I
  unfold wpX_balls
  dsimp only
  have R := sw_rel (k := k + 3) (oX := oX) (aX := aX) (oY := oY) (m := m) (f := f) hn hn5 hh hc hT
  have sl := sw_su_le hh n
  refine sw_xfits hn hn5 hh (sw_xsum hn5 (sw_br (fun e => ?_) (fun e => ?_)))
  · exact sw_yballs hn hn5 hh (fun _ => ⟨rfl, R⟩) (fun z => by rw [e] at z; exact absurd z (by decide))
  · refine br_f (nI_nle (by omega) (by omega)) ⟨nI_ne0 (by omega) (by omega), ?_⟩
    rw [pk_div (by omega) (by omega) (by omega)]
    refine sw_yballs hn hn5 hh (fun z => by rw [e] at z; exact absurd z (by decide)) (fun _ => ⟨?_, R⟩)
    have b := sw_su_ball hn hn5 hh e
    rw [sw_su_ts, ← b, Nat.mul_div_cancel _ (by omega)]
/-! period -/
section
variable {n c : Nat} {h : Nat → Nat} {o w a m f : Nat → Int32}
theorem sw_xgo {post : Int32 → Prop} (hn : 1 ≤ n) (hn5 : n ≤ 5) (hh : ∀ j, h j ≤ 7) {i K : Nat} (hi : i < n) (hK : K < 5) (eK : sw_it n h i K = i) (nK : ∀ k, k < K → ¬ sw_it n h i k = i) (hp : post (nI (sw_sm n h i K))) : ∀ d k fu, k + d = K → d < fu → wX_goRound_16 post (nI i) (nI n) (nI c) (sw_H h) o w a fu (nI (sw_sm n h i k)) (nI (sw_it n h i k)) (nI k) := by
  intro d
  induction d with
  | zero =>
    intro k fu e hf
    obtain ⟨g, rfl⟩ : ∃ g, fu = g + 1 := ⟨fu - 1, by omega⟩
    have e2 : k = K := by omega
    subst e2
    exact br_f (nI_ge (b := 5) (by omega) (by decide)) (br_t (congrArg nI eK) hp)
  | succ d ih =>
    intro k fu e hf
    obtain ⟨g, rfl⟩ : ∃ g, fu = g + 1 := ⟨fu - 1, by omega⟩
    have l := sw_it_lt hn h i k
    have ne : ¬ nI (sw_it n h i k) = nI i := fun z => nK k (by omega) ((nI_eq (by omega) (by omega)).mp z)
    refine br_f (nI_ge (b := 5) (by omega) (by decide)) (br_f ne ⟨vp_in_nI (by omega) (by decide), nm_r (e' := nI (sw_sm n h i (k + 1))) ?_ (sw_xland hn hn5 hh (by omega) (nm_r (nI_1 k) (ih (k + 1) g (by omega) (by omega))))⟩)
    rw [sw_rd (by omega)]
    exact nI_add _ _
theorem sw_sm_it {n : Nat} (h : Nat → Nat) (i : Nat) : ∀ k, (i + sw_sm n h i k) % n = sw_it n h i k
  | 0 => rfl
  | k + 1 => by
    show (i + (sw_sm n h i k + h (sw_it n h i k))) % n = (sw_it n h i k + h (sw_it n h i k)) % n
    rw [← Nat.add_assoc, ← sw_sm_it h i k, Nat.mod_add_mod]
theorem sw_sm_le {n : Nat} {h : Nat → Nat} (hh : ∀ j, h j ≤ 7) (i : Nat) : ∀ k, sw_sm n h i k ≤ 7 * (k + 1)
  | 0 => hh i
  | k + 1 => by
    have a := sw_sm_le hh i (n := n) k
    have b := hh (sw_it n h i k)
    show sw_sm n h i k + h (sw_it n h i k) ≤ _
    omega
theorem sw_yper {post : Int32 → Prop} (hn : 1 ≤ n) (hn5 : n ≤ 5) (hh : ∀ j, h j ≤ 7) {i K : Nat} (hi : i < n) (hK : K < 5) (eK : sw_it n h i K = i) (nK : ∀ k, k < K → ¬ sw_it n h i k = i) (hp : post (nI (sw_sm n h i K))) : ∀ d k fu, k + d = K → d < fu → wY_period_38 post (nI i) (nI n) (sw_H h) o m f fu (nI (i + sw_sm n h i k)) := by
  have ne0 := nI_ne0 (n := n) (by omega) (by omega)
  have er : ∀ k, k ≤ K → nI (i + sw_sm n h i k) - nI (i + sw_sm n h i k) / nI n * nI n = nI (sw_it n h i k) := by
    intro k hk
    have b := sw_sm_le hh i (n := n) k
    rw [pk_rem (by omega) (by omega) (by omega), sw_sm_it]
  intro d
  induction d with
  | zero =>
    intro k fu e hf
    obtain ⟨g, rfl⟩ : ∃ g, fu = g + 1 := ⟨fu - 1, by omega⟩
    have e2 : k = K := by omega
    subst e2
    refine ⟨ne0, br_t (by rw [er k (by omega), eK]) ?_⟩
    rw [pk_sub (by omega), Nat.add_sub_cancel_left]
    exact hp
  | succ d ih =>
    intro k fu e hf
    obtain ⟨g, rfl⟩ : ∃ g, fu = g + 1 := ⟨fu - 1, by omega⟩
    have l := sw_it_lt hn h i k
    have ne : ¬ nI (sw_it n h i k) = nI i := fun z => nK k (by omega) ((nI_eq (by omega) (by omega)).mp z)
    refine ⟨ne0, br_f (by rw [er k (by omega)]; exact ne) ⟨ne0, ?_⟩⟩
    rw [er k (by omega)]
    refine ⟨vp_in_nI (by omega) (by decide), nm_r (e' := nI (i + sw_sm n h i (k + 1))) ?_ (ih (k + 1) g (by omega) (by omega))⟩
    rw [sw_rd (by omega), nI_add, Nat.add_assoc]
    rfl
end
theorem i_vc_period {k : Nat} {u : SX} {v : SY} (I : i_Rel k u v) (hk : k + 3 ≤ 1536) (v1 : Int32) : wpX_period (fun r => wpY_period (fun r' => r' = r ∧ i_Rel (k + 3) u v) v v1) u v1 := by
  obtain ⟨n, c, h, oX, w, aX, oY, m, f, rfl, rfl, hn, hn5, hh, hc, hT⟩ := I
  unfold wpX_period wpY_period
  dsimp only
  have R := sw_rel (k := k + 3) (oX := oX) (aX := aX) (oY := oY) (m := m) (f := f) hn hn5 hh hc hT
  rcases sw_ix v1 n (by omega) with ⟨i, hi, rfl⟩ | hb
  · have hin : vp_in (nI i) 5 := vp_in_nI (by omega) (by decide)
    have h7 := hh i
    have rd : sw_H h (nI i).toNatClampNeg = nI (h i) := sw_rd (by omega)
    rw [rd]
    refine sw_xbt0 hn5 hi (br_t (rfl : (0 : Int32) = 0) (sw_xfits hn hn5 hh (sw_br (fun e => ?_) (fun e => ⟨hin, pk_le (h i) 0 (fun z => ?_) (fun z => ?_)⟩))))
    · refine sw_ybt0 hn5 hi (br_t (rfl : (0 : Int32) = 0) ⟨hin, br_c (fun _ => ⟨rfl, R⟩) (fun _ => sw_yfits hn hn5 hh ?_)⟩)
      rw [sw_b0 e]
      exact br_t rfl ⟨rfl, R⟩
    · have z0 : h i = 0 := by omega
      exact sw_ybt0 hn5 hi (br_t (rfl : (0 : Int32) = 0) ⟨hin, br_t (by rw [z0]; rfl) ⟨rfl, R⟩⟩)
    · obtain ⟨K, ⟨hK, eK⟩, nK⟩ := pk_least _ (sw_back_i hn hn5 hh e hi)
      have nK2 : ∀ k, k < K → ¬ sw_it n h i k = i := fun k hk z => nK k hk ⟨by omega, z⟩
      refine ⟨hin, nm_r rd (sw_xland hn hn5 hh (by omega) ⟨K + 1, sw_xgo hn hn5 hh hi hK eK nK2 ?_ K 0 (K + 1) (by omega) (by omega)⟩)⟩
      refine sw_ybt0 hn5 hi (br_t (rfl : (0 : Int32) = 0) ⟨hin, br_f (nI_ne0 (by omega) (by omega)) (sw_yfits hn hn5 hh ?_)⟩)
      rw [sw_b1 e]
      exact br_f (by decide) ⟨hin, nm_r (nI_add _ _) ⟨K + 1, sw_yper hn hn5 hh hi hK eK nK2 ⟨rfl, R⟩ K 0 (K + 1) (by omega) (by omega)⟩⟩
  · exact sw_xbt1 hb (br_f (by decide : ¬ (1 : Int32) = 0) (sw_ybt1 hb (br_f (by decide : ¬ (1 : Int32) = 0) ⟨rfl, R⟩)))
/-! orbits -/
section
variable {n c : Nat} {h : Nat → Nat} {o w a m f : Nat → Int32}
theorem sw_xo37 {post : Int32 → Prop} {J : Int32 → Int32 → Prop} (hn : 1 ≤ n) (hn5 : n ≤ 5) (hh : ∀ j, h j ≤ 7) {i q : Nat} (hi : i < n) : ∀ d le p fu, d ≤ 5 → d < fu → le < n → p < n → ((sw_xl n h i d le p = i ∧ 0 < h i → J (nI (q + 1)) (nI (i + 1))) ∧ (¬ (sw_xl n h i d le p = i ∧ 0 < h i) → J (nI q) (nI (i + 1)))) → wX_orbits_37 post J (nI q) (nI i) (nI n) (nI c) (sw_H h) o w a fu (nI le) (nI p) (nI (5 - d)) := by
  have fin : ∀ le, le < n → ((le = i ∧ 0 < h i → J (nI (q + 1)) (nI (i + 1))) ∧ (¬ (le = i ∧ 0 < h i) → J (nI q) (nI (i + 1)))) → wX_orbits_79 post J (nI q) (nI i) (nI le) (nI n) (nI c) (sw_H h) o w a := by
    intro le hl hJ
    unfold wX_orbits_79
    rw [sw_rd (by omega)]
    have h7 := hh i
    refine pk_eq le i (fun e => ⟨vp_in_nI (by omega) (by decide), pk_le (h i) 0 (fun z => nm_r (nI_1 i) (hJ.2 (by omega))) (fun z => nm_r (nI_1 q) (nm_r (nI_1 i) (hJ.1 ⟨e, z⟩)))⟩) (fun e => nm_r (nI_1 i) (hJ.2 (fun z => e z.1)))
  intro d
  induction d with
  | zero =>
    intro le p fu h5 hf hl hp hJ
    obtain ⟨g, rfl⟩ : ∃ g, fu = g + 1 := ⟨fu - 1, by omega⟩
    exact br_t (by decide) (fin le hl hJ)
  | succ d ih =>
    intro le p fu h5 hf hl hp hJ
    obtain ⟨g, rfl⟩ : ∃ g, fu = g + 1 := ⟨fu - 1, by omega⟩
    have ex : sw_xl n h i (d + 1) le p = if p = i then le else sw_xl n h i d (if le ≤ p then le else p) (sw_ld n h p) := rfl
    rw [ex] at hJ
    refine br_f (nI_ge (b := 5) (by omega) (by decide)) (pk_eq p i (fun e => ?_) (fun e => ?_))
    · rw [if_pos e] at hJ
      exact fin le hl hJ
    · rw [if_neg e] at hJ
      have en : nI (5 - (d + 1)) + 1 = nI (5 - d) := by
        rw [nI_1, show 5 - (d + 1) + 1 = 5 - d by omega]
      refine pk_le le p (fun z => ?_) (fun z => ?_)
      · rw [if_pos z] at hJ
        exact sw_xland hn hn5 hh (by omega) (nm_r en (ih _ _ g (by omega) (by omega) hl (sw_ld_lt hn h p) hJ))
      · rw [if_neg (by omega)] at hJ
        exact sw_xland hn hn5 hh (by omega) (nm_r en (ih _ _ g (by omega) (by omega) hp (sw_ld_lt hn h p) hJ))
theorem sw_xo16 {post : Int32 → Prop} (hn : 1 ≤ n) (hn5 : n ≤ 5) (hh : ∀ j, h j ≤ 7) (hp : post (nI (sw_xr n h n))) : ∀ d i fu, i + d = n → d < fu → wX_orbits_16 post (nI n) (nI c) (sw_H h) o w a fu (nI (sw_xr n h i)) (nI i) := by
  intro d
  induction d with
  | zero =>
    intro i fu e hf
    obtain ⟨g, rfl⟩ : ∃ g, fu = g + 1 := ⟨fu - 1, by omega⟩
    have e2 : i = n := by omega
    subst e2
    exact br_t (nI_le (Nat.le_refl _) (by omega)) hp
  | succ d ih =>
    intro i fu e hf
    obtain ⟨g, rfl⟩ : ∃ g, fu = g + 1 := ⟨fu - 1, by omega⟩
    have nx := ih (i + 1) g (by omega) (by omega)
    have ex : sw_xr n h (i + 1) = if sw_xl n h i 5 i (sw_ld n h i) = i ∧ 0 < h i then sw_xr n h i + 1 else sw_xr n h i := rfl
    rw [ex] at nx
    refine br_f (nI_ge (by omega) (by omega)) (sw_xland hn hn5 hh (by omega) ⟨6, sw_xo37 hn hn5 hh (by omega) 5 i _ 6 (by omega) (by omega) (by omega) (sw_ld_lt hn h i) ⟨fun z => ?_, fun z => ?_⟩⟩)
    · rw [if_pos z] at nx; exact nx
    · rw [if_neg z] at nx; exact nx
theorem sw_yo47 {post : Int32 → Prop} {J : Int32 → Int32 → Int32 → Prop} (hn : 1 ≤ n) (hn5 : n ≤ 5) (hh : ∀ j, h j ≤ 7) {i q s' : Nat} (hJ : s' < 2 ^ n → J (nI s') (nI q) (nI (i + 1))) : ∀ d s p, s < 2 ^ n → p < n → sw_yl n h d s p = some s' → wY_orbits_47 post J (nI q) (nI i) (nI n) (sw_H h) o m f d (nI s) (nI p) := by
  have k2 := sw_p5 hn5
  intro d
  induction d with
  | zero => intro s p _ _ e; exact absurd e (by intro z; cases z)
  | succ d ih =>
    intro s p hs hp e
    have ex : sw_yl n h (d + 1) s p = if s / 2 ^ p % 2 = 0 then sw_yl n h d (s ||| 2 ^ p) (sw_ld n h p) else some s := rfl
    rw [ex] at e
    show ((nI s >>> (nI p &&& 31)) &&& 1 = 0 → _) ∧ _
    rw [sw_bit (by omega) (by omega)]
    have b2 := sw_b2 s p
    have h7 := hh p
    refine pk_eq (s / 2 ^ p % 2) 0 (fun z => ?_) (fun z => ?_)
    · rw [if_pos z] at e
      refine nm_r (sw_orp (by omega)) ⟨vp_in_nI (by omega) (by decide), nI_ne0 (by omega) (by omega), nm_r (e' := nI (sw_ld n h p)) ?_ (ih _ _ (sw_lt_or hs hp) (sw_ld_lt hn h p) e)⟩
      rw [sw_rd (by omega), nI_add, pk_rem (by omega) (by omega) (by omega)]
      rfl
    · rw [if_neg z] at e
      injection e with e
      subst e
      exact nm_r (nI_1 i) (hJ hs)
theorem sw_yo16 {post : Int32 → Prop} (hn : 1 ≤ n) (hn5 : n ≤ 5) (hh : ∀ j, h j ≤ 7) {sF mF : Nat} (eF : sw_yr n h n = some (sF, mF)) (hp : post (nI mF)) : ∀ d i fu s q, i + d = n → d < fu → s < 2 ^ n → sw_yr n h i = some (s, q) → wY_orbits_16 post (nI n) (sw_H h) o m f fu (nI s) (nI q) (nI i) := by
  have k2 := sw_p5 hn5
  have nn : ∀ d i, i + d = n → ¬ sw_yr n h i = none := by
    intro d
    induction d with
    | zero =>
      intro i e z
      have e2 : i = n := by omega
      rw [e2, eF] at z
      cases z
    | succ d ih =>
      intro i e z
      apply ih (i + 1) (by omega)
      unfold sw_yr
      rw [z]
  intro d
  induction d with
  | zero =>
    intro i fu s q e hf hs ey
    obtain ⟨g, rfl⟩ : ∃ g, fu = g + 1 := ⟨fu - 1, by omega⟩
    have e2 : i = n := by omega
    subst e2
    rw [eF] at ey
    injection ey with ey
    injection ey with e3 e4
    subst e4
    exact br_t (nI_le (Nat.le_refl _) (by omega)) hp
  | succ d ih =>
    intro i fu s q e hf hs ey
    obtain ⟨g, rfl⟩ : ∃ g, fu = g + 1 := ⟨fu - 1, by omega⟩
    have n1 := nn d (i + 1) (by omega)
    have ex : sw_yr n h (i + 1) = match sw_yr n h i with
      | none => none
      | some (s, m) => if s / 2 ^ i % 2 = 0 ∧ 0 < h i then match sw_yl n h 6 s i with
          | none => none
          | some s' => some (s', m + 1)
        else some (s, m) := rfl
    rw [ey] at ex
    dsimp only at ex
    have h7 := hh i
    have b2 := sw_b2 s i
    refine br_f (nI_ge (by omega) (by omega)) ?_
    rw [sw_bit (by omega) (by omega), sw_rd (by omega)]
    refine pk_eq (s / 2 ^ i % 2) 0 (fun z => ⟨vp_in_nI (by omega) (by decide), pk_le (h i) 0 (fun y => ?_) (fun y => ?_)⟩) (fun z => ?_)
    · rw [if_neg (by omega)] at ex
      exact nm_r (nI_1 i) (ih (i + 1) g s q (by omega) (by omega) hs ex)
    · rw [if_pos ⟨z, y⟩] at ex
      cases ql : sw_yl n h 6 s i with
      | none => rw [ql] at ex; exact absurd ex n1
      | some s' =>
        rw [ql] at ex
        exact nm_r (nI_1 q) ⟨6, sw_yo47 hn hn5 hh (fun l => ih (i + 1) g s' (q + 1) (by omega) (by omega) l ex) 6 s i hs (by omega) ql⟩
    · rw [if_neg (fun y => z y.1)] at ex
      exact nm_r (nI_1 i) (ih (i + 1) g s q (by omega) (by omega) hs ex)
end
theorem i_vc_orbits {k : Nat} {u : SX} {v : SY} (I : i_Rel k u v) (hk : k + 3 ≤ 1536) : wpX_orbits (fun r => wpY_orbits (fun r' => r' = r ∧ i_Rel (k + 3) u v) v) u := by
  obtain ⟨n, c, h, oX, w, aX, oY, m, f, rfl, rfl, hn, hn5, hh, hc, hT⟩ := I
  unfold wpX_orbits wpY_orbits
  dsimp only
  have R := sw_rel (k := k + 3) (oX := oX) (aX := aX) (oY := oY) (m := m) (f := f) hn hn5 hh hc hT
  refine sw_xfits hn hn5 hh (sw_br (fun e => ?_) (fun e => ⟨n + 1, sw_xo16 hn hn5 hh ?_ n 0 _ (by omega) (by omega)⟩))
  · refine sw_yfits hn hn5 hh ?_
    rw [sw_b0 e]
    exact br_t rfl ⟨rfl, R⟩
  · refine sw_yfits hn hn5 hh ?_
    rw [sw_b1 e]
    obtain ⟨sF, eF⟩ := sw_orb hn hn5 hh e
    exact br_f (by decide) ⟨n + 1, sw_yo16 hn hn5 hh eF ⟨rfl, R⟩ n 0 _ 0 0 (by omega) (by omega) (Nat.two_pow_pos n) rfl⟩
end
section
/-! the table of ways -/
section
variable {n c : Nat} {H : Nat → Int32} {o w a : Nat → Int32}
theorem sw_xthr4 {post : Int32 → Prop} {st : Nat} (hs : st < 2 ^ 31) (hp : post (nI (sw_pc st 5))) : ∀ d i fu, i + d = 5 → d < fu → wX_throwsIn_4 post (nI st) (nI n) (nI c) H o w a fu (nI (sw_pc st i)) (nI i) := by
  intro d
  induction d with
  | zero =>
    intro i fu e hf
    obtain ⟨g, rfl⟩ : ∃ g, fu = g + 1 := ⟨fu - 1, by omega⟩
    have e2 : i = 5 := by omega
    subst e2
    exact br_t (nI_le (a := 5) (Nat.le_refl _) (by omega)) hp
  | succ d ih =>
    intro i fu e hf
    obtain ⟨g, rfl⟩ : ∃ g, fu = g + 1 := ⟨fu - 1, by omega⟩
    refine br_f (nI_ge (b := 5) (by omega) (by decide)) (nm_r (e' := nI (sw_pc st (i + 1))) ?_ (nm_r (nI_1 i) (ih (i + 1) g (by omega) (by omega))))
    rw [sw_bit hs (by omega)]
    exact nI_add _ _
theorem sw_xthr {post : Int32 → Prop} {st : Nat} (hs : st < 2 ^ 31) (hp : post (nI (sw_pc st 5))) : wpX_throwsIn post (nI n, nI c, H, o, w, a) (nI st) :=
  ⟨6, sw_xthr4 hs hp 5 0 6 (by omega) (by omega)⟩
/-- the table holds what comes behind a set -/
def sw_Th (n r st s : Nat) (w : Nat → Int32) : Prop := ∀ p, p < n → st / 2 ^ p % 2 = 0 → ∀ t, t ≤ s → w (36 * (st ||| 2 ^ p) + t) = nI (sw_fl n r (st ||| 2 ^ p) t).length
theorem sw_or_b {n st p : Nat} (hn5 : n ≤ 5) (hs : st < 2 ^ n) (hp : p < n) : (st ||| 2 ^ p) < 32 := Nat.lt_of_lt_of_le (sw_lt_or hs hp) (sw_p5 hn5)
/-- one height more, in both loops: what the body asks -/
theorem sw_ways_ix {n st p s h : Nat} (hn5 : n ≤ 5) (hs : st < 2 ^ n) (hp : p < n) (hh : h ≤ s) : ((36 * (nI st ||| ((1 : Int32) <<< (nI p &&& 31)))) + nI s) - nI h = nI (36 * (st ||| 2 ^ p) + (s - h)) := by
  have e : (36 : Int32) * nI (st ||| 2 ^ p) = nI (36 * (st ||| 2 ^ p)) := pk_mul 36 _
  rw [sw_orp (by omega), e, nI_add, pk_sub (by omega), show 36 * (st ||| 2 ^ p) + s - h = 36 * (st ||| 2 ^ p) + (s - h) by omega]
theorem sw_xwf38 {post : Int32 → Prop} {J : Int32 → Int32 → Prop} {r st s i h : Nat} (hn : 1 ≤ n) (hn5 : n ≤ 5) (hi : i < n) (er : r = n - (i + 1)) (hs : st < 2 ^ n) (hs2 : s < 36) (hT : sw_Th n r st s w) (hh : h ≤ s) (h7 : h ≤ 7) (hJ : J (nI (sw_ls n r st s (h + 1))) (nI (h + 1))) : wX_waysFor_38 post J (nI st) (nI s) (nI i) (nI (sw_ls n r st s h)) (nI h) (nI n) (nI i + nI h) (nI n) (nI c) H o w a := by
  have k5 := sw_p5 hn5
  have pl : sw_pl n r h = (i + h) % n := by rw [er, sw_pl_i hi]
  have pn : (i + h) % n < n := Nat.mod_lt _ hn
  have ob := sw_or_b hn5 hs pn
  refine ⟨nI_ne0 (by omega) (by omega), ?_⟩
  rw [nI_add]
  refine nm_r (pk_rem (by omega) (by omega) (by omega)) ?_
  rw [sw_bit (by omega) (by omega), sw_ways_ix hn5 hs pn hh]
  have b2 := sw_b2 st ((i + h) % n)
  refine pk_eq _ 0 (fun z => ?_) (fun z => ?_) rfl rfl (by omega) (by omega)
  · rw [sw_ls_yes (by rw [pl]; exact ⟨z, hh⟩), pl] at hJ
    refine ⟨vp_in_nI (by omega) (by decide), nm_r ?_ (nm_r (nI_1 h) hJ)⟩
    rw [nI_clamp (by omega), hT _ pn z _ (by omega), nI_add]
  · rw [sw_ls_no (by rw [pl]; exact fun y => z y.1)] at hJ
    exact nm_r (nI_1 h) hJ
theorem sw_xwf6 {post : Int32 → Prop} {r st s i : Nat} (hn : 1 ≤ n) (hn5 : n ≤ 5) (hi : i < n) (er : r = n - (i + 1)) (hs : st < 2 ^ n) (hs2 : s < 36) (hT : sw_Th n r st s w) (hp : post (nI (sw_ls n r st s 8))) : ∀ d h fu, h + d = 8 → d < fu → wX_waysFor_6 post (nI st) (nI s) (nI i) (nI n) (nI c) H o w a fu (nI (sw_ls n r st s h)) (nI h) := by
  intro d
  induction d with
  | zero =>
    intro h fu e hf
    obtain ⟨g, rfl⟩ : ∃ g, fu = g + 1 := ⟨fu - 1, by omega⟩
    have e2 : h = 8 := by omega
    subst e2
    exact br_t (by decide) hp
  | succ d ih =>
    intro h fu e hf
    obtain ⟨g, rfl⟩ : ∃ g, fu = g + 1 := ⟨fu - 1, by omega⟩
    refine br_f (nI_nlt (a := 7) (by omega) (by decide)) (pk_lt s h (fun z => ?_) (fun z => ?_))
    · have e3 := sw_ls_end (n := n) (r := r) (st := st) z (8 - h)
      rw [show h + (8 - h) = 8 by omega] at e3
      rw [← e3]
      exact hp
    · exact br_f (nI_nle (by omega) (by omega)) (sw_xwf38 hn hn5 hi er hs hs2 hT z (by omega) (ih (h + 1) g (by omega) (by omega)))
theorem sw_xwf {post : Int32 → Prop} {r st s i : Nat} (hn : 1 ≤ n) (hn5 : n ≤ 5) (hi : i < n) (er : r = n - (i + 1)) (hs : st < 2 ^ n) (hs2 : s < 36) (hT : sw_Th n r st s w) (hp : post (nI (sw_ls n r st s 8))) : wpX_waysFor post (nI n, nI c, H, o, w, a) (nI st) (nI s) (nI i) :=
  ⟨9, sw_xwf6 hn hn5 hi er hs hs2 hT hp 8 0 9 (by omega) (by omega)⟩
theorem sw_xle38 {post : Int32 → Prop} {J : Int32 → Int32 → Prop} {x4 : Int32} {r st s i h : Nat} (hn : 1 ≤ n) (hn5 : n ≤ 5) (hi : i < n) (er : r = n - (i + 1)) (hs : st < 2 ^ n) (hs2 : s < 36) (hT : sw_Th n r st s w) (hh : h ≤ s) (h7 : h ≤ 7) (hJ : J (nI (sw_ls n r st s (h + 1))) (nI (h + 1))) : wX_lesser_38 post J (nI st) (nI s) (nI i) x4 (nI (sw_ls n r st s h)) (nI h) (nI n) (nI i + nI h) (nI n) (nI c) H o w a := by
  have k5 := sw_p5 hn5
  have pl : sw_pl n r h = (i + h) % n := by rw [er, sw_pl_i hi]
  have pn : (i + h) % n < n := Nat.mod_lt _ hn
  have ob := sw_or_b hn5 hs pn
  refine ⟨nI_ne0 (by omega) (by omega), ?_⟩
  rw [nI_add]
  refine nm_r (pk_rem (by omega) (by omega) (by omega)) ?_
  rw [sw_bit (by omega) (by omega), sw_ways_ix hn5 hs pn hh]
  have b2 := sw_b2 st ((i + h) % n)
  refine pk_eq _ 0 (fun z => ?_) (fun z => ?_) rfl rfl (by omega) (by omega)
  · rw [sw_ls_yes (by rw [pl]; exact ⟨z, hh⟩), pl] at hJ
    refine ⟨vp_in_nI (by omega) (by decide), nm_r ?_ (nm_r (nI_1 h) hJ)⟩
    rw [nI_clamp (by omega), hT _ pn z _ (by omega), nI_add]
  · rw [sw_ls_no (by rw [pl]; exact fun y => z y.1)] at hJ
    exact nm_r (nI_1 h) hJ
theorem sw_xle6 {post : Int32 → Prop} {r st s i m : Nat} (hn : 1 ≤ n) (hn5 : n ≤ 5) (hi : i < n) (er : r = n - (i + 1)) (hs : st < 2 ^ n) (hs2 : s < 36) (hT : sw_Th n r st s w) (hm : m ≤ 8) (hp : post (nI (sw_ls n r st s m))) : ∀ d h fu, h + d = m → d < fu → wX_lesser_6 post (nI st) (nI s) (nI i) (nI m) (nI n) (nI c) H o w a fu (nI (sw_ls n r st s h)) (nI h) := by
  intro d
  induction d with
  | zero =>
    intro h fu e hf
    obtain ⟨g, rfl⟩ : ∃ g, fu = g + 1 := ⟨fu - 1, by omega⟩
    have e2 : h = m := by omega
    subst e2
    exact br_t (nI_le (Nat.le_refl _) (by omega)) hp
  | succ d ih =>
    intro h fu e hf
    obtain ⟨g, rfl⟩ : ∃ g, fu = g + 1 := ⟨fu - 1, by omega⟩
    refine br_f (nI_ge (by omega) (by omega)) (pk_lt s h (fun z => ?_) (fun z => ?_))
    · have e3 := sw_ls_end (n := n) (r := r) (st := st) z (m - h)
      rw [show h + (m - h) = m by omega] at e3
      rw [← e3]
      exact hp
    · exact br_f (nI_nle (by omega) (by omega)) (sw_xle38 hn hn5 hi er hs hs2 hT z (by omega) (ih (h + 1) g (by omega) (by omega)))
theorem sw_xle {post : Int32 → Prop} {r st s i m : Nat} (hn : 1 ≤ n) (hn5 : n ≤ 5) (hi : i < n) (er : r = n - (i + 1)) (hs : st < 2 ^ n) (hs2 : s < 36) (hT : sw_Th n r st s w) (hm : m ≤ 8) (hp : post (nI (sw_ls n r st s m))) : wpX_lesser post (nI n, nI c, H, o, w, a) (nI st) (nI s) (nI i) (nI m) :=
  ⟨9, sw_xle6 hn hn5 hi er hs hs2 hT hm hp m 0 9 (by omega) (by omega)⟩
/-- rows of the table beyond K are right -/
def sw_Tk (n K : Nat) (w : Nat → Int32) : Prop := ∀ k, K ≤ k → k < 36 * 2 ^ n → w k = nI (sw_wy n k)
theorem sw_div36 {q t : Nat} (h : t < 36) : (36 * q + t) / 36 = q ∧ (36 * q + t) % 36 = t := by omega
theorem sw_Tk_Th {n K st s r : Nat} {w : Nat → Int32} (hn5 : n ≤ 5) (hs : st < 2 ^ n) (hs2 : s < 36) (hK : K ≤ 36 * st + s + 1) (hr : sw_pc st 5 + r + 1 = n) (hT : sw_Tk n K w) : sw_Th n r st s w := by
  intro p hp z t ht
  have k5 := sw_p5 hn5
  have ol := sw_or_lt st (by omega) p (by omega) z
  have ol2 := sw_lt_or hs hp
  have pc := sw_pc_or st (by omega) p (by omega)
  rw [hT (36 * (st ||| 2 ^ p) + t) (by omega) (by omega)]
  unfold sw_wy
  rw [(sw_div36 (by omega)).1, (sw_div36 (by omega)).2, show n - sw_pc (st ||| 2 ^ p) 5 = r by omega]
theorem sw_wy_all {n K : Nat} (hn5 : n ≤ 5) (e : K / 36 = 2 ^ n - 1) : sw_wy n K = if K % 36 = 0 then 1 else 0 := by
  have k5 := sw_p5 hn5
  have k0 := Nat.two_pow_pos n
  have pc := (sw_pc_n n (by omega) (2 ^ n - 1) (by omega) (by omega)).2.mpr rfl
  unfold sw_wy
  rw [e, pc, Nat.sub_self]
  show (if K % 36 = 0 then [[]] else [] : List (List Nat)).length = _
  by_cases z : K % 36 = 0
  · rw [if_pos z, if_pos z]; rfl
  · rw [if_neg z, if_neg z]; rfl
theorem sw_Tk_s {n K : Nat} {w : Nat → Int32} {x : Int32} (hT : sw_Tk n (K + 1) w) (hx : x = nI (sw_wy n K)) : sw_Tk n K (upd w K x) := by
  intro k a b
  by_cases e : k = K
  · rw [e, pk_us, hx]
  · rw [pk_un e]
    exact hT k (by omega) b
theorem sw_xfw38 {post : SX → Prop} (hn : 1 ≤ n) (hn5 : n ≤ 5) (hp : ∀ w', sw_Tk n 0 w' → post (nI n, nI c, H, o, w', a)) : ∀ K fu w, K < fu → K ≤ 36 * 2 ^ n → sw_Tk n K w → wX_findWays_38 post (nI (2 ^ n - 1)) (nI n) (nI c) fu (nI K + (-1)) H o w a := by
  have k5 := sw_p5 hn5
  have k0 := Nat.two_pow_pos n
  intro K
  induction K with
  | zero =>
    intro fu w hf hK hT
    obtain ⟨g, rfl⟩ : ∃ g, fu = g + 1 := ⟨fu - 1, by omega⟩
    exact br_t (by decide) (hp w hT)
  | succ K ih =>
    intro fu w hf hK hT
    obtain ⟨g, rfl⟩ : ∃ g, fu = g + 1 := ⟨fu - 1, by omega⟩
    rw [pk_m1]
    have hd : K / 36 < 2 ^ n := by omega
    have ek := Nat.div_add_mod K 36
    have c36 : ¬ (36 : Int32) = 0 := by decide
    have e1 : nI K / 36 = nI (K / 36) := pk_div (d := 36) (by omega) (by decide) (by decide)
    have e2 : nI K - nI K / 36 * 36 = nI (K % 36) := pk_rem (d := 36) (by omega) (by decide) (by decide)
    have hin : vp_in (nI K) 1152 := vp_in_nI (by omega) (by decide)
    refine br_f (nI_pos (by omega)) ⟨c36, nm_r e1 ⟨c36, nm_r e2 (pk_eq (K / 36) (2 ^ n - 1) (fun z => pk_eq (K % 36) 0 (fun y => ?_) (fun y => ?_)) (fun z => ?_))⟩⟩
    · refine ⟨hin, nm_r (e' := upd w K 1) ?_ (nm_e (ih g _ (by omega) (by omega) (sw_Tk_s hT ?_)))⟩
      · rw [nI_clamp (by omega)]
      · rw [sw_wy_all hn5 z, if_pos y]; rfl
    · refine ⟨hin, nm_r (e' := upd w K 0) ?_ (nm_e (ih g _ (by omega) (by omega) (sw_Tk_s hT ?_)))⟩
      · rw [nI_clamp (by omega)]
      · rw [sw_wy_all hn5 z, if_neg y]; rfl
    · have pn := sw_pc_n n (by omega) (K / 36) (by omega) hd
      have pl : sw_pc (K / 36) 5 < n := by
        have := pn.1
        have q : ¬ sw_pc (K / 36) 5 = n := fun y => z (pn.2.mp y)
        omega
      refine sw_xthr (by omega) (sw_xwf hn hn5 pl rfl hd (by omega) (sw_Tk_Th hn5 hd (by omega) (by omega) (by omega) hT) ⟨hin, nm_r (e' := upd w K (nI (sw_wy n K))) ?_ (nm_e (ih g _ (by omega) (by omega) (sw_Tk_s hT rfl)))⟩)
      rw [nI_clamp (by omega)]
      congr 2
      unfold sw_wy
      rw [← sw_ls_8, show n - (sw_pc (K / 36) 5 + 1) + 1 = n - sw_pc (K / 36) 5 by omega]
theorem sw_xfw {post : SX → Prop} (hn : 1 ≤ n) (hn5 : n ≤ 5) (hc : c ≤ 5) (hT : sw_Tab c w) (hp : ∀ w', sw_Tk n 0 w' → post (nI n, nI n, H, o, w', a)) : wpX_findWays post (nI n, nI c, H, o, w, a) := by
  have k5 := sw_p5 hn5
  have k0 := Nat.two_pow_pos n
  unfold wpX_findWays
  dsimp only
  refine pk_eq c n (fun e => ?_) (fun e => ?_)
  · subst e
    rcases hT with z | z
    · omega
    · exact hp w (fun k _ b => z k b)
  · refine nm_r (sw_all (by omega)) (nm_r (e' := nI (36 * 2 ^ n) + (-1)) ?_ ⟨36 * 2 ^ n + 1, sw_xfw38 hn hn5 hp (36 * 2 ^ n) _ w (by omega) (Nat.le_refl _) (fun k a b => absurd b (by omega))⟩)
    rw [nI_1, show 2 ^ n - 1 + 1 = 2 ^ n by omega]
    have e36 : (36 : Int32) * nI (2 ^ n) = nI (36 * 2 ^ n) := pk_mul 36 _
    rw [e36]
    generalize nI (36 * 2 ^ n) = x
    grind
end
end
section
/-! the reference goes through all patterns -/
section
variable {n : Nat} {H : Nat → Int32} {o m f : Nat → Int32} {q : Nat → Nat}
/-- other at level i: what is chosen before, the next height to try there, nothing behind -/
def sw_At (n : Nat) (q : Nat → Nat) (i c : Nat) (o : Nat → Int32) : Prop := (∀ j, j < i → q j ≤ 7 ∧ o j = nI (q j)) ∧ o i + 1 = nI c ∧ c ≤ 8 ∧ ∀ j, i < j → j < n → o j = -1
theorem sw_ynh26 {post : Int32 → Prop} {J : Int32 → Int32 → Prop} {i x : Nat} (hn : 1 ≤ n) (hn5 : n ≤ 5) (hi : i < n) (hx : x ≤ 7) (hq : ∀ j, j < i → q j ≤ 7 ∧ o j = nI (q j)) (h0 : sw_tk n q i / 2 ^ ((i + x) % n) % 2 = 0 → J (nI x) 0) (h1 : ¬ sw_tk n q i / 2 ^ ((i + x) % n) % 2 = 0 → J (nI (x + 1)) 1) : ∀ d j fu, j + d = i → d < fu → wY_nextHeight_26 post J (nI i) (nI x) (nI n) H o m f fu (nI (sw_tk n q j / 2 ^ ((i + x) % n) % 2)) (nI j) := by
  have ne := nI_ne0 (n := n) (by omega) (by omega)
  intro d
  induction d with
  | zero =>
    intro j fu e hf
    obtain ⟨g, rfl⟩ : ∃ g, fu = g + 1 := ⟨fu - 1, by omega⟩
    have e2 : j = i := by omega
    subst e2
    refine br_t (nI_le (Nat.le_refl _) (by omega)) ?_
    rcases sw_b2 (sw_tk n q j) ((j + x) % n) with z | z
    · rw [z]
      exact br_t rfl (h0 z)
    · rw [z]
      exact br_f (by decide) (nm_r (nI_1 x) (h1 (by omega)))
  | succ d ih =>
    intro j fu e hf
    obtain ⟨g, rfl⟩ : ∃ g, fu = g + 1 := ⟨fu - 1, by omega⟩
    have nx := ih (j + 1) g (by omega) (by omega)
    have et : sw_tk n q (j + 1) / 2 ^ ((i + x) % n) % 2 = if sw_ld n q j = (i + x) % n then 1 else sw_tk n q j / 2 ^ ((i + x) % n) % 2 := sw_obit _ _ _
    rw [et] at nx
    have hj := hq j (by omega)
    have l1 := sw_ld_lt hn q j
    have l2 : (i + x) % n < n := Nat.mod_lt _ hn
    have e1 : (nI j + o (nI j).toNatClampNeg) - (nI j + o (nI j).toNatClampNeg) / nI n * nI n = nI (sw_ld n q j) := by
      rw [nI_clamp (by omega), hj.2, nI_add, pk_rem (by omega) (by omega) (by omega)]
      rfl
    have e2 : (nI i + nI x) - (nI i + nI x) / nI n * nI n = nI ((i + x) % n) := by
      rw [nI_add, pk_rem (by omega) (by omega) (by omega)]
    refine br_f (nI_ge (by omega) (by omega)) ?_
    rw [e1, e2]
    rcases sw_b2 (sw_tk n q j) ((i + x) % n) with z | z
    · rw [z] at nx ⊢
      refine br_t rfl ⟨vp_in_nI (by omega) (by decide), ne, ne, pk_eq _ _ (fun y => ?_) (fun y => ?_) rfl rfl (by omega) (by omega)⟩
      · rw [if_pos y] at nx
        exact nm_r (nI_1 j) nx
      · rw [if_neg y] at nx
        exact nm_r (nI_1 j) nx
    · rw [z] at nx ⊢
      have nx2 : wY_nextHeight_26 post J (nI i) (nI x) (nI n) H o m f g (nI 1) (nI (j + 1)) := by
        by_cases y : sw_ld n q j = (i + x) % n
        · rw [if_pos y] at nx; exact nx
        · rw [if_neg y] at nx; exact nx
      exact br_f (by decide) (nm_r (nI_1 j) nx2)
theorem sw_ynh11 {post : Int32 → Prop} {i : Nat} (hn : 1 ≤ n) (hn5 : n ≤ 5) (hi : i < n) (hq : ∀ j, j < i → q j ≤ 7 ∧ o j = nI (q j)) : ∀ d fu, d ≤ 8 → d + 1 < fu → post (nI (sw_nh n q i d)) → wY_nextHeight_11 post (nI i) (nI n) H o m f fu (nI (8 - d)) 1 := by
  intro d
  induction d with
  | zero =>
    intro fu h8 hf hp
    obtain ⟨g, rfl⟩ : ∃ g, fu = g + 1 := ⟨fu - 1, by omega⟩
    exact br_f (by decide) (br_t (by decide) hp)
  | succ d ih =>
    intro fu h8 hf hp
    obtain ⟨g, rfl⟩ : ∃ g, fu = g + 1 := ⟨fu - 1, by omega⟩
    have ex : sw_nh n q i (d + 1) = if sw_tk n q i / 2 ^ ((i + (7 - d)) % n) % 2 = 0 then 7 - d else sw_nh n q i d := rfl
    rw [ex] at hp
    have e8 : 8 - (d + 1) = 7 - d := by omega
    rw [e8]
    refine br_f (by decide) (br_f (nI_ge (b := 8) (by omega) (by decide)) ⟨i + 1, ?_⟩)
    have st : nI (sw_tk n q 0 / 2 ^ ((i + (7 - d)) % n) % 2) = 0 := by
      show nI (0 / 2 ^ ((i + (7 - d)) % n) % 2) = 0
      rw [Nat.zero_div]
      rfl
    have k := sw_ynh26 (H := H) (o := o) (m := m) (f := f) (q := q) (post := post) (J := wY_nextHeight_11 post (nI i) (nI n) H o m f g) (x := 7 - d) hn hn5 hi (by omega) hq (fun z => ?_) (fun z => ?_) i 0 (i + 1) (by omega) (by omega)
    · rw [st] at k
      exact k
    · rw [if_pos z] at hp
      obtain ⟨g2, rfl⟩ : ∃ g2, g = g2 + 1 := ⟨g - 1, by omega⟩
      exact br_t rfl hp
    · rw [if_neg z] at hp
      have k2 := ih g (by omega) (by omega) hp
      rw [show 7 - d + 1 = 8 - d by omega]
      exact k2
theorem sw_ynh {post : Int32 → Prop} {i c : Nat} (hn : 1 ≤ n) (hn5 : n ≤ 5) (hi : i < n) (A : sw_At n q i c o) (hp : post (nI (sw_nh n q i (8 - c)))) : wpY_nextHeight post (nI n, H, o, m, f) (nI i) := by
  unfold wpY_nextHeight
  dsimp only
  have hc := A.2.2.1
  refine ⟨vp_in_nI (by omega) (by decide), nm_r (e' := nI c) ?_ ⟨10, ?_⟩⟩
  · rw [nI_clamp (by omega)]; exact A.2.1
  · have k := sw_ynh11 (H := H) (m := m) (f := f) hn hn5 hi A.1 (8 - c) 10 (by omega) (by omega) hp
    rw [show 8 - (8 - c) = c by omega] at k
    exact k
/-- the walk's measure -/
def sw_mu (q : Nat → Nat) : Nat → Nat
  | 0 => 0
  | i + 1 => sw_mu q i + (8 - q i) * 10 ^ (5 - i)
theorem sw_mu_c {q g : Nat → Nat} : ∀ i, (∀ j, j < i → q j = g j) → sw_mu q i = sw_mu g i
  | 0, _ => rfl
  | i + 1, e => by
    show sw_mu q i + (8 - q i) * 10 ^ (5 - i) = sw_mu g i + (8 - g i) * 10 ^ (5 - i)
    rw [sw_mu_c i (fun j hj => e j (by omega)), e i (by omega)]
theorem sw_mu_down {q : Nat → Nat} {i c x : Nat} (hi : i < 5) (hx : x ≤ 7) (hc : c ≤ x) : sw_mu (sw_s q i x) (i + 1) + (9 - 0) * 10 ^ (5 - (i + 1)) < sw_mu q i + (9 - c) * 10 ^ (5 - i) := by
  have e : sw_mu (sw_s q i x) (i + 1) = sw_mu q i + (8 - x) * 10 ^ (5 - i) := by
    show sw_mu (sw_s q i x) i + (8 - sw_s q i x i) * 10 ^ (5 - i) = _
    rw [sw_ss, sw_mu_c i sw_s_below]
  have p : 10 ^ (5 - i) = 10 * 10 ^ (5 - (i + 1)) := by
    rw [show 5 - i = 5 - (i + 1) + 1 by omega, Nat.pow_succ, Nat.mul_comm]
  have p0 : 0 < 10 ^ (5 - (i + 1)) := Nat.pow_pos (by decide)
  have m1 : (8 - x) * 10 ^ (5 - i) + 10 ^ (5 - i) ≤ (9 - c) * 10 ^ (5 - i) := by
    have := Nat.mul_le_mul_right (10 ^ (5 - i)) (show (8 - x) + 1 ≤ 9 - c by omega)
    rw [Nat.add_mul, Nat.one_mul] at this
    exact this
  rw [e]
  omega
theorem sw_mu_up {q : Nat → Nat} {i c : Nat} (h7 : q i ≤ 7) (hc : c ≤ 8) : sw_mu q i + (9 - (q i + 1)) * 10 ^ (5 - i) < sw_mu q (i + 1) + (9 - c) * 10 ^ (5 - (i + 1)) := by
  have e : sw_mu q (i + 1) = sw_mu q i + (8 - q i) * 10 ^ (5 - i) := rfl
  have p0 : 0 < (9 - c) * 10 ^ (5 - (i + 1)) := Nat.mul_pos (by omega) (Nat.pow_pos (by decide))
  rw [e, show 9 - (q i + 1) = 8 - q i by omega]
  omega
/-- the state between two calls: L is what is to come, the first of it stands in other -/
def sw_Cur (n : Nat) (L : List (List Nat)) (x : Int32) (o : Nat → Int32) : Prop := (L = [] ∧ x = 0) ∨ ∃ q : Nat → Nat, x = 1 ∧ (∀ j, j < n → q j ≤ 7 ∧ o j = nI (q j)) ∧ L = sw_ts q n 0 :: sw_rm n q (n - 1) (q (n - 1) + 1)
theorem sw_ynp15 {post : Int32 → SY → Prop} (hn : 1 ≤ n) (hn5 : n ≤ 5) : ∀ (fu i c : Nat) (q : Nat → Nat) (o : Nat → Int32), sw_mu q i + (9 - c) * 10 ^ (5 - i) < fu → i < n → sw_At n q i c o → (∀ x o', sw_Cur n (sw_rm n q i c) x o' → post x (nI n, H, o', m, f)) → wY_nextPattern_15 post (nI n) fu (nI i) H o m f := by
  have one : ∀ g x2 o', wY_nextPattern_68 post (nI n) (nI n) H o' m f → x2 = nI n → wY_nextPattern_15 post (nI n) (g + 1) x2 H o' m f := by
    intro g x2 o' k e
    subst e
    exact br_f (nI_pos (by omega)) (br_t (nI_le (Nat.le_refl _) (by omega)) k)
  intro fu
  induction fu with
  | zero => intro i c q o hm; exact absurd hm (Nat.not_lt_zero _)
  | succ g ih =>
    intro i c q o hm hi A hp
    have nh := sw_nh_go hi (q := q) (8 - c) (by omega)
    have hc := A.2.2.1
    generalize ex : sw_nh n q i (8 - c) = x at nh
    have hin : vp_in (nI i) 5 := vp_in_nI (by omega) (by decide)
    refine br_f (nI_pos (by omega)) (br_f (nI_ge (by omega) (by omega)) (sw_ynh hn hn5 hi A ?_))
    rw [ex]
    refine ⟨hin, nm_e ⟨hin, ?_⟩⟩
    rw [nI_clamp (by omega), pk_us]
    have g1 : ∃ g1, g = g1 + 1 := by
      have : 0 < (9 - c) * 10 ^ (5 - i) := Nat.mul_pos (by omega) (Nat.pow_pos (by decide))
      refine ⟨g - 1, ?_⟩
      have p10 : 10 ≤ 10 ^ (5 - i) := by
        rw [show 5 - i = (4 - i) + 1 by omega, Nat.pow_succ]
        have := Nat.pow_pos (n := 4 - i) (show 0 < 10 by decide)
        omega
      have := Nat.mul_le_mul (show 1 ≤ 9 - c by omega) p10
      omega
    refine pk_le x 7 (fun z => ?_) (fun z => ?_)
    · refine nm_r (nI_1 i) ?_
      by_cases e : i + 1 = n
      · obtain ⟨g1, rfl⟩ := g1
        refine one g1 _ _ ?_ (by rw [e])
        refine br_t rfl (hp 1 _ (Or.inr ⟨sw_s q i x, rfl, ?_, ?_⟩))
        · intro j hj
          by_cases y : j = i
          · subst y; rw [pk_us, sw_ss]; exact ⟨z, rfl⟩
          · rw [pk_un y, sw_sn y]; exact A.1 j (by omega)
        · rw [sw_rm_end e ex z, show n - 1 = i by omega]
      · refine ih (i + 1) 0 (sw_s q i x) _ ?_ (by omega) ⟨?_, ?_, by omega, ?_⟩ ?_
        · have md := sw_mu_down (q := q) (i := i) (c := c) (x := x) (by omega) z (by omega)
          omega
        · intro j hj
          by_cases y : j = i
          · subst y; rw [pk_us, sw_ss]; exact ⟨z, rfl⟩
          · rw [pk_un y, sw_sn y]; exact A.1 j (by omega)
        · rw [pk_un (by omega), A.2.2.2 (i + 1) (by omega) (by omega)]
          rfl
        · intro j a b
          rw [pk_un (by omega)]
          exact A.2.2.2 j (by omega) b
        · rw [← sw_rm_down (by omega) ex z]
          exact hp
    · have x8 : x = 8 := by omega
      subst x8
      refine ⟨hin, nm_e ?_⟩
      rw [sw_rm_no hi ex] at hp
      cases i with
      | zero =>
        obtain ⟨g1, rfl⟩ := g1
        refine nm_e (br_t (by decide) (br_f ?_ (hp 0 _ (Or.inl ⟨rfl, rfl⟩))))
        intro y
        have y2 : (nI 0 + (-1)).toInt = (nI n).toInt := congrArg Int32.toInt y
        rw [nI_toInt (by omega), show (nI 0 + (-1)).toInt = -1 by decide] at y2
        omega
      | succ i =>
        have h7 := A.1 i (by omega)
        refine nm_r (pk_m1 i) (ih i (q i + 1) q _ ?_ (by omega) ⟨?_, ?_, by omega, ?_⟩ hp)
        · have := sw_mu_up (q := q) (i := i) (c := c) h7.1 hc
          omega
        · intro j hj
          rw [pk_un (by omega), pk_un (by omega)]
          exact A.1 j (by omega)
        · rw [pk_un (by omega), pk_un (by omega), h7.2, nI_1]
        · intro j a b
          by_cases y : j = i + 1
          · subst y; rw [pk_us]
          · rw [pk_un y, pk_un y]
            exact A.2.2.2 j (by omega) b
theorem sw_ynp1 {post : Int32 → SY → Prop} (hn : 1 ≤ n) (hn5 : n ≤ 5) (ho : ∀ j, j < 5 → o j = -1) (hp : ∀ x o', sw_Cur n (sw_pt n n 0) x o' → post x (nI n, H, o', m, f)) : wpY_nextPattern post (nI n, H, o, m, f) 1 := by
  unfold wpY_nextPattern
  dsimp only
  refine br_f (by decide) ⟨_, sw_ynp15 hn hn5 _ 0 0 (fun _ => 0) o (Nat.lt_succ_self _) (by omega) ⟨fun j hj => absurd hj (Nat.not_lt_zero j), ?_, by omega, fun j _ b => ho j (by omega)⟩ ?_⟩
  · rw [ho 0 (by omega)]; rfl
  · rw [sw_rm_0 n hn]; exact hp
theorem sw_ynp0 {post : Int32 → SY → Prop} (hn : 1 ≤ n) (hn5 : n ≤ 5) (hq : ∀ j, j < n → q j ≤ 7 ∧ o j = nI (q j)) (hp : ∀ x o', sw_Cur n (sw_rm n q (n - 1) (q (n - 1) + 1)) x o' → post x (nI n, H, o', m, f)) : wpY_nextPattern post (nI n, H, o, m, f) 0 := by
  unfold wpY_nextPattern
  dsimp only
  have h7 := hq (n - 1) (by omega)
  refine br_t rfl (nm_r (e' := nI (n - 1)) (pk_sub (b := 1) hn) ⟨_, sw_ynp15 hn hn5 _ (n - 1) (q (n - 1) + 1) q o (Nat.lt_succ_self _) (by omega) ⟨fun j hj => hq j (by omega), ?_, by omega, fun j a b => by omega⟩ hp⟩)
  rw [h7.2, nI_1]
theorem sw_ybeg2 {post : SY → Prop} (hp : ∀ o', (∀ j, j < 5 → o' j = -1) → post (nI n, H, o', m, f)) : ∀ d i fu o, i + d = 5 → d < fu → (∀ j, j < i → o j = -1) → wY_begin_2 post (nI n) fu (nI i) H o m f := by
  intro d
  induction d with
  | zero =>
    intro i fu o e hf ho
    obtain ⟨g, rfl⟩ : ∃ g, fu = g + 1 := ⟨fu - 1, by omega⟩
    have e2 : i = 5 := by omega
    subst e2
    exact br_t (nI_le (a := 5) (Nat.le_refl _) (by omega)) (hp o ho)
  | succ d ih =>
    intro i fu o e hf ho
    obtain ⟨g, rfl⟩ : ∃ g, fu = g + 1 := ⟨fu - 1, by omega⟩
    refine br_f (nI_ge (b := 5) (by omega) (by decide)) ⟨vp_in_nI (by omega) (by decide), nm_e (nm_r (nI_1 i) (ih (i + 1) g _ (by omega) (by omega) (fun j hj => ?_)))⟩
    rw [nI_clamp (by omega)]
    by_cases y : j = i
    · subst y; exact pk_us
    · rw [pk_un y]; exact ho j (by omega)
theorem sw_ybeg {post : SY → Prop} (hp : ∀ o', (∀ j, j < 5 → o' j = -1) → post (nI n, H, o', m, f)) : wpY_begin post (nI n, H, o, m, f) :=
  ⟨6, sw_ybeg2 hp 5 0 6 o (by omega) (by omega) (fun j hj => absurd hj (Nat.not_lt_zero j))⟩
theorem sw_ysum4 {post : Int32 → Prop} (hn5 : n ≤ 5) (hq : ∀ j, j < n → q j ≤ 7 ∧ o j = nI (q j)) (hp : post (nI (sw_su q n))) : ∀ d i fu, i + d = n → d < fu → wY_sum_4 post (nI n) H o m f fu (nI (sw_su q i)) (nI i) := by
  intro d
  induction d with
  | zero =>
    intro i fu e hf
    obtain ⟨g, rfl⟩ : ∃ g, fu = g + 1 := ⟨fu - 1, by omega⟩
    have e2 : i = n := by omega
    subst e2
    exact br_t (nI_le (Nat.le_refl _) (by omega)) hp
  | succ d ih =>
    intro i fu e hf
    obtain ⟨g, rfl⟩ : ∃ g, fu = g + 1 := ⟨fu - 1, by omega⟩
    refine br_f (nI_ge (by omega) (by omega)) ⟨vp_in_nI (by omega) (by decide), nm_r (e' := nI (sw_su q (i + 1))) ?_ (nm_r (nI_1 i) (ih (i + 1) g (by omega) (by omega)))⟩
    rw [nI_clamp (by omega), (hq i (by omega)).2]
    exact nI_add _ _
theorem sw_ysum {post : Int32 → Prop} (hn5 : n ≤ 5) (hq : ∀ j, j < n → q j ≤ 7 ∧ o j = nI (q j)) (hp : post (nI (sw_ts q n 0).sum)) : wpY_sum post (nI n, H, o, m, f) := by
  rw [← sw_su_ts] at hp
  exact ⟨n + 1, sw_ysum4 hn5 hq hp n 0 _ (by omega) (by omega)⟩
theorem sw_ts7 {q : Nat → Nat} : ∀ r i, (∀ j, i ≤ j → j < i + r → q j ≤ 7) → (sw_ts q r i).sum ≤ 7 * r
  | 0, _, _ => Nat.le_refl 0
  | r + 1, i, h => by
    have a := sw_ts7 r (i + 1) (fun j a b => h j (by omega) (by omega))
    have b := h i (by omega) (by omega)
    show (q i :: sw_ts q r (i + 1)).sum ≤ _
    rw [List.sum_cons]
    omega
theorem sw_yown2 {post : Int32 → Prop} {h : Nat → Nat} (hn5 : n ≤ 5) (hh : ∀ j, h j ≤ 7) (hq : ∀ j, j < n → q j ≤ 7 ∧ o j = nI (q j)) (h1 : sw_ts q n 0 = sw_ts h n 0 → post 1) (h0 : ¬ sw_ts q n 0 = sw_ts h n 0 → post 0) : ∀ d i fu, i + d = n → d < fu → (∀ j, j < i → q j = h j) → wY_isOwn_2 post (nI n) (sw_H h) o m f fu (nI i) := by
  intro d
  induction d with
  | zero =>
    intro i fu e hf E
    obtain ⟨g, rfl⟩ : ∃ g, fu = g + 1 := ⟨fu - 1, by omega⟩
    have e2 : i = n := by omega
    subst e2
    exact br_t (nI_le (Nat.le_refl _) (by omega)) (h1 (sw_ts_c i 0 (fun j _ b => E j (by omega))))
  | succ d ih =>
    intro i fu e hf E
    obtain ⟨g, rfl⟩ : ∃ g, fu = g + 1 := ⟨fu - 1, by omega⟩
    have q7 := hq i (by omega)
    have h7 := hh i
    refine br_f (nI_ge (by omega) (by omega)) ⟨vp_in_nI (by omega) (by decide), vp_in_nI (by omega) (by decide), ?_⟩
    rw [nI_clamp (by omega), q7.2]
    refine pk_eq (q i) (h i) (fun z => nm_r (nI_1 i) (ih (i + 1) g (by omega) (by omega) (fun j hj => ?_))) (fun z => h0 (fun y => z (sw_ts_inj n 0 y i (by omega) (by omega))))
    by_cases y : j = i
    · subst y; exact z
    · exact E j (by omega)
theorem sw_yown {post : Int32 → Prop} {h : Nat → Nat} (hn5 : n ≤ 5) (hh : ∀ j, h j ≤ 7) (hq : ∀ j, j < n → q j ≤ 7 ∧ o j = nI (q j)) (h1 : sw_ts q n 0 = sw_ts h n 0 → post 1) (h0 : ¬ sw_ts q n 0 = sw_ts h n 0 → post 0) : wpY_isOwn post (nI n, sw_H h, o, m, f) :=
  ⟨n + 1, sw_yown2 hn5 hh hq h1 h0 n 0 _ (by omega) (by omega) (fun j hj => absurd hj (Nat.not_lt_zero j))⟩
end
end
section
/-! count, rank, load -/
def sw_sf (s : Nat) (L : List (List Nat)) : List (List Nat) := L.filter (fun p => decide (p.sum = s))
theorem sw_sf_y {s : Nat} {p : List Nat} {L : List (List Nat)} (e : p.sum = s) : sw_sf s (p :: L) = p :: sw_sf s L := List.filter_cons_of_pos (decide_eq_true e)
theorem sw_sf_n {s : Nat} {p : List Nat} {L : List (List Nat)} (e : ¬ p.sum = s) : sw_sf s (p :: L) = sw_sf s L := List.filter_cons_of_neg (fun z => e (of_decide_eq_true z))
theorem sw_Tk_Tab {n : Nat} {w : Nat → Int32} (h : sw_Tk n 0 w) : sw_Tab n w := Or.inr (fun k hk => h k (Nat.zero_le k) hk)
theorem sw_wy0 {n s : Nat} (hs : s < 36) : sw_wy n s = (sw_fl n n 0 s).length := by
  unfold sw_wy
  rw [Nat.div_eq_of_lt hs, Nat.mod_eq_of_lt hs]
  rfl
theorem sw_nb35 {n b : Nat} (hn5 : n ≤ 5) (hb : b ≤ 7) : n * b ≤ 35 := Nat.mul_le_mul hn5 hb
theorem sw_Cur_in {n : Nat} {L : List (List Nat)} {x : Int32} {o : Nat → Int32} (C : sw_Cur n L x o) {P : Prop} (h0 : L = [] → x = 0 → P) (h1 : ∀ q : Nat → Nat, x = 1 → (∀ j, j < n → q j ≤ 7 ∧ o j = nI (q j)) → L = sw_ts q n 0 :: sw_rm n q (n - 1) (q (n - 1) + 1) → P) : P := by
  rcases C with ⟨a, b⟩ | ⟨q, a, b, c⟩
  · exact h0 a b
  · exact h1 q a b c
section
variable {n : Nat} {m f : Nat → Int32}
theorem sw_ycnt22 {H : Nat → Int32} {post : Int32 → SY → Prop} {b : Nat} (hn : 1 ≤ n) (hn5 : n ≤ 5) (hb : b ≤ 7) : ∀ (L : List (List Nat)) (fu cnt : Nat) (x : Int32) (o : Nat → Int32), L.length < fu → sw_Cur n L x o → (∀ o', post (nI (cnt + (sw_sf (b * n) L).length)) (nI n, H, o', m, f)) → wY_count_22 post (nI b) fu (nI cnt) x (nI n) H o m f := by
  have b35 := sw_nb35 hn5 hb
  rw [Nat.mul_comm] at b35
  intro L
  induction L with
  | nil =>
    intro fu cnt x o hf C hp
    obtain ⟨g, rfl⟩ : ∃ g, fu = g + 1 := ⟨fu - 1, by omega⟩
    refine sw_Cur_in C (fun _ e => ?_) (fun q _ _ e => by cases e)
    subst e
    exact br_t rfl (hp o)
  | cons p L ih =>
    intro fu cnt x o hf C hp
    obtain ⟨g, rfl⟩ : ∃ g, fu = g + 1 := ⟨fu - 1, by omega⟩
    have hl : L.length < g := by rw [List.length_cons] at hf; omega
    refine sw_Cur_in C (fun e _ => by cases e) (fun q e hq eL => ?_)
    subst e
    injection eL with e1 e2
    have s7 := sw_ts7 (q := q) n 0 (fun j _ hj => (hq j (by omega)).1)
    refine br_f (by decide) (sw_ysum hn5 hq ?_)
    rw [← e1] at s7 ⊢
    refine pk_eq p.sum (b * n) (fun z => ?_) (fun z => ?_) rfl (pk_mul b n) (by omega) (by omega)
    · rw [sw_sf_y z] at hp
      refine nm_r (nI_1 cnt) (sw_ynp0 hn hn5 hq (fun x' o' C' => ih g (cnt + 1) x' o' hl (by rw [e2]; exact C') (fun o2 => ?_)))
      have k := hp o2
      rw [List.length_cons, show cnt + ((sw_sf (b * n) L).length + 1) = cnt + 1 + (sw_sf (b * n) L).length by omega] at k
      exact k
    · rw [sw_sf_n z] at hp
      exact sw_ynp0 hn hn5 hq (fun x' o' C' => ih g cnt x' o' hl (by rw [e2]; exact C') hp)
theorem sw_yrk27 {h : Nat → Nat} {post : Int32 → SY → Prop} {b : Nat} (hn : 1 ≤ n) (hn5 : n ≤ 5) (hh : ∀ j, h j ≤ 7) (hb : b ≤ 7) (hs : (sw_ts h n 0).sum = b * n) : ∀ (L : List (List Nat)) (fu cnt : Nat) (x : Int32) (o : Nat → Int32), L.length < fu → sw_Cur n L x o → (∀ o', post (nI (cnt + sw_bf (sw_ts h n 0) (sw_sf (b * n) L))) (nI n, sw_H h, o', m, f)) → wY_rank_27 post (nI b) fu (nI cnt) x (nI n) (sw_H h) o m f := by
  have b35 := sw_nb35 hn5 hb
  rw [Nat.mul_comm] at b35
  intro L
  induction L with
  | nil =>
    intro fu cnt x o hf C hp
    obtain ⟨g, rfl⟩ : ∃ g, fu = g + 1 := ⟨fu - 1, by omega⟩
    refine sw_Cur_in C (fun _ e => ?_) (fun q _ _ e => by cases e)
    subst e
    exact br_t rfl (hp o)
  | cons p L ih =>
    intro fu cnt x o hf C hp
    obtain ⟨g, rfl⟩ : ∃ g, fu = g + 1 := ⟨fu - 1, by omega⟩
    have hl : L.length < g := by rw [List.length_cons] at hf; omega
    refine sw_Cur_in C (fun e _ => by cases e) (fun q e hq eL => ?_)
    subst e
    injection eL with e1 e2
    have s7 := sw_ts7 (q := q) n 0 (fun j _ hj => (hq j (by omega)).1)
    refine br_f (by decide) (sw_yown hn5 hh hq (fun y => ?_) (fun y => ?_))
    · refine br_f (by decide) ?_
      have k := hp o
      have z : p.sum = b * n := by rw [e1, y, hs]
      rw [sw_sf_y z] at k
      have k0 : sw_bf (sw_ts h n 0) (p :: sw_sf (b * n) L) = 0 := if_pos (by rw [e1, y])
      rw [k0] at k
      exact k
    · refine br_t rfl (sw_ysum hn5 hq ?_)
      rw [← e1] at s7 y ⊢
      refine pk_eq p.sum (b * n) (fun z => ?_) (fun z => ?_) rfl (pk_mul b n) (by omega) (by omega)
      · rw [sw_sf_y z] at hp
        refine nm_r (nI_1 cnt) (sw_ynp0 hn hn5 hq (fun x' o' C' => ih g (cnt + 1) x' o' hl (by rw [e2]; exact C') (fun o2 => ?_)))
        have k := hp o2
        have k0 : sw_bf (sw_ts h n 0) (p :: sw_sf (b * n) L) = sw_bf (sw_ts h n 0) (sw_sf (b * n) L) + 1 := if_neg y
        rw [k0, show cnt + (sw_bf (sw_ts h n 0) (sw_sf (b * n) L) + 1) = cnt + 1 + sw_bf (sw_ts h n 0) (sw_sf (b * n) L) by omega] at k
        exact k
      · rw [sw_sf_n z] at hp
        exact sw_ynp0 hn hn5 hq (fun x' o' C' => ih g cnt x' o' hl (by rw [e2]; exact C') hp)
theorem sw_yld_no {H : Nat → Int32} {post : Int32 → SY → Prop} {b : Nat} {K : Int32} (hn : 1 ≤ n) (hn5 : n ≤ 5) (hb : b ≤ 7) (hp : ∀ o', post (-4) (nI n, H, o', m, f)) : ∀ (L : List (List Nat)) (fu cnt : Nat) (x : Int32) (o : Nat → Int32), L.length < fu → sw_Cur n L x o → (∀ j, j < (sw_sf (b * n) L).length → ¬ nI (cnt + j) = K) → wY_load_23 post (nI b) K fu (nI cnt) x (nI n) H o m f := by
  have b35 := sw_nb35 hn5 hb
  rw [Nat.mul_comm] at b35
  intro L
  induction L with
  | nil =>
    intro fu cnt x o hf C hN
    obtain ⟨g, rfl⟩ : ∃ g, fu = g + 1 := ⟨fu - 1, by omega⟩
    refine sw_Cur_in C (fun _ e => ?_) (fun q _ _ e => by cases e)
    subst e
    exact br_t rfl (hp o)
  | cons p L ih =>
    intro fu cnt x o hf C hN
    obtain ⟨g, rfl⟩ : ∃ g, fu = g + 1 := ⟨fu - 1, by omega⟩
    have hl : L.length < g := by rw [List.length_cons] at hf; omega
    refine sw_Cur_in C (fun e _ => by cases e) (fun q e hq eL => ?_)
    subst e
    injection eL with e1 e2
    have s7 := sw_ts7 (q := q) n 0 (fun j _ hj => (hq j (by omega)).1)
    refine br_f (by decide) (sw_ysum hn5 hq ?_)
    rw [← e1] at s7 ⊢
    refine pk_eq p.sum (b * n) (fun z => ?_) (fun z => ?_) rfl (pk_mul b n) (by omega) (by omega)
    · rw [sw_sf_y z, List.length_cons] at hN
      refine br_f (hN 0 (by omega)) (nm_r (nI_1 cnt) (sw_ynp0 hn hn5 hq (fun x' o' C' => ih g (cnt + 1) x' o' hl (by rw [e2]; exact C') (fun j hj => ?_))))
      have k := hN (j + 1) (by omega)
      rw [show cnt + (j + 1) = cnt + 1 + j by omega] at k
      exact k
    · rw [sw_sf_n z] at hN
      exact sw_ynp0 hn hn5 hq (fun x' o' C' => ih g cnt x' o' hl (by rw [e2]; exact C') hN)
theorem sw_yld_yes {h : Nat → Nat} {post : Int32 → SY → Prop} {b : Nat} {t : Nat → Nat} (hn : 1 ≤ n) (hn5 : n ≤ 5) (hb : b ≤ 7) (hp : ∀ o', post 0 (nI n, sw_H (sw_cp h t n), o', m, f)) : ∀ (L : List (List Nat)) (fu cnt e : Nat) (x : Int32) (o : Nat → Int32), L.length < fu → sw_Cur n L x o → (sw_sf (b * n) L)[e]? = some (sw_ts t n 0) → cnt + e < 2 ^ 31 → wY_load_23 post (nI b) (nI (cnt + e)) fu (nI cnt) x (nI n) (sw_H h) o m f := by
  have b35 := sw_nb35 hn5 hb
  rw [Nat.mul_comm] at b35
  intro L
  induction L with
  | nil =>
    intro fu cnt e x o hf C hN
    exact absurd (show (none : Option (List Nat)) = some (sw_ts t n 0) from hN) (by intro z; cases z)
  | cons p L ih =>
    intro fu cnt e x o hf C hN he
    obtain ⟨g, rfl⟩ : ∃ g, fu = g + 1 := ⟨fu - 1, by omega⟩
    have hl : L.length < g := by rw [List.length_cons] at hf; omega
    refine sw_Cur_in C (fun e _ => by cases e) (fun q ex hq eL => ?_)
    subst ex
    injection eL with e1 e2
    have s7 := sw_ts7 (q := q) n 0 (fun j _ hj => (hq j (by omega)).1)
    refine br_f (by decide) (sw_ysum hn5 hq ?_)
    rw [← e1] at s7 ⊢
    refine pk_eq p.sum (b * n) (fun z => ?_) (fun z => ?_) rfl (pk_mul b n) (by omega) (by omega)
    · rw [sw_sf_y z] at hN
      refine pk_eq cnt (cnt + e) (fun y => ?_) (fun y => ?_) rfl rfl (by omega) he
      · have e0 : e = 0 := by omega
        subst e0
        have e3 : p = sw_ts t n 0 := Option.some.inj hN
        have e4 : sw_ts q n 0 = sw_ts t n 0 := by rw [← e1, e3]
        have k := sw_ycp2 (h := h) (o := o) (m := m) (f := f) (post := post) hn5 (g := q) (fun j hj => (hq j hj).2) (by rw [sw_cpc (fun j hj => sw_ts_inj n 0 e4 j (by omega) (by omega))]; exact hp o) n 0 (n + 1) (by omega) (by omega)
        rw [sw_cp0] at k
        exact ⟨n + 1, k⟩
      · obtain ⟨e', rfl⟩ : ∃ e', e = e' + 1 := ⟨e - 1, by omega⟩
        have hN2 : (sw_sf (b * n) L)[e']? = some (sw_ts t n 0) := hN
        refine nm_r (nI_1 cnt) (sw_ynp0 hn hn5 hq (fun x' o' C' => ?_))
        have k := ih g (cnt + 1) e' x' o' hl (by rw [e2]; exact C') hN2 (by omega)
        rw [show cnt + 1 + e' = cnt + (e' + 1) by omega] at k
        exact k
    · rw [sw_sf_n z] at hN
      exact sw_ynp0 hn hn5 hq (fun x' o' C' => ih g cnt e x' o' hl (by rw [e2]; exact C') hN he)
end
theorem i_vc_count {k : Nat} {u : SX} {v : SY} (I : i_Rel k u v) (hk : k + 3 ≤ 1536) (v1 : Int32) : wpX_count (fun r u' => wpY_count (fun r' v' => r' = r ∧ i_Rel (k + 3) u' v') v v1) u v1 := by
  obtain ⟨n, c, h, oX, w, aX, oY, m, f, rfl, rfl, hn, hn5, hh, hc, hT⟩ := I
  unfold wpX_count wpY_count
  dsimp only
  rcases sw_h7 v1 with ⟨b, hb, rfl⟩ | hb
  · have b35 := sw_nb35 hn5 hb
    refine sw_xbh0 hb (br_t (rfl : (0 : Int32) = 0) (sw_xfw hn hn5 hc hT (fun w' hw => ?_)))
    dsimp only
    rw [pk_mul]
    refine ⟨vp_in_nI (by omega) (by decide), sw_ynb0 hb (br_t (rfl : (0 : Int32) = 0) (sw_ybeg (fun o1 ho => sw_ynp1 hn hn5 ho (fun x o2 C => ⟨(sw_pt n n 0).length + 1, sw_ycnt22 hn hn5 hb (sw_pt n n 0) _ 0 x o2 (Nat.lt_succ_self _) C (fun o3 => ⟨?_, sw_rel hn hn5 hh hn5 (sw_Tk_Tab hw)⟩)⟩))))⟩
    rw [nI_clamp (by omega), hw _ (Nat.zero_le _) (by have := Nat.two_pow_pos n; omega), sw_wy0 (by omega), Nat.zero_add, Nat.mul_comm b n]
    unfold sw_sf
    rw [sw_flt]
  · exact sw_xbh1 hb (br_f (by decide : ¬ (1 : Int32) = 0) (sw_ynb1 hb (br_f (by decide : ¬ (1 : Int32) = 0) ⟨rfl, sw_rel hn hn5 hh hc hT⟩)))
/-! rank -/
section
variable {n c : Nat} {h : Nat → Nat} {o w a : Nat → Int32}
theorem sw_xrk29 {post : Int32 → SX → Prop} {R : Nat} (hn : 1 ≤ n) (hn5 : n ≤ 5) (hh : ∀ j, h j ≤ 7) (hj : sw_jg n h = true) (hw : sw_Tk n 0 w) (hp : post (nI R) (nI n, nI c, sw_H h, o, w, a)) : ∀ d i fu cnt, i + d = n → d < fu → cnt + sw_bf (sw_ts h d i) (sw_fl n d (sw_tk n h i) (sw_ts h d i).sum) = R → wX_rank_29 post (nI n) (nI c) (sw_H h) o w a fu (nI (sw_tk n h i)) (nI (sw_ts h d i).sum) (nI cnt) (nI i) := by
  intro d
  induction d with
  | zero =>
    intro i fu cnt e hf hR
    obtain ⟨g, rfl⟩ : ∃ g, fu = g + 1 := ⟨fu - 1, by omega⟩
    have e2 : i = n := by omega
    subst e2
    have e3 : cnt + 0 = R := hR
    rw [Nat.add_zero] at e3
    subst e3
    exact br_t (nI_le (Nat.le_refl _) (by omega)) hp
  | succ d ih =>
    intro i fu cnt e hf hR
    obtain ⟨g, rfl⟩ : ∃ g, fu = g + 1 := ⟨fu - 1, by omega⟩
    have hin : vp_in (nI i) 5 := vp_in_nI (by omega) (by decide)
    have s7 := sw_ts7 (q := h) (d + 1) i (fun j _ _ => hh j)
    have es : (sw_ts h (d + 1) i).sum = h i + (sw_ts h d (i + 1)).sum := List.sum_cons
    have tl := sw_tk_lt hn h i
    have pe := sw_pc_e hn hn5 hj (i := i) (by omega)
    have ll := sw_ld_lt hn h i
    have h7 := hh i
    rw [sw_own_bf hn hn5 hh hj (by omega) (show d = n - (i + 1) by omega)] at hR
    refine br_f (nI_ge (by omega) (by omega)) ⟨hin, ?_⟩
    rw [sw_rd (by omega)]
    refine sw_xle hn hn5 (by omega) (show d = n - (i + 1) by omega) tl (by omega) (sw_Tk_Th hn5 tl (by omega) (Nat.zero_le _) (by omega) hw) (by omega) (nm_r (nI_add _ _) (sw_xland hn hn5 hh (by omega) (nm_r (sw_orp (by omega)) ⟨hin, nm_r (e' := nI (sw_ts h d (i + 1)).sum) ?_ (nm_r (nI_1 i) (ih (i + 1) g _ (by omega) (by omega) (by omega)))⟩)))
    rw [pk_sub (by omega), es, Nat.add_sub_cancel_left]
end
theorem i_vc_rank {k : Nat} {u : SX} {v : SY} (I : i_Rel k u v) (hk : k + 3 ≤ 1536) : wpX_rank (fun r u' => wpY_rank (fun r' v' => r' = r ∧ i_Rel (k + 3) u' v') v) u := by
  obtain ⟨n, c, h, oX, w, aX, oY, m, f, rfl, rfl, hn, hn5, hh, hc, hT⟩ := I
  unfold wpX_rank wpY_rank
  dsimp only
  refine sw_xfits hn hn5 hh (sw_br (fun e => ?_) (fun e => sw_xfw hn hn5 hc hT (fun w' hw => ?_)))
  · refine sw_yfits hn hn5 hh ?_
    rw [sw_b0 e]
    exact br_t rfl ⟨rfl, sw_rel hn hn5 hh hc hT⟩
  · dsimp only
    refine sw_xsum hn5 ⟨n + 1, ?_⟩
    rw [sw_su_ts]
    have nz : sw_jg n h = false → False := fun z => by rw [e] at z; exact absurd z (by decide)
    have bl := sw_su_ball hn hn5 hh e
    have b7 := sw_pc_le (sw_st n h 1020) 7
    refine sw_xrk29 hn hn5 hh e hw ?_ n 0 (n + 1) 0 (by omega) (by omega) (Nat.zero_add _)
    refine sw_yfits hn hn5 hh ?_
    rw [sw_b1 e]
    refine br_f (by decide) (sw_yballs hn hn5 hh (fun z => (nz z).elim) (fun _ => sw_ybeg (fun o1 ho => sw_ynp1 hn hn5 ho (fun x o2 C => ⟨(sw_pt n n 0).length + 1, sw_yrk27 hn hn5 hh b7 bl.symm (sw_pt n n 0) _ 0 x o2 (Nat.lt_succ_self _) C (fun o3 => ⟨?_, sw_rel hn hn5 hh hn5 (sw_Tk_Tab hw)⟩)⟩))))
    unfold sw_sf
    rw [sw_flt, Nat.zero_add, bl]
    rfl
/-! load -/
theorem sw_fl_q (n : Nat) : ∀ r st s p, p ∈ sw_fl n r st s → ∀ i, ∃ q : Nat → Nat, p = sw_ts q r i ∧ ∀ j, q j ≤ 7
  | 0, st, s, p, hp, i => by
    have hp2 : p ∈ (if s = 0 then [[]] else [] : List (List Nat)) := hp
    by_cases e : s = 0
    · rw [if_pos e] at hp2
      exact ⟨fun _ => 0, List.mem_singleton.mp hp2, fun _ => Nat.zero_le 7⟩
    · rw [if_neg e] at hp2
      exact absurd hp2 List.not_mem_nil
  | r + 1, st, s, p, hp, i => by
    rw [sw_fl_s] at hp
    obtain ⟨h, h7, hm⟩ := sw_go_mem 8 hp
    unfold sw_fb at hm
    by_cases e : st / 2 ^ sw_pl n r h % 2 = 0 ∧ h ≤ s
    · rw [if_pos e] at hm
      obtain ⟨t, ht, rfl⟩ := List.mem_map.mp hm
      obtain ⟨q, rfl, q7⟩ := sw_fl_q n r _ _ t ht (i + 1)
      refine ⟨sw_s q i h, ?_, sw_s7 q7 h7⟩
      show h :: sw_ts q r (i + 1) = sw_s q i h i :: sw_ts (sw_s q i h) r (i + 1)
      rw [sw_ss]
      congr 1
      exact sw_ts_c r (i + 1) (fun j a b => (sw_sn (by omega)).symm)
    · rw [if_neg e] at hm
      exact absurd hm List.not_mem_nil
section
variable {n c : Nat} {h : Nat → Nat} {o w a : Nat → Int32}
theorem sw_xld59 {post : Int32 → SX → Prop} {J : Int32 → Int32 → Int32 → Int32 → (Nat → Int32) → (Nat → Int32) → (Nat → Int32) → (Nat → Int32) → Prop} {H : Nat → Int32} {r st s i left : Nat} (hn : 1 ≤ n) (hn5 : n ≤ 5) (hi : i < n) (er : r = n - (i + 1)) (hs : st < 2 ^ n) (hs2 : s < 36) (hT : sw_Th n r st s w) (hl : left < 2 ^ 31) (h8 : left < sw_ls n r st s 8) (hK : ∀ x, x ≤ 7 → sw_ls n r st s x ≤ left → left < sw_ls n r st s (x + 1) → wX_load_90 post J (nI s) (nI st) (nI left) (nI i) (nI x) (nI n) (nI c) H o w a) : ∀ d x fu, x + d = 7 → d < fu → sw_ls n r st s x ≤ left → wX_load_59 post J (nI s) (nI st) (nI left) (nI i) (nI n) (nI c) H o w a fu (nI x) := by
  intro d
  induction d with
  | zero =>
    intro x fu e hf hx
    obtain ⟨g, rfl⟩ : ∃ g, fu = g + 1 := ⟨fu - 1, by omega⟩
    have e2 : x = 7 := by omega
    subst e2
    exact br_t (by decide) (hK 7 (by omega) hx h8)
  | succ d ih =>
    intro x fu e hf hx
    obtain ⟨g, rfl⟩ : ∃ g, fu = g + 1 := ⟨fu - 1, by omega⟩
    refine br_f (nI_ge (b := 7) (by omega) (by decide)) ?_
    rw [nI_1]
    have lt := sw_ls_lt n r st s (by omega) (h := x + 1) (by omega)
    exact sw_xle hn hn5 hi er hs hs2 hT (by omega) (pk_lt left (sw_ls n r st s (x + 1)) (fun z => hK x (by omega) hx z) (fun z => nm_e (ih (x + 1) g (by omega) (by omega) z)) rfl rfl hl lt)
theorem sw_xld47 {post : Int32 → SX → Prop} {q : Nat → Nat} (hn : 1 ≤ n) (hn5 : n ≤ 5) (hh : ∀ j, h j ≤ 7) (hq : ∀ j, q j ≤ 7) (hw : sw_Tk n 0 w) (hp : post 0 (nI n, nI c, sw_H (sw_cp h q n), o, w, a)) : ∀ d i fu s left, i + d = n → d < fu → s < 36 → left < 2 ^ 31 → sw_pc (sw_tk n q i) 5 = i → (sw_fl n d (sw_tk n q i) s)[left]? = some (sw_ts q d i) → wX_load_47 post (nI n) (nI c) fu (nI s) (nI (sw_tk n q i)) (nI left) (nI i) (sw_H (sw_cp h q i)) o w a := by
  intro d
  induction d with
  | zero =>
    intro i fu s left e hf hs hl hpc hL
    obtain ⟨g, rfl⟩ : ∃ g, fu = g + 1 := ⟨fu - 1, by omega⟩
    have e2 : i = n := by omega
    subst e2
    exact br_t (nI_le (Nat.le_refl _) (by omega)) hp
  | succ d ih =>
    intro i fu s left e hf hs hl hpc hL
    obtain ⟨g, rfl⟩ : ∃ g, fu = g + 1 := ⟨fu - 1, by omega⟩
    have k5 := sw_p5 hn5
    have hin : vp_in (nI i) 5 := vp_in_nI (by omega) (by decide)
    have tl := sw_tk_lt hn q i
    have er : d = n - (i + 1) := by omega
    have Th := sw_Tk_Th hn5 tl hs (Nat.zero_le _) (show sw_pc (sw_tk n q i) 5 + d + 1 = n by omega) hw
    have h8 : left < sw_ls n d (sw_tk n q i) s 8 := by
      rw [← sw_ls_8]
      exact (List.getElem?_eq_some_iff.mp hL).1
    refine br_f (nI_ge (by omega) (by omega)) ⟨8, sw_xld59 hn hn5 (by omega) er tl hs Th hl h8 (fun x hx l1 l2 => ?_) 7 0 8 (by omega) (by omega) (Nat.zero_le _)⟩
    obtain ⟨bz, xs, t, et, hL2⟩ := sw_nth hx l1 l2 hL
    have et2 : q i :: sw_ts q d (i + 1) = x :: t := et
    injection et2 with eq1 eq2
    subst eq1
    subst eq2
    have pl : sw_pl n d (q i) = sw_ld n q i := by rw [er, sw_pl_i (by omega)]; rfl
    rw [pl] at bz hL2
    have ll := sw_ld_lt hn q i
    have pu := sw_pc_up hn hn5 q i
    have c7 : ∀ j, sw_cp h q (i + 1) j ≤ 7 := sw_cp7 hh (fun j _ => hq j)
    have eH : upd (sw_H (sw_cp h q i)) (nI i).toNatClampNeg (vp_nar .byte (nI (q i)).toInt8.toInt32) = sw_H (sw_cp h q (i + 1)) := by
      rw [sw_nbc (by omega), nI_clamp (by omega), sw_Hu, sw_cps]
    have eld : sw_ld n (sw_cp h q (i + 1)) i = sw_ld n q i := by
      unfold sw_ld
      rw [show sw_cp h q (i + 1) i = q i from if_pos (by omega)]
    unfold wX_load_90
    refine sw_xle hn hn5 (by omega) er tl hs Th (by omega) (nm_r (pk_sub l1) ⟨hin, nm_r eH (sw_xland hn hn5 c7 (by omega) ?_)⟩)
    rw [eld]
    exact nm_r (sw_orp (by omega)) (nm_r (pk_sub xs) (nm_r (nI_1 i) (ih (i + 1) g _ _ (by omega) (by omega) (by omega) (by omega) (by omega) hL2)))
end
theorem sw_es {n b : Nat} : sw_sf (b * n) (sw_pt n n 0) = sw_fl n n 0 (n * b) := by
  unfold sw_sf
  rw [sw_flt, Nat.mul_comm]
theorem sw_yload_no {n : Nat} {h : Nat → Nat} {o m f : Nat → Int32} {post : Int32 → SY → Prop} {b : Nat} {K : Int32} (hn : 1 ≤ n) (hn5 : n ≤ 5) (hb : b ≤ 7) (hp : ∀ o', post (-4) (nI n, sw_H h, o', m, f)) (hN : ∀ j, j < (sw_fl n n 0 (n * b)).length → ¬ nI j = K) : wpY_load post (nI n, sw_H h, o, m, f) (nI b) K := by
  unfold wpY_load
  dsimp only
  refine sw_ynb0 hb (br_t (rfl : (0 : Int32) = 0) (sw_ybeg (fun o1 ho => sw_ynp1 hn hn5 ho (fun x o2 C => ⟨(sw_pt n n 0).length + 1, sw_yld_no hn hn5 hb hp (sw_pt n n 0) _ 0 x o2 (Nat.lt_succ_self _) C ?_⟩))))
  rw [sw_es]
  intro j hj
  rw [Nat.zero_add]
  exact hN j hj
theorem sw_yload_yes {n : Nat} {h : Nat → Nat} {o m f : Nat → Int32} {post : Int32 → SY → Prop} {b kk : Nat} {t : Nat → Nat} (hn : 1 ≤ n) (hn5 : n ≤ 5) (hb : b ≤ 7) (hk : kk < 2 ^ 31) (hp : ∀ o', post 0 (nI n, sw_H (sw_cp h t n), o', m, f)) (hN : (sw_fl n n 0 (n * b))[kk]? = some (sw_ts t n 0)) : wpY_load post (nI n, sw_H h, o, m, f) (nI b) (nI kk) := by
  unfold wpY_load
  dsimp only
  refine sw_ynb0 hb (br_t (rfl : (0 : Int32) = 0) (sw_ybeg (fun o1 ho => sw_ynp1 hn hn5 ho (fun x o2 C => ⟨(sw_pt n n 0).length + 1, ?_⟩))))
  have ky := sw_yld_yes (n := n) (m := m) (f := f) (h := h) (t := t) (post := post) hn hn5 hb hp (sw_pt n n 0) ((sw_pt n n 0).length + 1) 0 kk x o2 (Nat.lt_succ_self _) C (by rw [sw_es]; exact hN) (by omega)
  rw [Nat.zero_add] at ky
  exact ky
theorem i_vc_load {k : Nat} {u : SX} {v : SY} (I : i_Rel k u v) (hk : k + 3 ≤ 1536) (v1 : Int32) (v2 : Int32) : wpX_load (fun r u' => wpY_load (fun r' v' => r' = r ∧ i_Rel (k + 3) u' v') v v1 v2) u v1 v2 := by
  obtain ⟨n, c, h, oX, w, aX, oY, m, f, rfl, rfl, hn, hn5, hh, hc, hT⟩ := I
  unfold wpX_load
  dsimp only
  rcases sw_h7 v1 with ⟨b, hb, rfl⟩ | hb
  · have b35 := sw_nb35 hn5 hb
    refine sw_xbh0 hb (br_t (rfl : (0 : Int32) = 0) (sw_xfw hn hn5 hc hT (fun w' hw => ?_)))
    dsimp only
    have wn : w' (nI (n * b)).toNatClampNeg = nI (sw_fl n n 0 (n * b)).length := by
      rw [nI_clamp (by omega), hw _ (Nat.zero_le _) (by have := Nat.two_pow_pos n; omega), sw_wy0 (by omega)]
    have le := sw_fl_le n n 0 (n * b)
    have p8 : 8 ^ n ≤ 8 ^ 5 := Nat.pow_le_pow_right (by decide) hn5
    have p9 : 8 ^ 5 < 2 ^ 31 := by decide
    refine nm_r (pk_mul n b) ?_
    have R := fun o3 => sw_rel (k := k + 3) (oX := oX) (aX := aX) (oY := o3) (m := m) (f := f) hn hn5 hh hn5 (sw_Tk_Tab hw)
    by_cases neg : v2 < 0
    · exact br_t neg (sw_yload_no hn hn5 hb (fun o3 => ⟨rfl, R o3⟩) (fun j hj z => by rw [← z] at neg; exact nI_pos (by omega) neg))
    · obtain ⟨kk, hkk, rfl⟩ := nI_of neg
      refine br_f neg ⟨vp_in_nI (by omega) (by decide), ?_⟩
      rw [wn]
      refine pk_lt kk _ (fun z => ?_) (fun z => sw_yload_no hn hn5 hb (fun o3 => ⟨rfl, R o3⟩) (fun j hj y => ?_)) rfl rfl hkk (by omega)
      · obtain ⟨p, hpp⟩ : ∃ p, (sw_fl n n 0 (n * b))[kk]? = some p := ⟨_, List.getElem?_eq_getElem z⟩
        obtain ⟨q, rfl, q7⟩ := sw_fl_q n n 0 (n * b) p (List.mem_of_getElem? hpp) 0
        have kx := sw_xld47 (n := n) (c := n) (h := h) (o := oX) (w := w') (a := aX) (q := q) (post := fun r u' => wpY_load (fun r' v' => r' = r ∧ i_Rel (k + 3) u' v') (nI n, sw_H h, oY, m, f) (nI b) (nI kk)) hn hn5 hh q7 hw (sw_yload_yes hn hn5 hb hkk (fun o3 => ⟨rfl, sw_rel hn hn5 (sw_cp7 hh (fun j _ => q7 j)) hn5 (sw_Tk_Tab hw)⟩) hpp) n 0 (n + 1) (n * b) kk (by omega) (by omega) (by omega) hkk (show sw_pc 0 5 = 0 by decide) hpp
        rw [sw_cp0] at kx
        exact ⟨n + 1, kx⟩
      · have y2 := (nI_eq (by omega) hkk).mp y
        omega
  · unfold wpY_load
    dsimp only
    exact sw_xbh1 hb (br_f (by decide : ¬ (1 : Int32) = 0) (sw_ynb1 hb (br_f (by decide : ¬ (1 : Int32) = 0) ⟨rfl, sw_rel hn hn5 hh hc hT⟩)))
end
section
/-! the graph of states, walks, the shortest -/
def sw_nx (s h : Nat) : Nat := if s % 2 = 1 then s / 2 ||| 2 ^ (h - 1) else s / 2
def sw_E (s t : Nat) : Prop := s < 128 ∧ ∃ h, 1 ≤ h ∧ h ≤ 7 ∧ (s % 2 = 0 ∨ s / 2 ^ h % 2 = 0) ∧ t = sw_nx s h
/-- what is before t by a ball thrown to h -/
def sw_bef (t h : Nat) : Nat := if 2 * t / 2 ^ h % 2 = 1 then 2 * t - 2 ^ h + 1 else 2 * t + 1
theorem sw_nx_tab : ∀ s, s < 128 → ∀ h, h < 8 → 1 ≤ h → (s % 2 = 0 ∨ s / 2 ^ h % 2 = 0) → sw_nx s h < 128 ∧ sw_pc (sw_nx s h) 7 = sw_pc s 7 := by decide +kernel
theorem sw_bef_tab : ∀ t, t < 128 → ∀ h, h < 8 → (1 ≤ h ∧ 2 * t / 2 ^ h % 2 = 1 ∧ sw_bef t h < 128) → sw_bef t h / 2 ^ h % 2 = 0 ∧ sw_nx (sw_bef t h) h = t := by decide +kernel
theorem sw_odd_tab : ∀ s, s < 128 → ∀ h, h < 8 → (1 ≤ h ∧ s % 2 = 1 ∧ s / 2 ^ h % 2 = 0) → 2 * sw_nx s h / 2 ^ h % 2 = 1 ∧ sw_bef (sw_nx s h) h = s := by decide +kernel
theorem sw_E_lt {s t : Nat} (e : sw_E s t) : t < 128 := by
  obtain ⟨hs, h, h1, h7, ho, rfl⟩ := e
  exact (sw_nx_tab s hs h (by omega) h1 ho).1
theorem sw_E_pc {s t : Nat} (e : sw_E s t) : sw_pc t 7 = sw_pc s 7 := by
  obtain ⟨hs, h, h1, h7, ho, rfl⟩ := e
  exact (sw_nx_tab s hs h (by omega) h1 ho).2
theorem sw_E_up {t : Nat} (ht : t < 64) : sw_E (2 * t) t := by
  refine ⟨by omega, 1, by decide, by decide, Or.inl (by omega), ?_⟩
  unfold sw_nx
  rw [if_neg (by omega)]
  omega
theorem sw_E_bef {t h : Nat} (ht : t < 128) (h1 : 1 ≤ h) (h7 : h ≤ 7) (hb : 2 * t / 2 ^ h % 2 = 1) (hl : sw_bef t h < 128) : sw_E (sw_bef t h) t := by
  have k := sw_bef_tab t ht h (by omega) ⟨h1, hb, hl⟩
  exact ⟨hl, h, h1, h7, Or.inr k.1, k.2.symm⟩
theorem sw_E_inv {s t : Nat} (e : sw_E s t) : (s = 2 * t ∧ t < 64) ∨ ∃ h, 1 ≤ h ∧ h ≤ 7 ∧ 2 * t / 2 ^ h % 2 = 1 ∧ sw_bef t h = s := by
  obtain ⟨hs, h, h1, h7, ho, rfl⟩ := e
  by_cases o : s % 2 = 1
  · have hb : s / 2 ^ h % 2 = 0 := by omega
    have k := sw_odd_tab s hs h (by omega) ⟨h1, o, hb⟩
    exact Or.inr ⟨h, h1, h7, k.1, k.2⟩
  · left
    unfold sw_nx
    rw [if_neg o]
    omega
def sw_wk : Nat → Nat → Nat → Prop
  | 0, s, t => s = t
  | k + 1, s, t => ∃ m, sw_E s m ∧ sw_wk k m t
theorem sw_wk_app {m t : Nat} : ∀ {j k s}, sw_wk j s m → sw_wk k m t → sw_wk (j + k) s t
  | 0, k, s, a, b => by
    have a2 : s = m := a
    subst a2
    rw [Nat.zero_add]
    exact b
  | j + 1, k, s, a, b => by
    obtain ⟨x, e, c⟩ := a
    rw [show j + 1 + k = (j + k) + 1 by omega]
    exact ⟨x, e, sw_wk_app c b⟩
theorem sw_wk_snoc {m t k s : Nat} (a : sw_wk k s m) (e : sw_E m t) : sw_wk (k + 1) s t := sw_wk_app a ⟨t, e, rfl⟩
theorem sw_wk_last {t : Nat} : ∀ {k s}, sw_wk (k + 1) s t → ∃ m, sw_wk k s m ∧ sw_E m t
  | 0, s, ⟨m, e, z⟩ => by
    have z2 : m = t := z
    subst z2
    exact ⟨s, rfl, e⟩
  | k + 1, s, ⟨m, e, z⟩ => by
    obtain ⟨x, a, b⟩ := sw_wk_last z
    exact ⟨x, ⟨m, e, a⟩, b⟩
theorem sw_wk_pc {t : Nat} : ∀ {k s}, sw_wk k s t → sw_pc t 7 = sw_pc s 7
  | 0, s, a => by
    have a2 : s = t := a
    rw [a2]
  | k + 1, s, ⟨m, e, a⟩ => by
    rw [sw_wk_pc a, sw_E_pc e]
def sw_rep (g : Nat → Nat) : Nat → Nat → Nat
  | 0, s => s
  | k + 1, s => sw_rep g k (g s)
def sw_lo (s : Nat) : Nat → Nat
  | 0 => 7
  | d + 1 => if s / 2 ^ (6 - d) % 2 = 0 then 6 - d else sw_lo s d
def sw_gd (s : Nat) : Nat := sw_nx s (sw_lo s 6)
def sw_gb (t : Nat) : Nat := if t = 0 then 0 else (t - 2 ^ Nat.log2 t) * 2 + 1
def sw_eb (s t : Nat) : Bool := (List.range 8).any (fun h => decide (1 ≤ h) && decide (s % 2 = 0 ∨ s / 2 ^ h % 2 = 0) && decide (t = sw_nx s h))
theorem sw_eb_E {s t : Nat} (hs : s < 128) (e : sw_eb s t = true) : sw_E s t := by
  obtain ⟨h, a, b⟩ := List.any_eq_true.mp e
  rw [Bool.and_eq_true, Bool.and_eq_true] at b
  have hl := List.mem_range.mp a
  exact ⟨hs, h, of_decide_eq_true b.1.1, by omega, of_decide_eq_true b.1.2, of_decide_eq_true b.2⟩
theorem sw_gd_tab : ∀ s, s < 128 → sw_eb s (sw_gd s) = true := by decide +kernel
theorem sw_gb_tab : ∀ s, s < 128 → sw_gb s < 128 ∧ sw_eb (sw_gb s) s = true := by decide +kernel
theorem sw_gd_7 : ∀ s, s < 128 → sw_rep sw_gd 7 s = 2 ^ sw_pc s 7 - 1 := by decide +kernel
theorem sw_gb_7 : ∀ s, s < 128 → sw_rep sw_gb 7 s = 2 ^ sw_pc s 7 - 1 := by decide +kernel
theorem sw_gd_wk : ∀ k s, s < 128 → sw_wk k s (sw_rep sw_gd k s)
  | 0, _, _ => rfl
  | k + 1, s, hs => by
    have e := sw_eb_E hs (sw_gd_tab s hs)
    exact ⟨sw_gd s, e, sw_gd_wk k _ (sw_E_lt e)⟩
theorem sw_gb_wk : ∀ k s, s < 128 → sw_wk k (sw_rep sw_gb k s) s
  | 0, _, _ => rfl
  | k + 1, s, hs => by
    have b := sw_gb_tab s hs
    exact sw_wk_snoc (sw_gb_wk k (sw_gb s) b.1) (sw_eb_E b.1 b.2)
/-- who can be reached at all is reached in 14 steps -/
theorem sw_diam {s t k : Nat} (hs : s < 128) (ht : t < 128) (w : sw_wk k s t) : sw_wk 14 s t := by
  have a := sw_gd_wk 7 s hs
  have b := sw_gb_wk 7 t ht
  rw [sw_gd_7 s hs] at a
  rw [sw_gb_7 t ht, sw_wk_pc w] at b
  exact sw_wk_app a b
def sw_sd (s t k : Nat) : Prop := sw_wk k s t ∧ ∀ j, j < k → ¬ sw_wk j s t
theorem sw_sd_eq {s t k j : Nat} (a : sw_sd s t k) (b : sw_sd s t j) : k = j := by
  rcases Nat.lt_trichotomy k j with h | h | h
  · exact absurd a.1 (b.2 k h)
  · exact h
  · exact absurd b.1 (a.2 j h)
/-- the answer -/
def sw_Ans (s t : Nat) (r : Int32) : Prop := (∃ k, sw_sd s t k ∧ r = nI k) ∨ ((∀ k, ¬ sw_wk k s t) ∧ r = -4)
theorem sw_Ans_eq {s t : Nat} {r r' : Int32} (a : sw_Ans s t r) (b : sw_Ans s t r') : r' = r := by
  rcases a with ⟨k, d, e⟩ | ⟨n, e⟩
  · rcases b with ⟨k', d', e'⟩ | ⟨n', e'⟩
    · rw [e, e', sw_sd_eq d d']
    · exact absurd d.1 (n' k)
  · rcases b with ⟨k', d', e'⟩ | ⟨n', e'⟩
    · exact absurd d'.1 (n k')
    · rw [e, e']
/-- more numbers different below k than k there are not -/
theorem sw_pig : ∀ (k m : Nat) (v : Nat → Nat), (∀ i, i < m → v i < k) → (∀ i j, i < j → j < m → ¬ v i = v j) → m ≤ k
  | 0, m, v, a, _ => by
    rcases Nat.eq_zero_or_pos m with h | h
    · omega
    · exact absurd (a 0 h) (Nat.not_lt_zero _)
  | k + 1, m, v, a, b => by
    by_cases c : ∃ i, i < m ∧ v i = k
    · obtain ⟨i, hi, ei⟩ := c
      have ih := sw_pig k (m - 1) (fun j => if j = i then v (m - 1) else v j) (fun j hj => ?_) (fun j l hjl hl => ?_)
      · omega
      · show (if j = i then v (m - 1) else v j) < k
        by_cases q : j = i
        · rw [if_pos q]
          have h1 := a (m - 1) (by omega)
          have h2 := b i (m - 1) (by omega) (by omega)
          omega
        · rw [if_neg q]
          have h1 := a j (by omega)
          rcases Nat.lt_or_gt_of_ne q with y | y
          · have h2 := b j i y hi
            omega
          · have h2 := b i j y (by omega)
            omega
      · show ¬ (if j = i then v (m - 1) else v j) = (if l = i then v (m - 1) else v l)
        by_cases q : j = i
        · rw [if_pos q, if_neg (by omega)]
          exact fun z => b l (m - 1) (by omega) (by omega) z.symm
        · rw [if_neg q]
          by_cases y : l = i
          · rw [if_pos y]
            exact b j (m - 1) (by omega) (by omega)
          · rw [if_neg y]
            exact b j l hjl (by omega)
    · have ih := sw_pig k m v (fun i hi => ?_) b
      · omega
      · have h1 := a i hi
        have h2 : ¬ v i = k := fun z => c ⟨i, hi, z⟩
        omega
end
section
/-! steps of the class: backwards by levels -/
def sw_XI (b d : Nat) (A : Nat → Int32) : Prop := ∀ s, s < 128 → (∃ k, k ≤ d ∧ sw_sd s b k ∧ A s = nI k) ∨ ((∀ k, k ≤ d → ¬ sw_wk k s b) ∧ A s = -1)
def sw_XJ (b d : Nat) (D : Nat → Prop) (A : Nat → Int32) : Prop := ∀ s, s < 128 → (∃ k, k ≤ d ∧ sw_sd s b k ∧ A s = nI k) ∨ ((∀ k, k ≤ d → ¬ sw_wk k s b) ∧ ((A s = nI (d + 1) ∧ sw_wk (d + 1) s b) ∨ (A s = -1 ∧ ¬ D s)))
theorem sw_m1_neg : ¬ (0 : Int32) ≤ -1 := by decide
theorem sw_m1_ne {k : Nat} (h : k < 2 ^ 31) : ¬ (-1 : Int32) = nI k := fun z => sw_m1_neg (by rw [z]; exact nI_pos' h)
theorem sw_XJ_w {b d : Nat} {D D' : Nat → Prop} {A : Nat → Int32} (I : sw_XJ b d D A) (w : ∀ s, s < 128 → D' s → D s) : sw_XJ b d D' A := by
  intro s hs
  rcases I s hs with k | ⟨a, k | k⟩
  · exact Or.inl k
  · exact Or.inr ⟨a, Or.inl k⟩
  · exact Or.inr ⟨a, Or.inr ⟨k.1, fun z => k.2 (w s hs z)⟩⟩
theorem sw_XJ_skip {b d s0 : Nat} {D D' : Nat → Prop} {A : Nat → Int32} (I : sw_XJ b d D A) (h0 : 0 ≤ A s0) (w : ∀ s, s < 128 → D' s → D s ∨ s = s0) : sw_XJ b d D' A := by
  intro s hs
  rcases I s hs with k | ⟨a, k | k⟩
  · exact Or.inl k
  · exact Or.inr ⟨a, Or.inl k⟩
  · refine Or.inr ⟨a, Or.inr ⟨k.1, fun z => ?_⟩⟩
    rcases w s hs z with y | y
    · exact k.2 y
    · subst y
      rw [k.1] at h0
      exact sw_m1_neg h0
theorem sw_XJ_put {b d s0 : Nat} {D D' : Nat → Prop} {A : Nat → Int32} (hd : d < 1000) (I : sw_XJ b d D A) (h0 : ¬ 0 ≤ A s0) (hw : sw_wk (d + 1) s0 b) (w : ∀ s, s < 128 → D' s → D s ∨ s = s0) : sw_XJ b d D' (upd A s0 (nI (d + 1))) := by
  intro s hs
  by_cases e : s = s0
  · subst e
    rw [pk_us]
    rcases I s hs with ⟨k, k1, k2, k3⟩ | ⟨a, k | k⟩
    · rw [k3] at h0
      exact absurd (nI_pos' (by omega)) h0
    · exact Or.inr ⟨a, Or.inl ⟨rfl, hw⟩⟩
    · exact Or.inr ⟨a, Or.inl ⟨rfl, hw⟩⟩
  · rw [pk_un e]
    rcases I s hs with k | ⟨a, k | k⟩
    · exact Or.inl k
    · exact Or.inr ⟨a, Or.inl k⟩
    · refine Or.inr ⟨a, Or.inr ⟨k.1, fun z => ?_⟩⟩
      rcases w s hs z with y | y
      · exact k.2 y
      · exact e y
theorem sw_XI_J {b d : Nat} {D : Nat → Prop} {A : Nat → Int32} (I : sw_XI b d A) (n : ∀ s, ¬ D s) : sw_XJ b d D A := by
  intro s hs
  rcases I s hs with k | ⟨a, k⟩
  · exact Or.inl k
  · exact Or.inr ⟨a, Or.inr ⟨k, n s⟩⟩
theorem sw_XJ_I {b d : Nat} {A : Nat → Int32} (I : sw_XJ b d (fun s => ∃ t, t < 128 ∧ sw_sd t b d ∧ sw_E s t) A) : sw_XI b (d + 1) A := by
  intro s hs
  rcases I s hs with ⟨k, k1, k2, k3⟩ | ⟨a, k | k⟩
  · exact Or.inl ⟨k, by omega, k2, k3⟩
  · exact Or.inl ⟨d + 1, Nat.le_refl _, ⟨k.2, fun j hj => a j (by omega)⟩, k.1⟩
  · refine Or.inr ⟨fun j hj z => ?_, k.1⟩
    by_cases e : j = d + 1
    · subst e
      obtain ⟨t, et, wt⟩ := z
      exact k.2 ⟨t, sw_E_lt et, ⟨wt, fun i hi y => a (i + 1) (by omega) ⟨t, et, y⟩⟩, et⟩
    · exact a j (by omega) z
theorem sw_shl1 : ∀ t, t < 128 → nI t <<< ((1 : Int32) &&& 31) = nI (2 * t) := by decide +kernel
theorem sw_and128 : ∀ t, t < 128 → (nI (2 * t) &&& 128 = 0 ↔ t < 64) := by decide +kernel
theorem sw_befI : ∀ t, t < 128 → ∀ h, h < 8 → (nI (2 * t) &&& (((1 : Int32) <<< (nI h &&& 31)) ^^^ (-1))) ||| 1 = nI (if h = 0 then 2 * t + 1 else sw_bef t h) := by decide +kernel
theorem sw_bef_le (t h : Nat) : sw_bef t h ≤ 2 * t + 1 := by
  unfold sw_bef
  by_cases e : 2 * t / 2 ^ h % 2 = 1
  · rw [if_pos e]; exact Nat.succ_le_succ (Nat.sub_le _ _)
  · rw [if_neg e]; exact Nat.le_refl _
section
variable {n c : Nat} {H o w : Nat → Int32}
/-- what stepBack has covered before height h -/
def sw_Dh (D : Nat → Prop) (t h s : Nat) : Prop := D s ∨ (s = 2 * t ∧ t < 64) ∨ ∃ h', 1 ≤ h' ∧ h' < h ∧ 2 * t / 2 ^ h' % 2 = 1 ∧ sw_bef t h' = s
theorem sw_Dh_s {D : Nat → Prop} {t h s : Nat} (z : sw_Dh D t (h + 1) s) : sw_Dh D t h s ∨ (2 * t / 2 ^ h % 2 = 1 ∧ s = sw_bef t h) := by
  rcases z with z | z | ⟨h', a, b, e, f⟩
  · exact Or.inl (Or.inl z)
  · exact Or.inl (Or.inr (Or.inl z))
  · by_cases q : h' = h
    · subst q
      exact Or.inr ⟨e, f.symm⟩
    · exact Or.inl (Or.inr (Or.inr ⟨h', a, by omega, e, f⟩))
theorem sw_xsb34 {post : SX → Prop} {b d t : Nat} {D : Nat → Prop} (hd : d < 100) (ht : t < 128) (hw : sw_wk d t b) (hp : ∀ A', sw_XJ b d (fun s => D s ∨ sw_E s t) A' → post (nI n, nI c, H, o, w, A')) : ∀ e h fu A, h + e = 8 → e < fu → 1 ≤ h → sw_XJ b d (sw_Dh D t h) A → wX_stepBack_34 post (nI d) (nI (2 * t)) (nI n) (nI c) fu (nI h) H o w A := by
  intro e
  induction e with
  | zero =>
    intro h fu A eh hf h1 I
    obtain ⟨g, rfl⟩ : ∃ g, fu = g + 1 := ⟨fu - 1, by omega⟩
    have e2 : h = 8 := by omega
    subst e2
    refine br_t (by decide) (hp A (sw_XJ_w I (fun s hs z => ?_)))
    rcases z with z | z
    · exact Or.inl z
    · rcases sw_E_inv z with y | ⟨h', a1, a2, a3, a4⟩
      · exact Or.inr (Or.inl y)
      · exact Or.inr (Or.inr ⟨h', a1, by omega, a3, a4⟩)
  | succ e ih =>
    intro h fu A eh hf h1 I
    obtain ⟨g, rfl⟩ : ∃ g, fu = g + 1 := ⟨fu - 1, by omega⟩
    have bi : (nI (2 * t) &&& (((1 : Int32) <<< (nI h &&& 31)) ^^^ (-1))) ||| 1 = nI (sw_bef t h) := by
      rw [sw_befI t ht h (by omega), if_neg (by omega)]
    have bl := sw_bef_le t h
    have b2 := sw_b2 (2 * t) h
    refine br_f (nI_nlt (a := 7) (by omega) (by decide)) (nm_r bi ?_)
    rw [sw_bit (by omega) (by omega), nI_clamp (by omega)]
    have go : ∀ A', sw_XJ b d (sw_Dh D t (h + 1)) A' → ∀ x, x = nI h + 1 → wX_stepBack_34 post (nI d) (nI (2 * t)) (nI n) (nI c) g x H o w A' := by
      intro A' I' x ex
      rw [ex, nI_1]
      exact ih (h + 1) g A' (by omega) (by omega) (by omega) I'
    refine pk_eq (2 * t / 2 ^ h % 2) 1 (fun z => ?_) (fun z => ?_)
    · refine pk_le 128 (sw_bef t h) (fun y => ?_) (fun y => ?_)
      · refine go A (sw_XJ_w I (fun s hs q => ?_))
        rcases sw_Dh_s q with q | q
        · exact q
        · omega
      · have hin : vp_in (nI (sw_bef t h)) 128 := vp_in_nI y (by decide)
        have we : sw_wk (d + 1) (sw_bef t h) b := ⟨t, sw_E_bef ht h1 (by omega) z y, hw⟩
        have ws : ∀ s, s < 128 → sw_Dh D t (h + 1) s → sw_Dh D t h s ∨ s = sw_bef t h := by
          intro s hs q
          rcases sw_Dh_s q with q | q
          · exact Or.inl q
          · exact Or.inr q.2
        refine ⟨hin, br_c (fun x => go A (sw_XJ_skip I x ws)) (fun x => ⟨hin, nm_r (e' := upd A (sw_bef t h) (nI (d + 1))) ?_ (go _ (sw_XJ_put (by omega) I x we ws))⟩)⟩
        rw [nI_1, sw_nbc (by omega)]
    · refine go A (sw_XJ_w I (fun s hs q => ?_))
      rcases sw_Dh_s q with q | q
      · exact q
      · exact absurd q.1 z
theorem sw_xsb {post : SX → Prop} {b d t : Nat} {D : Nat → Prop} {A : Nat → Int32} (hd : d < 100) (ht : t < 128) (hw : sw_wk d t b) (I : sw_XJ b d D A) (hp : ∀ A', sw_XJ b d (fun s => D s ∨ sw_E s t) A' → post (nI n, nI c, H, o, w, A')) : wpX_stepBack post (nI n, nI c, H, o, w, A) (nI t) (nI d) := by
  unfold wpX_stepBack
  dsimp only
  refine nm_r (sw_shl1 t ht) ?_
  have sm := sw_and128 t ht
  have fin : ∀ A', sw_XJ b d (sw_Dh D t 1) A' → ∃ n34, wX_stepBack_34 post (nI d) (nI (2 * t)) (nI n) (nI c) n34 1 H o w A' := fun A' I' => ⟨8, sw_xsb34 hd ht hw hp 7 1 8 A' (by omega) (by omega) (by omega) I'⟩
  by_cases q : t < 64
  · have hin : vp_in (nI (2 * t)) 128 := vp_in_nI (by omega) (by decide)
    have we : sw_wk (d + 1) (2 * t) b := ⟨t, sw_E_up q, hw⟩
    have ws : ∀ s, s < 128 → sw_Dh D t 1 s → D s ∨ s = 2 * t := by
      intro s hs z
      rcases z with z | z | ⟨h', a1, a2, _⟩
      · exact Or.inl z
      · exact Or.inr z.1
      · omega
    refine br_t (sm.mpr q) ⟨hin, ?_⟩
    rw [nI_clamp (by omega)]
    refine br_c (fun x => fin A (sw_XJ_skip I x ws)) (fun x => ⟨hin, nm_r (e' := upd A (2 * t) (nI (d + 1))) ?_ (fin _ (sw_XJ_put (by omega) I x we ws))⟩)
    rw [nI_1, sw_nbc (by omega)]
  · refine br_f (fun z => q (sm.mp z)) (fin A (sw_XJ_w I (fun s hs z => ?_)))
    rcases z with z | z | ⟨h', a1, a2, _⟩
    · exact z
    · omega
    · omega
theorem sw_x73 {post : Int32 → SX → Prop} {J : Int32 → Int32 → Int32 → (Nat → Int32) → (Nat → Int32) → (Nat → Int32) → (Nat → Int32) → Prop} {x1 : Int32} {b d : Nat} (hd : d < 100) (hJ : ∀ A', sw_XI b (d + 1) A' → J (nI (d + 1)) (nI n) (nI c) H o w A') : ∀ e p fu A, p + e = 128 → e < fu → sw_XJ b d (fun s => ∃ t, t < p ∧ sw_sd t b d ∧ sw_E s t) A → wX_steps_73 post J x1 (nI d) fu (nI p) (nI n) (nI c) H o w A := by
  intro e
  induction e with
  | zero =>
    intro p fu A ep hf I
    obtain ⟨g, rfl⟩ : ∃ g, fu = g + 1 := ⟨fu - 1, by omega⟩
    have e2 : p = 128 := by omega
    subst e2
    exact br_t (nI_le (a := 128) (Nat.le_refl _) (by omega)) (nm_r (nI_1 d) (hJ A (sw_XJ_I I)))
  | succ e ih =>
    intro p fu A ep hf I
    obtain ⟨g, rfl⟩ : ∃ g, fu = g + 1 := ⟨fu - 1, by omega⟩
    have go : ∀ A', sw_XJ b d (fun s => ∃ t, t < p + 1 ∧ sw_sd t b d ∧ sw_E s t) A' → ∀ x, x = nI p + 1 → wX_steps_73 post J x1 (nI d) g x (nI n) (nI c) H o w A' := by
      intro A' I' x ex
      rw [ex, nI_1]
      exact ih (p + 1) g A' (by omega) (by omega) I'
    have no : ¬ sw_sd p b d → sw_XJ b d (fun s => ∃ t, t < p + 1 ∧ sw_sd t b d ∧ sw_E s t) A := by
      intro nd
      refine sw_XJ_w I (fun s hs z => ?_)
      obtain ⟨t, t1, t2, t3⟩ := z
      by_cases q : t = p
      · subst q; exact absurd t2 nd
      · exact ⟨t, by omega, t2, t3⟩
    refine br_f (nI_ge (b := 128) (by omega) (by decide)) ⟨vp_in_nI (by omega) (by decide), ?_⟩
    rw [nI_clamp (by omega)]
    rcases I p (by omega) with ⟨k, k1, k2, k3⟩ | ⟨a, k | k⟩
    · rw [k3]
      refine pk_eq k d (fun z => ?_) (fun z => go A (no (fun y => z (sw_sd_eq k2 y))))
      subst z
      refine sw_xsb hd (by omega) k2.1 I (fun A' I' => go A' (sw_XJ_w I' (fun s hs z => ?_)))
      obtain ⟨t, t1, t2, t3⟩ := z
      by_cases q : t = p
      · subst q; exact Or.inr t3
      · exact Or.inl ⟨t, by omega, t2, t3⟩
    · rw [k.1]
      refine br_f (fun z => ?_) (go A (no (fun y => a d (Nat.le_refl d) y.1)))
      have := (nI_eq (by omega) (by omega)).mp z
      omega
    · rw [k.1]
      exact br_f (sw_m1_ne (by omega)) (go A (no (fun y => a d (Nat.le_refl d) y.1)))
theorem sw_x111 {post : Int32 → SX → Prop} {a b d : Nat} {A : Nat → Int32} (ha : a < 128) (hb : b < 128) (hd : d ≤ 100) (I : sw_XI b d A) (hx : 100 ≤ d ∨ 0 ≤ A a) (hp : ∀ r, sw_Ans a b r → post r (nI n, nI c, H, o, w, A)) : wX_steps_111 post (nI a) (nI n) (nI c) H o w A := by
  unfold wX_steps_111
  have hin : vp_in (nI a) 128 := vp_in_nI ha (by decide)
  rw [nI_clamp (by omega)]
  refine ⟨hin, br_c (fun z => ⟨hin, hp _ ?_⟩) (fun z => hp _ ?_)⟩
  · rcases I a ha with ⟨k, k1, k2, k3⟩ | ⟨q, k⟩
    · exact Or.inl ⟨k, k2, k3⟩
    · rw [k] at z
      exact absurd z sw_m1_neg
  · rcases I a ha with ⟨k, k1, k2, k3⟩ | ⟨q, k⟩
    · rw [k3] at z
      exact absurd (nI_pos' (by omega)) z
    · refine Or.inr ⟨fun j wj => q 14 ?_ (sw_diam ha hb wj), rfl⟩
      rcases hx with y | y
      · omega
      · exact absurd y z
theorem sw_x55 {post : Int32 → SX → Prop} {a b : Nat} (ha : a < 128) (hb : b < 128) (hp : ∀ r A, sw_Ans a b r → post r (nI n, nI c, H, o, w, A)) : ∀ e d fu A, d + e = 100 → e < fu → sw_XI b d A → wX_steps_55 post (nI a) fu (nI d) (nI n) (nI c) H o w A := by
  intro e
  induction e with
  | zero =>
    intro d fu A ed hf I
    obtain ⟨g, rfl⟩ : ∃ g, fu = g + 1 := ⟨fu - 1, by omega⟩
    have e2 : d = 100 := by omega
    subst e2
    exact br_t (nI_le (a := 100) (Nat.le_refl _) (by omega)) (sw_x111 ha hb (by omega) I (Or.inl (by omega)) (fun r => hp r A))
  | succ e ih =>
    intro d fu A ed hf I
    obtain ⟨g, rfl⟩ : ∃ g, fu = g + 1 := ⟨fu - 1, by omega⟩
    have hin : vp_in (nI a) 128 := vp_in_nI ha (by decide)
    refine br_f (nI_ge (b := 100) (by omega) (by decide)) ⟨hin, ?_⟩
    rw [nI_clamp (by omega)]
    refine br_c (fun z => sw_x111 ha hb (by omega) I (Or.inr z) (fun r => hp r A)) (fun z => ⟨129, sw_x73 (by omega) (fun A' I' => ih (d + 1) g A' (by omega) (by omega) I') 128 0 129 A (by omega) (by omega) (sw_XI_J I (fun s y => ?_))⟩)
    obtain ⟨t, t1, _⟩ := y
    omega
theorem sw_x26 {post : Int32 → SX → Prop} {a b : Nat} (ha : a < 128) (hb : b < 128) (hp : ∀ r A, sw_Ans a b r → post r (nI n, nI c, H, o, w, A)) : ∀ e i fu A, i + e = 128 → e < fu → (∀ s, s < i → A s = -1) → wX_steps_26 post (nI a) (nI b) (nI n) (nI c) fu (nI i) H o w A := by
  have n1 : vp_nar .byte (-1) = -1 := by rw [vp_nar_byte]; decide
  have n0 : vp_nar .byte 0 = nI 0 := sw_nb (x := 0) (by decide)
  intro e
  induction e with
  | zero =>
    intro i fu A ei hf hA
    obtain ⟨g, rfl⟩ : ∃ g, fu = g + 1 := ⟨fu - 1, by omega⟩
    have e2 : i = 128 := by omega
    subst e2
    refine br_t (nI_le (a := 128) (Nat.le_refl _) (by omega)) ⟨vp_in_nI hb (by decide), nm_r (e' := upd A b (nI 0)) ?_ ⟨101, sw_x55 ha hb hp 100 0 101 _ (by omega) (by omega) (fun s hs => ?_)⟩⟩
    · rw [n0, nI_clamp (by omega)]
    · by_cases q : s = b
      · subst q
        exact Or.inl ⟨0, Nat.le_refl 0, ⟨rfl, fun j hj => absurd hj (Nat.not_lt_zero j)⟩, pk_us⟩
      · rw [pk_un q]
        refine Or.inr ⟨fun k hk z => ?_, hA s hs⟩
        have k0 : k = 0 := by omega
        subst k0
        exact q z
  | succ e ih =>
    intro i fu A ei hf hA
    obtain ⟨g, rfl⟩ : ∃ g, fu = g + 1 := ⟨fu - 1, by omega⟩
    refine br_f (nI_ge (b := 128) (by omega) (by decide)) ⟨vp_in_nI (by omega) (by decide), nm_r (e' := upd A i (-1)) ?_ (nm_r (nI_1 i) (ih (i + 1) g _ (by omega) (by omega) (fun s hs => ?_)))⟩
    · rw [n1, nI_clamp (by omega)]
    · by_cases q : s = i
      · subst q; exact pk_us
      · rw [pk_un q]; exact hA s (by omega)
theorem sw_xsteps {post : Int32 → SX → Prop} {a b : Nat} {A : Nat → Int32} (ha : a < 128) (hb : b < 128) (hp : ∀ r A', sw_Ans a b r → post r (nI n, nI c, H, o, w, A')) : wpX_steps post (nI n, nI c, H, o, w, A) (nI a) (nI b) := by
  unfold wpX_steps
  dsimp only
  exact br_f (nI_pos (by omega)) (br_f (nI_ge (b := 128) ha (by decide)) (br_f (nI_pos (by omega)) (br_t (nI_lt (b := 128) hb (by decide)) ⟨129, sw_x26 ha hb hp 128 0 129 A (by omega) (by omega) (fun s hs => absurd hs (Nat.not_lt_zero s))⟩)))
end
end
section
/-! steps of the reference: a queue -/
/-- the queue: v j the j-th state met, dd j how far it is; p of them are done -/
def sw_Q (a p many : Nat) (v dd : Nat → Nat) (mt fr : Nat → Int32) : Prop :=
  (1 ≤ many ∧ v 0 = a ∧ dd 0 = 0 ∧ p ≤ many) ∧ (∀ j, j < many → v j < 128 ∧ mt j = nI (v j) ∧ fr (v j) = nI (dd j) ∧ dd j ≤ j ∧ sw_wk (dd j) a (v j)) ∧ (∀ i j, i < j → j < many → ¬ v i = v j ∧ dd i ≤ dd j) ∧ (∀ j, j < many → p < many → dd j ≤ dd p + 1) ∧ (∀ s, s < 128 → fr s = -1 ∨ ∃ j, j < many ∧ v j = s) ∧ (∀ j, j < p → ∀ t, sw_E (v j) t → ∃ i, i < many ∧ v i = t ∧ dd i ≤ dd j + 1)
theorem sw_Q_128 {a p many : Nat} {v dd : Nat → Nat} {mt fr : Nat → Int32} (Q : sw_Q a p many v dd mt fr) : many ≤ 128 :=
  sw_pig 128 many v (fun i hi => (Q.2.1 i hi).1) (fun i j hij hj => (Q.2.2.1 i j hij hj).1)
/-- one state more -/
theorem sw_Q_add {a p many t : Nat} {v dd : Nat → Nat} {mt fr : Nat → Int32} (Q : sw_Q a p many v dd mt fr) (hp : p < many) (ht : t < 128) (hf : ¬ 0 ≤ fr t) (he : sw_E (v p) t) : many < 128 ∧ sw_Q a p (many + 1) (sw_s v many t) (sw_s dd many (dd p + 1)) (upd mt many (nI t)) (upd fr t (nI (dd p + 1))) := by
  have q128 := sw_Q_128 Q
  obtain ⟨⟨q1, q2, q3, q4⟩, qj, qi, qd, qs, qc⟩ := Q
  have new : ∀ j, j < many → ¬ v j = t := by
    intro j hj e
    have k := qj j hj
    rw [e] at k
    rw [k.2.2.1] at hf
    exact hf (nI_pos' (by omega))
  have lt : many + 1 ≤ 128 := by
    refine sw_pig 128 (many + 1) (sw_s v many t) (fun i hi => ?_) (fun i j hij hj => ?_)
    · by_cases e : i = many
      · rw [e, sw_ss]; exact ht
      · rw [sw_sn e]; exact (qj i (by omega)).1
    · rw [sw_sn (show i ≠ many by omega)]
      by_cases e : j = many
      · rw [e, sw_ss]; exact new i (by omega)
      · rw [sw_sn e]; exact (qi i j hij (by omega)).1
  have pj := qj p hp
  refine ⟨by omega, ⟨by omega, ?_, ?_, by omega⟩, ?_, ?_, ?_, ?_, ?_⟩
  · rw [sw_sn (by omega)]; exact q2
  · rw [sw_sn (by omega)]; exact q3
  · intro j hj
    by_cases e : j = many
    · subst e
      rw [sw_ss, sw_ss, pk_us, pk_us]
      exact ⟨ht, rfl, rfl, by omega, sw_wk_snoc pj.2.2.2.2 he⟩
    · have k := qj j (by omega)
      rw [sw_sn e, sw_sn e, pk_un e, pk_un (new j (by omega))]
      exact k
  · intro i j hij hj
    rw [sw_sn (show i ≠ many by omega), sw_sn (show i ≠ many by omega)]
    by_cases e : j = many
    · subst e
      rw [sw_ss, sw_ss]
      exact ⟨new i (by omega), qd i (by omega) hp⟩
    · rw [sw_sn e, sw_sn e]
      exact qi i j hij (by omega)
  · intro j hj _
    rw [sw_sn (show p ≠ many by omega)]
    by_cases e : j = many
    · rw [e, sw_ss]; omega
    · rw [sw_sn e]; exact qd j (by omega) hp
  · intro s hs
    by_cases e : s = t
    · exact Or.inr ⟨many, by omega, by rw [sw_ss, e]⟩
    · rw [pk_un e]
      rcases qs s hs with k | ⟨j, j1, j2⟩
      · exact Or.inl k
      · exact Or.inr ⟨j, by omega, by rw [sw_sn (by omega)]; exact j2⟩
  · intro j hj u hu
    rw [sw_sn (show j ≠ many by omega)] at hu
    obtain ⟨i, i1, i2, i3⟩ := qc j hj u hu
    refine ⟨i, by omega, ?_, ?_⟩
    · rw [sw_sn (by omega)]; exact i2
    · rw [sw_sn (show i ≠ many by omega), sw_sn (show j ≠ many by omega)]; exact i3
/-- the state at p is done -/
theorem sw_Q_next {a p many : Nat} {v dd : Nat → Nat} {mt fr : Nat → Int32} (Q : sw_Q a p many v dd mt fr) (hp : p < many) (hc : ∀ t, sw_E (v p) t → ∃ i, i < many ∧ v i = t ∧ dd i ≤ dd p + 1) : sw_Q a (p + 1) many v dd mt fr := by
  obtain ⟨⟨q1, q2, q3, q4⟩, qj, qi, qd, qs, qc⟩ := Q
  refine ⟨⟨q1, q2, q3, by omega⟩, qj, qi, ?_, qs, ?_⟩
  · intro j hj hp1
    have k1 := qd j hj hp
    have k2 := (qi p (p + 1) (by omega) hp1).2
    omega
  · intro j hj t ht
    by_cases e : j = p
    · subst e; exact hc t ht
    · exact qc j (by omega) t ht
theorem sw_Q_end {a many : Nat} {v dd : Nat → Nat} {mt fr : Nat → Int32} (Q : sw_Q a many many v dd mt fr) : ∀ k t, sw_wk k a t → ∃ i, i < many ∧ v i = t ∧ dd i ≤ k
  | 0, t, w => by
    have e : a = t := w
    exact ⟨0, Q.1.1, by rw [Q.1.2.1, e], by rw [Q.1.2.2.1]; exact Nat.le_refl 0⟩
  | k + 1, t, w => by
    obtain ⟨m, w1, e1⟩ := sw_wk_last w
    obtain ⟨j, j1, j2, j3⟩ := sw_Q_end Q k m w1
    obtain ⟨i, i1, i2, i3⟩ := Q.2.2.2.2.2 j j1 t (by rw [j2]; exact e1)
    exact ⟨i, i1, i2, by omega⟩
theorem sw_Q_ans {a b many : Nat} {v dd : Nat → Nat} {mt fr : Nat → Int32} (hb : b < 128) (Q : sw_Q a many many v dd mt fr) : (0 ≤ fr b → sw_Ans a b (fr b)) ∧ (¬ 0 ≤ fr b → sw_Ans a b (-4)) := by
  have q128 := sw_Q_128 Q
  rcases Q.2.2.2.2.1 b hb with e | ⟨j, j1, j2⟩
  · refine ⟨fun z => ?_, fun _ => Or.inr ⟨fun k w => ?_, rfl⟩⟩
    · rw [e] at z
      exact absurd z sw_m1_neg
    · obtain ⟨i, i1, i2, _⟩ := sw_Q_end Q k b w
      have k2 := Q.2.1 i i1
      rw [i2, e] at k2
      exact sw_m1_ne (by omega) k2.2.2.1
  · have k := Q.2.1 j j1
    rw [j2] at k
    refine ⟨fun _ => Or.inl ⟨dd j, ⟨k.2.2.2.2, fun l hl w => ?_⟩, k.2.2.1⟩, fun z => ?_⟩
    · obtain ⟨i, i1, i2, i3⟩ := sw_Q_end Q l b w
      have k2 := Q.2.1 i i1
      rw [i2, k.2.2.1] at k2
      have k3 := (nI_eq (by omega) (by omega)).mp k2.2.2.1
      omega
    · rw [k.2.2.1] at z
      exact absurd (nI_pos' (by omega)) z
/-- the heights below h are tried at p -/
def sw_Qh (p many : Nat) (v dd : Nat → Nat) (h : Nat) : Prop := ∀ g, 1 ≤ g → g < h → (v p % 2 = 0 ∨ v p / 2 ^ g % 2 = 0) → ∃ i, i < many ∧ v i = sw_nx (v p) g ∧ dd i ≤ dd p + 1
theorem sw_Qh_s {p many h : Nat} {v dd : Nat → Nat} (I : sw_Qh p many v dd h) (n : (v p % 2 = 0 ∨ v p / 2 ^ h % 2 = 0) → ∃ i, i < many ∧ v i = sw_nx (v p) h ∧ dd i ≤ dd p + 1) : sw_Qh p many v dd (h + 1) := by
  intro g g1 g2 go
  by_cases e : g = h
  · subst e; exact n go
  · exact I g g1 (by omega) go
theorem sw_Qh_add {p many h t x : Nat} {v dd : Nat → Nat} (hp : p < many) (I : sw_Qh p many v dd h) (et : t = sw_nx (v p) h) (ex : x = dd p + 1) : sw_Qh p (many + 1) (sw_s v many t) (sw_s dd many x) (h + 1) := by
  intro g g1 g2 go
  rw [sw_sn (show p ≠ many by omega)] at go ⊢
  rw [sw_sn (show p ≠ many by omega)]
  by_cases e : g = h
  · exact ⟨many, by omega, by rw [sw_ss, e, et], by rw [sw_ss, ex]; exact Nat.le_refl _⟩
  · obtain ⟨i, i1, i2, i3⟩ := I g g1 (by omega) go
    exact ⟨i, by omega, by rw [sw_sn (by omega)]; exact i2, by rw [sw_sn (by omega)]; exact i3⟩
theorem sw_shr1 {s : Nat} (hs : s < 128) : nI s >>> ((1 : Int32) &&& 31) = nI (s / 2) := pk_shrN (by omega) _ 1 (by decide)
theorem sw_and1 {s : Nat} (hs : s < 128) : nI s &&& 1 = nI (s % 2) := pk_andN (by omega) 1 (by decide)
section
variable {n : Nat} {H o : Nat → Int32}
theorem sw_y81 {post : Int32 → SY → Prop} {J : Int32 → Int32 → (Nat → Int32) → (Nat → Int32) → (Nat → Int32) → (Nat → Int32) → Prop} {x2 : Int32} {a p : Nat} (hJ : ∀ many v dd mt fr, sw_Q a (p + 1) many v dd mt fr → J (nI many) (nI (p + 1)) H o mt fr) : ∀ e h fu many s v dd mt fr, h + e = 8 → e < fu → 1 ≤ h → p < many → v p = s → sw_Q a p many v dd mt fr → sw_Qh p many v dd h → wY_steps_81 post J x2 (nI p) (nI s) (nI n) fu (nI many) (nI h) H o mt fr := by
  intro e
  induction e with
  | zero =>
    intro h fu many s v dd mt fr eh hf h1 hp es Q Qh
    obtain ⟨g, rfl⟩ : ∃ g, fu = g + 1 := ⟨fu - 1, by omega⟩
    have e2 : h = 8 := by omega
    subst e2
    have q128 := sw_Q_128 Q
    refine br_t (by decide) (nm_r (nI_1 p) (hJ many v dd mt fr (sw_Q_next Q hp (fun t ht => ?_))))
    obtain ⟨_, g2, g3, g4, g5, rfl⟩ := ht
    exact Qh g2 g3 (by omega) g5
  | succ e ih =>
    intro h fu many s v dd mt fr eh hf h1 hp es Q Qh
    obtain ⟨g, rfl⟩ : ∃ g, fu = g + 1 := ⟨fu - 1, by omega⟩
    have q128 := sw_Q_128 Q
    have vp := Q.2.1 p hp
    rw [es] at vp
    have hs : s < 128 := vp.1
    have b2 := sw_b2 s h
    have k147 : ∀ t, t < 128 → (s % 2 = 0 ∨ s / 2 ^ h % 2 = 0) → t = sw_nx s h → wY_steps_147 post J (wY_steps_81 post J x2 (nI p) (nI s) (nI n) g) x2 (nI many) (nI p) (nI s) (nI h) (nI t) (nI n) H o mt fr := by
      intro t ht ho et
      have hin : vp_in (nI t) 128 := vp_in_nI ht (by decide)
      unfold wY_steps_147
      rw [nI_clamp (show t < 2 ^ 31 by omega), nI_clamp (show s < 2 ^ 31 by omega)]
      have et2 : t = sw_nx (v p) h := by rw [es]; exact et
      refine ⟨hin, br_c (fun z => nm_r (nI_1 h) (ih (h + 1) g many s v dd mt fr (by omega) (by omega) (by omega) hp es Q (sw_Qh_s Qh (fun _ => ?_)))) (fun z => ?_)⟩
      · rcases Q.2.2.2.2.1 t ht with q | ⟨j, j1, j2⟩
        · rw [q] at z
          exact absurd z sw_m1_neg
        · exact ⟨j, j1, by rw [j2, et2], Q.2.2.2.1 j j1 hp⟩
      · have he : sw_E (v p) t := by
          rw [es]
          exact ⟨hs, h, h1, by omega, ho, et⟩
        have ad := sw_Q_add Q hp ht z he
        have nx := ih (h + 1) g (many + 1) s _ _ _ _ (by omega) (by omega) (by omega) (by omega) (by rw [sw_sn (by omega)]; exact es) ad.2 (sw_Qh_add hp Qh et2 rfl)
        refine ⟨vp_in_nI hs (by decide), hin, nm_r (e' := upd fr t (nI (dd p + 1))) ?_ ⟨vp_in_nI ad.1 (by decide), nm_r (e' := upd mt many (nI t)) ?_ (nm_r (nI_1 many) (nm_r (nI_1 h) nx))⟩⟩
        · rw [vp.2.2.1, nI_1]
        · rw [nI_clamp (by omega)]
    have skip : ¬ (s % 2 = 0 ∨ s / 2 ^ h % 2 = 0) → ∀ x, x = nI h + 1 → wY_steps_81 post J x2 (nI p) (nI s) (nI n) g (nI many) x H o mt fr := by
      intro no x ex
      rw [ex, nI_1]
      exact ih (h + 1) g many s v dd mt fr (by omega) (by omega) (by omega) hp es Q (sw_Qh_s Qh (fun y => by rw [es] at y; exact absurd y no))
    have k116 : (s % 2 = 1 → ¬ s / 2 ^ h % 2 = 0) → wY_steps_116 post J (wY_steps_81 post J x2 (nI p) (nI s) (nI n) g) x2 (nI many) (nI p) (nI s) (nI h) (nI (s / 2)) (nI n) H o mt fr := by
      intro no
      unfold wY_steps_116 wY_steps_117
      refine br_t rfl ?_
      unfold wY_steps_135
      refine br_t rfl ?_
      rw [sw_and1 hs]
      refine pk_eq (s % 2) 0 (fun z => k147 _ (by omega) (Or.inl z) ?_) (fun z => skip ?_)
      · unfold sw_nx
        rw [if_neg (by omega)]
      · intro y
        have := no (by omega)
        omega
    refine br_f (nI_nlt (a := 7) (by omega) (by decide)) (nm_r (sw_shr1 hs) ?_)
    rw [sw_and1 hs, sw_bit (by omega) (by omega)]
    refine pk_eq (s % 2) 1 (fun z => pk_eq (s / 2 ^ h % 2) 0 (fun y => ?_) (fun y => k116 (fun _ => y))) (fun z => k116 (fun q => absurd q z))
    unfold wY_steps_117
    have nt := sw_nx_tab s hs h (by omega) h1 (Or.inr y)
    have en : sw_nx s h = s / 2 ||| 2 ^ (h - 1) := if_pos z
    refine br_f (by decide) (nm_r (e' := nI (sw_nx s h)) ?_ ?_)
    · have e1 : nI h - 1 = nI (h - 1) := pk_sub (b := 1) h1
      rw [e1, sw_orp (by omega), en]
    · unfold wY_steps_135
      exact br_f (by decide) (k147 _ nt.1 (Or.inr y) rfl)
theorem sw_y63 {post : Int32 → SY → Prop} {a b : Nat} (hb : b < 128) (hp : ∀ r mt fr, sw_Ans a b r → post r (nI n, H, o, mt, fr)) : ∀ fu p many v dd mt fr, 128 - p < fu → sw_Q a p many v dd mt fr → wY_steps_63 post (nI b) (nI n) fu (nI many) (nI p) H o mt fr := by
  intro fu
  induction fu with
  | zero => intro p many v dd mt fr hf; exact absurd hf (Nat.not_lt_zero _)
  | succ g ih =>
    intro p many v dd mt fr hf Q
    have q128 := sw_Q_128 Q
    have pm := Q.1.2.2.2
    refine pk_le many p (fun z => ?_) (fun z => ?_)
    · have e : p = many := by omega
      subst e
      have an := sw_Q_ans hb Q
      have hin : vp_in (nI b) 128 := vp_in_nI hb (by decide)
      refine ⟨hin, ?_⟩
      rw [nI_clamp (by omega)]
      exact br_c (fun y => ⟨hin, hp _ _ _ (an.1 y)⟩) (fun y => hp _ _ _ (an.2 y))
    · refine ⟨vp_in_nI (by omega) (by decide), nm_r (e' := nI (v p)) ?_ ⟨8, sw_y81 (fun many' v' dd' mt' fr' Q' => ih (p + 1) many' v' dd' mt' fr' (by omega) Q') 7 1 8 many (v p) v dd mt fr (by omega) (by omega) (by omega) z rfl Q (fun g g1 g2 => by omega)⟩⟩
      rw [nI_clamp (by omega)]
      exact (Q.2.1 p z).2.1
theorem sw_y24 {post : Int32 → SY → Prop} {a b : Nat} (ha : a < 128) (hb : b < 128) (hp : ∀ r mt fr, sw_Ans a b r → post r (nI n, H, o, mt, fr)) {mt : Nat → Int32} : ∀ e i fu fr, i + e = 128 → e < fu → (∀ s, s < i → fr s = -1) → wY_steps_24 post (nI a) (nI b) (nI n) fu (nI i) H o mt fr := by
  intro e
  induction e with
  | zero =>
    intro i fu fr ei hf hA
    obtain ⟨g, rfl⟩ : ∃ g, fu = g + 1 := ⟨fu - 1, by omega⟩
    have e2 : i = 128 := by omega
    subst e2
    refine br_t (nI_le (a := 128) (Nat.le_refl _) (by omega)) (nm_e ⟨vp_in_nI ha (by decide), nm_r (e' := upd fr a (nI 0)) ?_ ⟨129, sw_y63 hb hp 129 0 1 (fun _ => a) (fun _ => 0) _ _ (by omega) ?_⟩⟩)
    · rw [nI_clamp (by omega)]; rfl
    · refine ⟨⟨by omega, rfl, rfl, by omega⟩, fun j hj => ?_, fun i j hij hj => by omega, fun _ _ _ => Nat.zero_le 1, fun s hs => ?_, fun j hj => by omega⟩
      · have j0 : j = 0 := by omega
        subst j0
        exact ⟨ha, pk_us, pk_us, Nat.le_refl 0, rfl⟩
      · by_cases q : s = a
        · exact Or.inr ⟨0, by omega, q.symm⟩
        · rw [pk_un q]; exact Or.inl (hA s hs)
  | succ e ih =>
    intro i fu fr ei hf hA
    obtain ⟨g, rfl⟩ : ∃ g, fu = g + 1 := ⟨fu - 1, by omega⟩
    refine br_f (nI_ge (b := 128) (by omega) (by decide)) ⟨vp_in_nI (by omega) (by decide), nm_r (e' := upd fr i (-1)) ?_ (nm_r (nI_1 i) (ih (i + 1) g _ (by omega) (by omega) (fun s hs => ?_)))⟩
    · rw [nI_clamp (by omega)]
    · by_cases q : s = i
      · subst q; exact pk_us
      · rw [pk_un q]; exact hA s (by omega)
theorem sw_ysteps {post : Int32 → SY → Prop} {a b : Nat} {mt fr : Nat → Int32} (ha : a < 128) (hb : b < 128) (hp : ∀ r mt fr, sw_Ans a b r → post r (nI n, H, o, mt, fr)) : wpY_steps post (nI n, H, o, mt, fr) (nI a) (nI b) := by
  unfold wpY_steps
  dsimp only
  exact br_f (nI_pos (by omega)) (br_f (nI_nlt (a := 127) (by omega) (by decide)) (br_f (nI_pos (by omega)) (br_t (nI_le (b := 127) (by omega) (by decide)) ⟨129, sw_y24 ha hb hp 128 0 129 fr (by omega) (by omega) (fun s hs => absurd hs (Nat.not_lt_zero s))⟩)))
end
theorem sw_127 (x : Int32) : (∃ j : Nat, j < 128 ∧ x = nI j) ∨ (x < 0 ∨ (¬ x < 0 ∧ 128 ≤ x ∧ ¬ x < 128 ∧ 127 < x ∧ ¬ x ≤ 127)) := by
  by_cases h : x < 0
  · exact Or.inr (Or.inl h)
  · obtain ⟨j, hj, rfl⟩ := nI_of h
    by_cases q : j < 128
    · exact Or.inl ⟨j, q, rfl⟩
    · exact Or.inr (Or.inr ⟨h, nI_le (a := 128) (by omega) hj, nI_nlt (b := 128) (by omega) hj, nI_lt (a := 127) (by omega) hj, nI_ge (a := 127) (by omega) hj⟩)
theorem i_vc_steps {k : Nat} {u : SX} {v : SY} (I : i_Rel k u v) (hk : k + 3 ≤ 1536) (v1 : Int32) (v2 : Int32) : wpX_steps (fun r u' => wpY_steps (fun r' v' => r' = r ∧ i_Rel (k + 3) u' v') v v1 v2) u v1 v2 := by
  obtain ⟨n, c, h, oX, w, aX, oY, m, f, rfl, rfl, hn, hn5, hh, hc, hT⟩ := I
  have R := sw_rel (k := k + 3) (oX := oX) (aX := aX) (oY := oY) (m := m) (f := f) hn hn5 hh hc hT
  rcases sw_127 v1 with ⟨a, ha, rfl⟩ | hb
  · have a1 : ¬ nI a < 0 := nI_pos (by omega)
    have a2 : ¬ (128 : Int32) ≤ nI a := nI_ge (b := 128) ha (by decide)
    have a3 : ¬ (127 : Int32) < nI a := nI_nlt (a := 127) (by omega) (by decide)
    rcases sw_127 v2 with ⟨b, hb, rfl⟩ | hb
    · exact sw_xsteps ha hb (fun r A' a1 => sw_ysteps ha hb (fun r' mt fr a2 => ⟨sw_Ans_eq a1 a2, sw_rel hn hn5 hh hc hT⟩))
    · unfold wpX_steps wpY_steps
      dsimp only
      rcases hb with q | ⟨q1, q2, q3, q4, q5⟩
      · exact br_f a1 (br_f a2 (br_t q (br_f a1 (br_f a3 (br_t q ⟨rfl, R⟩)))))
      · exact br_f a1 (br_f a2 (br_f q1 (br_f q3 (br_f a1 (br_f a3 (br_f q1 (br_f q5 ⟨rfl, R⟩)))))))
  · unfold wpX_steps wpY_steps
    dsimp only
    rcases hb with q | ⟨q1, q2, q3, q4, q5⟩
    · exact br_t q (br_t q ⟨rfl, R⟩)
    · exact br_f q1 (br_t q2 (br_f q1 (br_t q4 ⟨rfl, R⟩)))
end
