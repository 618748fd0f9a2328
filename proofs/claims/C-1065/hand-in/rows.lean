section
/-! pure rows to paste: stores, nI and lN arithmetic, masks, shifts, narrowing, branches by naturals (pk_le, pk_lt, pk_eq), loops (lp1 .. lp16: the measure of the state; rp1 ..: recursion), negatives. Take what you need -/
theorem pk_us {f : Nat → Int32} {k : Nat} {x : Int32} : upd f k x k = x := if_pos rfl
theorem pk_un {f : Nat → Int32} {k j : Nat} {x : Int32} (h : j ≠ k) : upd f k x j = f j := if_neg h
theorem pk_uLs {f : Nat → Int64} {k : Nat} {x : Int64} : vp_updL f k x k = x := if_pos rfl
theorem pk_uLn {f : Nat → Int64} {k j : Nat} {x : Int64} (h : j ≠ k) : vp_updL f k x j = f j := if_neg h
theorem pk_sub {a b : Nat} (h : b ≤ a) : nI a - nI b = nI (a - b) := by
  obtain ⟨c, rfl⟩ : ∃ c, a = c + b := ⟨a - b, by omega⟩
  rw [← nI_add, Int32.add_sub_cancel, Nat.add_sub_cancel]
theorem pk_m1 (n : Nat) : nI (n + 1) + (-1) = nI n := by
  rw [← nI_1, Int32.add_assoc, show (1 : Int32) + (-1) = 0 from rfl, Int32.add_zero]
theorem pk_mul (a b : Nat) : nI a * nI b = nI (a * b) := (Int32.ofNat_mul a b).symm
theorem pk_div {a d : Nat} (ha : a < 2 ^ 31) (h0 : 0 < d) (hd : d < 2 ^ 31) : nI a / nI d = nI (a / d) := by
  apply Int32.toInt_inj.mp
  rw [lg_idiv_nonneg (by rw [nI_toInt ha]; omega) (by rw [nI_toInt hd]; omega), nI_toInt ha, nI_toInt hd, nI_toInt (Nat.lt_of_le_of_lt (Nat.div_le_self a d) ha)]
  first | rfl | exact (Int.natCast_ediv _ _).symm
theorem pk_rem {a d : Nat} (ha : a < 2 ^ 31) (h0 : 0 < d) (hd : d < 2 ^ 31) : nI a - nI a / nI d * nI d = nI (a % d) := by
  rw [pk_div ha h0 hd, pk_mul, pk_sub (Nat.div_mul_le_self a d)]
  exact congrArg nI (by have := Nat.div_add_mod' a d; omega)
theorem pk_sub_toInt {a b : Nat} (ha : a < 2 ^ 30) (hb : b < 2 ^ 30) : (nI a - nI b).toInt = (a : Int) - b := by
  rw [Int32.toInt_sub, nI_toInt (by omega), nI_toInt (by omega)]
  exact Int.bmod_eq_of_le (by omega) (by omega)
theorem pk_sneg {a b : Nat} (hb : b < 2 ^ 30) (h : a < b) : nI a - nI b < 0 := by
  rw [Int32.lt_iff_toInt_lt, pk_sub_toInt (by omega) hb, show (0 : Int32).toInt = 0 from by decide]
  omega
theorem pk_ix (x : Int32) {n : Nat} (hn : n < 2 ^ 31) : x < 0 ∨ nI n ≤ x ∨ ∃ j : Nat, j < n ∧ x = nI j := by
  by_cases h : x < 0
  · exact Or.inl h
  · obtain ⟨j, hj, rfl⟩ := nI_of h
    by_cases h2 : j < n
    · exact Or.inr (Or.inr ⟨j, h2, rfl⟩)
    · exact Or.inr (Or.inl (nI_le (by omega) hj))
theorem pk_le {x y : Int32} {A B : Prop} (a b : Nat) (f : a ≤ b → A) (g : b < a → B) (hx : x = nI a := by rfl) (hy : y = nI b := by rfl) (ha : a < 2 ^ 31 := by omega) (hb : b < 2 ^ 31 := by omega) : (x ≤ y → A) ∧ (¬ x ≤ y → B) := by
  subst hx hy
  rw [nI_leI ha hb]
  exact ⟨f, fun z => g (by omega)⟩
theorem pk_lt {x y : Int32} {A B : Prop} (a b : Nat) (f : a < b → A) (g : b ≤ a → B) (hx : x = nI a := by rfl) (hy : y = nI b := by rfl) (ha : a < 2 ^ 31 := by omega) (hb : b < 2 ^ 31 := by omega) : (x < y → A) ∧ (¬ x < y → B) := by
  subst hx hy
  rw [nI_ltI ha hb]
  exact ⟨f, fun z => g (by omega)⟩
theorem pk_eq {x y : Int32} {A B : Prop} (a b : Nat) (f : a = b → A) (g : a ≠ b → B) (hx : x = nI a := by rfl) (hy : y = nI b := by rfl) (ha : a < 2 ^ 31 := by omega) (hb : b < 2 ^ 31 := by omega) : (x = y → A) ∧ (¬ x = y → B) := by
  subst hx hy
  rw [nI_eq ha hb]
  exact ⟨f, g⟩
theorem pk_in {x : Int32} (n N : Nat) (h : n < N) (hx : x = nI n := by rfl) (hN : N < 2 ^ 31 := by omega) : vp_in x N := by
  subst hx
  exact vp_in_nI h hN
theorem pk_cl {x : Int32} (n : Nat) (hx : x = nI n := by rfl) (h : n < 2 ^ 31 := by omega) : x.toNatClampNeg = n := by
  subst hx
  exact nI_clamp h
theorem pk_tn {n : Nat} (h : n < 2 ^ 32) : (nI n).toBitVec.toNat = n := Nat.mod_eq_of_lt h
theorem pk_and (x : Int32) {m : Int32} (k : Nat) (hm : m.toBitVec.toNat = 2 ^ k - 1) : x &&& m = nI (x.toBitVec.toNat % 2 ^ k) := by
  apply Int32.toBitVec_inj.mp
  apply BitVec.eq_of_toNat_eq
  rw [Int32.toBitVec_and, BitVec.toNat_and, hm, Nat.and_two_pow_sub_one_eq_mod]
  show _ = (BitVec.ofNat 32 _).toNat
  rw [BitVec.toNat_ofNat]
  exact (Nat.mod_eq_of_lt (Nat.lt_of_le_of_lt (Nat.mod_le _ _) x.toBitVec.isLt)).symm
theorem pk_andN {n : Nat} (h : n < 2 ^ 32) {m : Int32} (k : Nat) (hm : m.toBitVec.toNat = 2 ^ k - 1) : nI n &&& m = nI (n % 2 ^ k) := by
  rw [pk_and _ k hm, pk_tn h]
theorem pk_andE (x : Int32) {m : Int32} (k : Nat) (hm : m.toBitVec.toNat = 2 ^ k - 1) : ∃ j : Nat, j < 2 ^ k ∧ x &&& m = nI j := ⟨_, Nat.mod_lt _ (Nat.two_pow_pos k), pk_and x k hm⟩
theorem pk_andIn (x : Int32) {m : Int32} (k : Nat) (hm : m.toBitVec.toNat = 2 ^ k - 1) (hk : k ≤ 30) : vp_in (x &&& m) (2 ^ k) := by
  obtain ⟨j, hj, e⟩ := pk_andE x k hm
  rw [e]
  exact vp_in_nI hj (Nat.lt_of_le_of_lt (Nat.pow_le_pow_right (by decide) hk) (by decide))
theorem pk_shl (a s : Int32) (k : Nat) (hs : (s.toBitVec.smod 32).toNat = k) : (a <<< s).toBitVec.toNat = a.toBitVec.toNat * 2 ^ k % 2 ^ 32 := by
  show (a.toBitVec <<< (s.toBitVec.smod 32).toNat).toNat = _
  rw [hs, BitVec.toNat_shiftLeft, Nat.shiftLeft_eq]
theorem pk_shlN {n : Nat} (s : Int32) (k : Nat) (hs : (s.toBitVec.smod 32).toNat = k) (h : n * 2 ^ k < 2 ^ 32) : nI n <<< s = nI (n * 2 ^ k) := by
  apply Int32.toBitVec_inj.mp
  apply BitVec.eq_of_toNat_eq
  have hn : n < 2 ^ 32 := Nat.lt_of_le_of_lt (Nat.le_mul_of_pos_right n (Nat.two_pow_pos k)) h
  rw [pk_shl _ _ k hs, pk_tn hn, pk_tn h, Nat.mod_eq_of_lt h]
theorem pk_shr (a s : Int32) (k : Nat) (hs : (s.toBitVec.smod 32).toNat = k) : (a >>> s).toInt = a.toInt >>> k := by
  show (a.toBitVec.sshiftRight (s.toBitVec.smod 32).toNat).toInt = _
  rw [hs, BitVec.toInt_sshiftRight]
  rfl
theorem pk_shrN {n : Nat} (h : n < 2 ^ 31) (s : Int32) (k : Nat) (hs : (s.toBitVec.smod 32).toNat = k) : nI n >>> s = nI (n / 2 ^ k) := by
  apply Int32.toInt_inj.mp
  have h2 : n / 2 ^ k ≤ n := Nat.div_le_self _ _
  rw [pk_shr _ _ k hs, nI_toInt h, nI_toInt (by omega), Int.shiftRight_eq_div_pow]
  rfl
theorem pk_ushr (x s : Int32) (k : Nat) (hs : ((s.toUInt32 &&& Int32.toUInt32 31).toBitVec % 32).toNat = k) : (x.toUInt32 >>> (s.toUInt32 &&& Int32.toUInt32 31)).toInt32.toBitVec.toNat = x.toBitVec.toNat / 2 ^ k := by
  have e : (x.toUInt32 >>> (s.toUInt32 &&& Int32.toUInt32 31)).toInt32.toBitVec = x.toBitVec >>> k := by
    rw [← hs]
    exact UInt32.toBitVec_shiftRight _ _
  rw [e, BitVec.toNat_ushiftRight, Nat.shiftRight_eq_div_pow]
theorem pk_ushrN {n : Nat} (hn : n < 2 ^ 32) (s : Int32) (k : Nat) (hs : ((s.toUInt32 &&& Int32.toUInt32 31).toBitVec % 32).toNat = k) : ((nI n).toUInt32 >>> (s.toUInt32 &&& Int32.toUInt32 31)).toInt32 = nI (n / 2 ^ k) := by
  apply Int32.toBitVec_inj.mp
  apply BitVec.eq_of_toNat_eq
  rw [pk_ushr _ s k hs, pk_tn hn, pk_tn (Nat.lt_of_le_of_lt (Nat.div_le_self _ _) hn)]
theorem pk_nb (z : Int32) : narrow .byte (.int z.toInt8.toInt32) = .int z.toInt8.toInt32 := congrArg Value.int (by simp)
theorem pk_ns (z : Int32) : narrow .short (.int z.toInt16.toInt32) = .int z.toInt16.toInt32 := congrArg Value.int (by simp)
theorem pk_fb (r : Int32) : fits .byte (.int r.toInt8.toInt32) = true := by
  have ⟨a, b⟩ := lg_i2b_range r
  have h1 : (-128 : Int32).toInt = -128 := by decide
  have h2 : (127 : Int32).toInt = 127 := by decide
  simp only [fits, Bool.and_eq_true, decide_eq_true_eq, Int32.le_iff_toInt_le, h1, h2]
  omega
theorem pk_fs (r : Int32) : fits .short (.int r.toInt16.toInt32) = true := by
  have ⟨a, b⟩ := lg_i2s_range r
  have h1 : (-32768 : Int32).toInt = -32768 := by decide
  have h2 : (32767 : Int32).toInt = 32767 := by decide
  simp only [fits, Bool.and_eq_true, decide_eq_true_eq, Int32.le_iff_toInt_le, h1, h2]
  omega
theorem pk_charN {q : Nat} (hq : q < 65536) : narrow .char (.int (nI q)) = .int (nI q) ∧ fits .char (.int (nI q)) = true := by
  constructor
  · have e : (nI q).toUInt32.toUInt16.toUInt32.toInt32 = nI q := by
      apply Int32.toBitVec_inj.mp
      apply BitVec.eq_of_toNat_eq
      show (nI q).toUInt32.toUInt16.toUInt32.toNat = q % 2 ^ 32
      rw [UInt16.toNat_toUInt32, UInt32.toNat_toUInt16, show (nI q).toUInt32.toNat = q % 2 ^ 32 from rfl]
      omega
    exact congrArg Value.int e
  · have a : (0 : Int32) ≤ nI q := nI_pos' (by omega)
    have b : nI q ≤ 65535 := nI_le (b := 65535) (by omega) (by decide)
    show (decide ((0 : Int32) ≤ nI q) && decide (nI q ≤ 65535)) = true
    rw [decide_eq_true a, decide_eq_true b]
    rfl
theorem pk_char (x : Int32) : (x.toUInt32 % 65536).toInt32 = nI (x.toBitVec.toNat % 65536) := by
  apply Int32.toBitVec_inj.mp
  apply BitVec.eq_of_toNat_eq
  rw [pk_tn (by omega)]
  show (x.toUInt32 % 65536).toNat = _
  rw [UInt32.toNat_mod]
  rfl
theorem pk_nc (x : Int32) : narrow .char (.int (x.toUInt32 % 65536).toInt32) = .int (x.toUInt32 % 65536).toInt32 := by
  rw [pk_char]
  exact (pk_charN (Nat.mod_lt _ (by decide))).1
theorem pk_fc (x : Int32) : fits .char (.int (x.toUInt32 % 65536).toInt32) = true := by
  rw [pk_char]
  exact (pk_charN (Nat.mod_lt _ (by decide))).2
theorem pk_vb (z : Int32) : vp_nar .byte z.toInt8.toInt32 = z.toInt8.toInt32 := by rw [vp_nar_byte]; simp
theorem pk_vs (z : Int32) : vp_nar .short z.toInt16.toInt32 = z.toInt16.toInt32 := by rw [vp_nar_short]; simp
theorem pk_vc (z : Int32) : vp_nar .char (z.toUInt32 % 65536).toInt32 = (z.toUInt32 % 65536).toInt32 := Value.int.inj (pk_nc z)
end
section
/-! lifts: arrays of ints that hold naturals or booleans -/
def qa_i (f : Nat → Nat) : Nat → Int32 := fun k => nI (f k)
def qa_B (b : Bool) : Int32 := if b = true then 1 else 0
def qa_b (p : Nat → Bool) : Nat → Int32 := fun k => qa_B (p k)
def qa_u (f : Nat → Nat) (k v : Nat) : Nat → Nat := fun j => if j = k then v else f j
def qa_v (p : Nat → Bool) (k : Nat) (v : Bool) : Nat → Bool := fun j => if j = k then v else p j
theorem qa_us {f : Nat → Nat} {k v : Nat} : qa_u f k v k = v := if_pos rfl
theorem qa_un {f : Nat → Nat} {k v j : Nat} (h : j ≠ k) : qa_u f k v j = f j := if_neg h
theorem qa_vs {f : Nat → Bool} {k : Nat} {v : Bool} : qa_v f k v k = v := if_pos rfl
theorem qa_vn {f : Nat → Bool} {k j : Nat} {v : Bool} (h : j ≠ k) : qa_v f k v j = f j := if_neg h
theorem qa_at (f : Nat → Nat) {k : Nat} (h : k < 2 ^ 31) : qa_i f (nI k).toNatClampNeg = nI (f k) := by rw [nI_clamp h]; rfl
theorem qa_bt (p : Nat → Bool) {k : Nat} (h : k < 2 ^ 31) : qa_b p (nI k).toNatClampNeg = qa_B (p k) := by rw [nI_clamp h]; rfl
theorem qa_iu {f : Nat → Nat} {k v : Nat} : upd (qa_i f) k (nI v) = qa_i (qa_u f k v) := by
  funext j
  unfold upd qa_i qa_u
  split <;> rfl
theorem qa_bu {p : Nat → Bool} {k : Nat} {v : Bool} : upd (qa_b p) k (qa_B v) = qa_b (qa_v p k v) := by
  funext j
  unfold upd qa_b qa_v
  split <;> rfl
theorem qa_B0 : qa_B false = 0 := rfl
theorem qa_B1 : qa_B true = 1 := rfl
theorem qa_Bz {b : Bool} : qa_B b = 0 ↔ b = false := by
  cases b
  · exact ⟨fun _ => rfl, fun _ => rfl⟩
  · exact ⟨fun h => absurd h (by decide), fun h => by cases h⟩
theorem qa_Bn {b : Bool} : ¬ qa_B b = 0 ↔ b = true := by
  cases b
  · exact ⟨fun h => absurd rfl h, fun h => by cases h⟩
  · exact ⟨fun _ => rfl, fun _ => by decide⟩
theorem qa_by0 : ∀ v, v < 128 → (nI v).toInt8.toInt32 = nI v := by decide +kernel
theorem qa_sh0 : ∀ v, v < 512 → (nI v).toInt16.toInt32 = nI v := by decide +kernel
theorem qa_by {v : Nat} (h : v < 128) : vp_nar .byte (nI v) = nI v := by rw [vp_nar_byte, qa_by0 v h]
theorem qa_byi {v : Nat} (h : v < 128) : vp_nar .byte (nI v).toInt8.toInt32 = nI v := by rw [qa_by0 v h, qa_by h]
theorem qa_shi {v : Nat} (h : v < 512) : vp_nar .short (nI v).toInt16.toInt32 = nI v := by rw [pk_vs, qa_sh0 v h]
theorem qa_m1 : vp_nar .byte (-1) = -1 := by rw [vp_nar_byte]; decide
theorem qa_bo0 : vp_nar .boolean 0 = qa_B false := rfl
theorem qa_bo1 : vp_nar .boolean 1 = qa_B true := rfl
theorem qa_nb (b : Bool) : narrow .boolean (.int (qa_B b)) = .int (qa_B b) := by cases b <;> rfl
theorem qa_2 (t i : Nat) : nI t * 2 + nI i = nI (2 * t + i) := by
  show nI t * nI 2 + nI i = _
  rw [pk_mul, nI_add, Nat.mul_comm]
theorem qa_20 (t : Nat) : nI t * 2 = nI (2 * t) := by
  show nI t * nI 2 = _
  rw [pk_mul, Nat.mul_comm]
theorem qa_2' (t i : Nat) : 2 * nI t + nI i = nI (2 * t + i) := by
  show nI 2 * nI t + nI i = _
  rw [pk_mul, nI_add]
theorem qa_20' (t : Nat) : 2 * nI t = nI (2 * t) := by
  show nI 2 * nI t = _
  rw [pk_mul]
theorem qa_3 (t i : Nat) : nI t * 3 + nI i = nI (3 * t + i) := by
  show nI t * nI 3 + nI i = _
  rw [pk_mul, nI_add, Nat.mul_comm]
theorem qa_30 (t : Nat) : nI t * 3 = nI (3 * t) := by
  show nI t * nI 3 = _
  rw [pk_mul, Nat.mul_comm]
theorem qa_3' (t i : Nat) : 3 * nI t + nI i = nI (3 * t + i) := by
  show nI 3 * nI t + nI i = _
  rw [pk_mul, nI_add]
theorem qa_30' (t : Nat) : 3 * nI t = nI (3 * t) := by
  show nI 3 * nI t = _
  rw [pk_mul]
theorem qa_64 (t : Nat) : 64 + nI t * 2 = nI (64 + 2 * t) := by
  show nI 64 + nI t * nI 2 = _
  rw [pk_mul, nI_add, Nat.mul_comm]
theorem qa_64' (t : Nat) : 64 + 2 * nI t = nI (64 + 2 * t) := by
  show nI 64 + nI 2 * nI t = _
  rw [pk_mul, nI_add]
theorem qa_32 (t : Nat) : 32 + nI t = nI (32 + t) := by
  show nI 32 + nI t = _
  rw [nI_add]
theorem qa_shr1 {n : Nat} (h : n < 2 ^ 31) : nI n >>> ((1 : Int32) &&& 31) = nI (n / 2) := pk_shrN h _ 1 (by decide)
theorem qa_and1 {n : Nat} (h : n < 2 ^ 31) : nI n &&& 1 = nI (n % 2) := pk_andN (by omega) 1 (by decide)
/-- a sum of ints, a sum of integers -/
def qa_s (f : Nat → Int32) : Nat → Int32
  | 0 => 0
  | n + 1 => qa_s f n + f n
def qa_S (f : Nat → Int) : Nat → Int
  | 0 => 0
  | n + 1 => qa_S f n + f n
theorem qa_sc {f g : Nat → Int32} : ∀ {n : Nat}, (∀ i, i < n → f i = g i) → qa_s f n = qa_s g n
  | 0, _ => rfl
  | n + 1, h => by
    show qa_s f n + f n = qa_s g n + g n
    rw [qa_sc (n := n) (fun i hi => h i (by omega)), h n (by omega)]
theorem qa_Sc {f g : Nat → Int} : ∀ {n : Nat}, (∀ i, i < n → f i = g i) → qa_S f n = qa_S g n
  | 0, _ => rfl
  | n + 1, h => by
    show qa_S f n + f n = qa_S g n + g n
    rw [qa_Sc (n := n) (fun i hi => h i (by omega)), h n (by omega)]
theorem qa_Sle {f g : Nat → Int} : ∀ {n : Nat}, (∀ i, i < n → f i ≤ g i) → qa_S f n ≤ qa_S g n
  | 0, _ => Int.le_refl _
  | n + 1, h => by
    have a := qa_Sle (f := f) (g := g) (n := n) (fun i hi => h i (by omega))
    have b := h n (by omega)
    show qa_S f n + f n ≤ qa_S g n + g n
    omega
theorem qa_S0 {f : Nat → Int} : ∀ {n : Nat}, (∀ i, i < n → 0 ≤ f i) → 0 ≤ qa_S f n
  | 0, _ => Int.le_refl _
  | n + 1, h => by
    have a := qa_S0 (f := f) (n := n) (fun i hi => h i (by omega))
    have b := h n (by omega)
    show 0 ≤ qa_S f n + f n
    omega
/-- a change at one place -/
theorem qa_S1 {f g : Nat → Int} {a : Nat} : ∀ {n : Nat}, a < n → (∀ i, i < n → i ≠ a → g i = f i) → qa_S g n = qa_S f n - f a + g a
  | 0, h, _ => by omega
  | n + 1, ha, h => by
    show qa_S g n + g n = qa_S f n + f n - f a + g a
    by_cases z : a = n
    · subst z
      rw [qa_Sc (f := g) (g := f) (n := a) (fun i hi => h i (by omega) (by omega))]
      omega
    · rw [qa_S1 (n := n) (by omega) (fun i hi hn => h i (by omega) hn), h n (by omega) (fun e => z e.symm)]
      omega
theorem qa_Sge {f : Nat → Int} {a : Nat} : ∀ {n : Nat}, a < n → (∀ i, i < n → 0 ≤ f i) → f a ≤ qa_S f n
  | 0, h, _ => by omega
  | n + 1, ha, h => by
    have n0 := h n (by omega)
    show f a ≤ qa_S f n + f n
    by_cases z : a = n
    · subst z
      have := qa_S0 (f := f) (n := a) (fun i hi => h i (by omega))
      omega
    · have := qa_Sge (f := f) (a := a) (n := n) (by omega) (fun i hi => h i (by omega))
      omega
/-- no overflow: the int sum is the integer sum -/
theorem qa_st {f : Nat → Int32} : ∀ {n : Nat}, (∀ i, i < n → 0 ≤ (f i).toInt) → qa_S (fun i => (f i).toInt) n < 2 ^ 31 → (qa_s f n).toInt = qa_S (fun i => (f i).toInt) n
  | 0, _, _ => by show (0 : Int32).toInt = 0; decide
  | n + 1, h, hb => by
    have n0 := h n (by omega)
    have e : qa_S (fun i => (f i).toInt) (n + 1) = qa_S (fun i => (f i).toInt) n + (f n).toInt := rfl
    have p0 := qa_S0 (f := fun i => (f i).toInt) (n := n) (fun i hi => h i (by omega))
    have ih := qa_st (f := f) (n := n) (fun i hi => h i (by omega)) (by omega)
    show (qa_s f n + f n).toInt = _
    rw [Int32.toInt_add, ih, e]
    exact Int.bmod_eq_of_le (by omega) (by omega)
/-- counting -/
def qa_c (P : Nat → Bool) : Nat → Nat
  | 0 => 0
  | n + 1 => qa_c P n + (if P n = true then 1 else 0)
theorem qa_cc {P Q : Nat → Bool} : ∀ {n : Nat}, (∀ i, i < n → P i = Q i) → qa_c P n = qa_c Q n
  | 0, _ => rfl
  | n + 1, h => by
    show qa_c P n + _ = qa_c Q n + _
    rw [qa_cc (n := n) (fun i hi => h i (by omega)), h n (by omega)]
theorem qa_cle (P : Nat → Bool) : ∀ n, qa_c P n ≤ n
  | 0 => Nat.le_refl _
  | n + 1 => by
    have := qa_cle P n
    show qa_c P n + _ ≤ n + 1
    split <;> omega
/-- one more -/
theorem qa_c1 {P Q : Nat → Bool} {a : Nat} (hp : P a = false) (hq : Q a = true) : ∀ {n : Nat}, a < n → (∀ i, i < n → i ≠ a → Q i = P i) → qa_c Q n = qa_c P n + 1
  | 0, h, _ => by omega
  | n + 1, ha, h => by
    show qa_c Q n + (if Q n = true then 1 else 0) = qa_c P n + (if P n = true then 1 else 0) + 1
    by_cases z : a = n
    · subst z
      rw [qa_cc (P := Q) (Q := P) (n := a) (fun i hi => h i (by omega) (by omega)), hp, hq]
      rfl
    · rw [qa_c1 hp hq (n := n) (by omega) (fun i hi hn => h i (by omega) hn), h n (by omega) (fun e => z e.symm)]
      omega
theorem qa_cpos {P : Nat → Bool} {a : Nat} (hp : P a = true) : ∀ {n : Nat}, a < n → 1 ≤ qa_c P n
  | 0, h => by omega
  | n + 1, ha => by
    show 1 ≤ qa_c P n + (if P n = true then 1 else 0)
    by_cases z : a = n
    · subst z
      rw [hp]
      simp
    · have := qa_cpos hp (n := n) (by omega)
      omega
theorem qa_cmono {P Q : Nat → Bool} : ∀ {n : Nat}, (∀ i, i < n → P i = true → Q i = true) → qa_c P n ≤ qa_c Q n
  | 0, _ => Nat.le_refl _
  | n + 1, h => by
    have a := qa_cmono (P := P) (Q := Q) (n := n) (fun i hi => h i (by omega))
    have b := h n (by omega)
    show qa_c P n + (if P n = true then 1 else 0) ≤ qa_c Q n + (if Q n = true then 1 else 0)
    cases hP : P n
    · simp; omega
    · rw [b hP]; simp; omega
end
section
/-! the lock scripts -/
def qs_R (a : Nat → Int32) : List Int32 → Prop
  | [] => True
  | x :: l => a l.length = x ∧ qs_R a l
theorem qs_up {a : Nat → Int32} {k : Nat} {v : Int32} : ∀ {l : List Int32}, qs_R a l → l.length ≤ k → qs_R (upd a k v) l
  | [], _, _ => True.intro
  | x :: l, h, hk => by
    have hk' : l.length + 1 ≤ k := hk
    exact ⟨by rw [pk_un (by omega)]; exact h.1, qs_up h.2 (by omega)⟩
def qs_bin (j : Nat) (b a : Int32) : Int32 := if j = 3 then b + a else if j = 4 then b * a else if j = 5 then b - a else if j = 6 then (if b = a then 1 else 0) else if j = 7 then (if a ≤ b then 0 else 1) else b ^^^ a
def qs_step (j : Nat) (h : Int32) (l : List Int32) : Option (List Int32) :=
  if j = 1 then some (1 :: l) else if j = 10 then some (h :: l) else if j = 11 then some (2 :: l) else
  match l with
  | [] => none
  | a :: l1 => if j = 2 then some (a :: a :: l1) else if j = 9 then some l1 else if j = 13 then some ((if a = 0 then 1 else 0) :: l1) else if j = 15 then (if a = 0 then none else some l1) else
    match l1 with
    | [] => none
    | b :: l2 => if j = 8 then some (b :: a :: l2) else if j = 14 then some (b :: a :: b :: l2) else some (qs_bin j b a :: l2)
def qs_end (l : List Int32) : Bool :=
  match l with
  | [] => false
  | a :: _ => decide (¬ a = 0)
def qs_go : Nat → Nat → Int32 → List Int32 → Bool
  | 0, _, _, l => qs_end l
  | n + 1, r, h, l => if r % 16 = 0 then qs_end l else (match qs_step (r % 16) h l with
    | none => false
    | some l' => qs_go n (r / 16) h l')
theorem qs_go_z {n r : Nat} {h : Int32} {l : List Int32} (e : r % 16 = 0) : qs_go (n + 1) r h l = qs_end l := by
  rw [qs_go, if_pos e]
theorem qs_go_n {n r : Nat} {h : Int32} {l : List Int32} (e : r % 16 ≠ 0) (s : qs_step (r % 16) h l = none) : qs_go (n + 1) r h l = false := by
  rw [qs_go, if_neg e, s]
theorem qs_go_s {n r : Nat} {h : Int32} {l l' : List Int32} (e : r % 16 ≠ 0) (s : qs_step (r % 16) h l = some l') : qs_go (n + 1) r h l = qs_go n (r / 16) h l' := by
  rw [qs_go, if_neg e, s]
theorem qs_go_0 {n : Nat} {h : Int32} {l : List Int32} : qs_go n 0 h l = qs_end l := by
  cases n with
  | zero => rfl
  | succ n => exact qs_go_z rfl
theorem qs_len {j : Nat} {h : Int32} {l l' : List Int32} (e : qs_step j h l = some l') : l'.length ≤ l.length + 1 := by
  unfold qs_step at e
  repeat' split at e
  all_goals first
    | (cases e; done)
    | (cases e; simp only [List.length_cons]; omega)
    | (cases e; simp only [List.length_cons]; omega; done)
    | (injection e with e; subst e; simp only [List.length_cons]; omega)
def qs_tm : Nat → Nat → Bool
  | 0, _ => false
  | n + 1, r => if r % 16 = 0 then false else if r % 16 = 10 then true else qs_tm n (r / 16)
theorem qs_sh {j : Nat} (h h' : Int32) (l : List Int32) (hj : j ≠ 10) : qs_step j h l = qs_step j h' l := by
  unfold qs_step
  rw [if_neg hj, if_neg hj]
/-- a script that doesn't ask for the height answers alike at all heights -/
theorem qs_tm_h {h h' : Int32} : ∀ {n r : Nat} {l : List Int32}, qs_tm n r = false → qs_go n r h l = qs_go n r h' l
  | 0, _, _, _ => rfl
  | n + 1, r, l, e => by
    by_cases z : r % 16 = 0
    · rw [qs_go_z z, qs_go_z z]
    · rw [qs_tm, if_neg z] at e
      by_cases t : r % 16 = 10
      · rw [if_pos t] at e; cases e
      · rw [if_neg t] at e
        have hs := qs_sh h h' l t
        cases q : qs_step (r % 16) h l with
        | none => rw [qs_go_n z q, qs_go_n z (hs.symm.trans q)]
        | some l' => rw [qs_go_s z q, qs_go_s z (hs.symm.trans q)]; exact qs_tm_h e
/-- the answer of a script -/
def qs_run (lock w h : Int32) : Bool := qs_go 8 lock.toBitVec.toNat h [w]
def qs_timed (lock : Int32) : Bool := qs_tm 8 lock.toBitVec.toNat
theorem qs_op (x : Int32) : x &&& 15 = nI (x.toBitVec.toNat % 16) := pk_and x 4 (by decide)
theorem qs_s4 (x : Int32) : (x.toUInt32 >>> ((4 : Int32).toUInt32 &&& Int32.toUInt32 31)).toInt32.toBitVec.toNat = x.toBitVec.toNat / 16 := pk_ushr x 4 4 (by decide)
theorem qs_z {x : Int32} : x = 0 ↔ x.toBitVec.toNat = 0 :=
  ⟨fun h => by rw [h]; rfl, fun h => Int32.toBitVec_inj.mp (BitVec.eq_of_toNat_eq (by rw [h]; rfl))⟩
theorem qs_opz {r : Nat} : nI (r % 16) = 0 ↔ r % 16 = 0 := by
  rw [← nI_0, nI_eq (by omega) (by decide)]
section
variable {f_submitted f_tipHeight f_poolSize f_sp f_failed : Int32} {a_inCount a_outCount a_sealed a_inFrom a_inWitness a_amounts a_locks a_parent a_work a_state a_order a_txCount a_txs a_height a_weight a_main a_unspent a_home a_before a_path a_pool a_poolBefore a_inPool a_poolSpends a_stack a_seenLock a_seenWitness a_seen : Nat → Int32}
theorem qx_timed_l {post : Int32 → Prop} : ∀ (n : Nat) (x : Int32), x.toBitVec.toNat < 16 ^ n → post (qa_B (qs_tm n x.toBitVec.toNat)) → ∀ m, n < m → wX_timed_2 post m x := by
  intro n
  induction n with
  | zero =>
    intro x hx hp m hm
    obtain ⟨m, rfl⟩ : ∃ q, m = q + 1 := ⟨m - 1, by omega⟩
    have z : x = 0 := qs_z.mpr (by omega)
    subst z
    exact br_t (by decide) (br_f (by decide) hp)
  | succ n ih =>
    intro x hx hp m hm
    obtain ⟨m, rfl⟩ : ∃ q, m = q + 1 := ⟨m - 1, by omega⟩
    rw [wX_timed_2]
    unfold wX_timed_25
    rw [qs_tm] at hp
    simp only [qs_op]
    by_cases z : x.toBitVec.toNat % 16 = 0
    · rw [if_pos z] at hp
      rw [z]
      exact br_t (by decide) (br_f (by decide) hp)
    · rw [if_neg z] at hp
      refine br_f (fun q => z (qs_opz.mp q)) ?_
      by_cases t : x.toBitVec.toNat % 16 = 10
      · rw [if_pos t] at hp
        rw [t]
        exact br_t (by decide) (br_t (by decide) hp)
      · rw [if_neg t] at hp
        refine br_f (fun q => t ?_) ?_
        · have q' : nI (x.toBitVec.toNat % 16) = nI 10 := q
          rwa [nI_eq (by omega) (by decide)] at q'
        · intro y ey
          subst ey
          refine ih _ ?_ ?_ m (by omega)
          · rw [qs_s4]; rw [Nat.pow_succ] at hx; omega
          · rw [qs_s4]; exact hp
theorem qx_timed {post : Int32 → Prop} (x : Int32) (h : post (qa_B (qs_timed x))) : wpX_timed post x :=
  ⟨9, qx_timed_l 8 x (by have := x.toBitVec.isLt; omega) h 9 (by omega)⟩

theorem qx_bin {post : SX → Prop} {a b : Int32} {l2 : List Int32} (j : Nat) (hj : j = 3 ∨ j = 4 ∨ j = 5 ∨ j = 6 ∨ j = 7 ∨ j = 12) (R : qs_R a_stack (a :: b :: l2)) (hl : l2.length + 2 ≤ 12)
    (K : ∀ (sp' : Int32) (stk' : Nat → Int32), sp' = nI (l2.length + 1) → qs_R stk' (qs_bin j b a :: l2) → post (f_submitted, f_tipHeight, f_poolSize, sp', f_failed, a_inCount, a_outCount, a_sealed, a_inFrom, a_inWitness, a_amounts, a_locks, a_parent, a_work, a_state, a_order, a_txCount, a_txs, a_height, a_weight, a_main, a_unspent, a_home, a_before, a_path, a_pool, a_poolBefore, a_inPool, a_poolSpends, stk', a_seenLock, a_seenWitness, a_seen)) : wpX_binary post (f_submitted, f_tipHeight, f_poolSize, nI (l2.length + 2), f_failed, a_inCount, a_outCount, a_sealed, a_inFrom, a_inWitness, a_amounts, a_locks, a_parent, a_work, a_state, a_order, a_txCount, a_txs, a_height, a_weight, a_main, a_unspent, a_home, a_before, a_path, a_pool, a_poolBefore, a_inPool, a_poolSpends, a_stack, a_seenLock, a_seenWitness, a_seen) (nI j) := by
  have e1 : nI (l2.length + 2) - 1 = nI (l2.length + 1) := nI_pred _
  have e2 : nI (l2.length + 1) - 1 = nI l2.length := nI_pred _
  have c0 : (nI l2.length).toNatClampNeg = l2.length := nI_clamp (by omega)
  have c1 : (nI (l2.length + 1)).toNatClampNeg = l2.length + 1 := nI_clamp (by omega)
  have F : ∀ v, v = qs_bin j b a → wX_binary_133 post v f_submitted f_tipHeight f_poolSize (nI (l2.length + 1)) f_failed a_inCount a_outCount a_sealed a_inFrom a_inWitness a_amounts a_locks a_parent a_work a_state a_order a_txCount a_txs a_height a_weight a_main a_unspent a_home a_before a_path a_pool a_poolBefore a_inPool a_poolSpends a_stack a_seenLock a_seenWitness a_seen := by
    intro v ev
    unfold wX_binary_133
    rw [e2, c0]
    refine ⟨vp_in_nI (by omega) (by decide), fun s es => K _ s rfl ?_⟩
    rw [es, ev]
    exact ⟨pk_us, qs_up R.2.2 (Nat.le_refl _)⟩
  unfold wpX_binary
  dsimp only
  refine br_t (nI_le (a := 2) (by omega) (by omega)) ?_
  rw [e1]
  intro sp2 es
  subst es
  rw [e2, c0, c1]
  refine ⟨vp_in_nI (by omega) (by decide), fun x2 e2 => ⟨vp_in_nI (by omega) (by decide), fun x3 e3 => ?_⟩⟩
  rw [R.2.1] at e2
  have r1 : a_stack (l2.length + 1) = a := R.1
  rw [r1] at e3
  subst e2 e3
  rcases hj with rfl | rfl | rfl | rfl | rfl | rfl
  · exact br_f (by decide) (br_f (by decide) (br_t (by decide) fun v ev => F v ev))
  · exact br_f (by decide) (br_f (by decide) (br_f (by decide) (br_t (by decide) fun v ev => F v ev)))
  · exact br_f (by decide) (br_f (by decide) (br_f (by decide) (br_f (by decide) (br_t (by decide) fun v ev => F v ev))))
  · refine br_f (by decide) (br_f (by decide) (br_f (by decide) (br_f (by decide) (br_f (by decide) (br_t (by decide) (br_c (fun q => ?_) (fun q => ?_)))))))
    · exact F 1 (if_pos q).symm
    · exact F 0 (if_neg q).symm
  · refine br_f (by decide) (br_f (by decide) (br_f (by decide) (br_f (by decide) (br_f (by decide) (br_f (by decide) (br_t (by decide) (br_c (fun q => ?_) (fun q => ?_))))))))
    · exact F 0 (if_pos q).symm
    · exact F 1 (if_neg q).symm
  · exact br_f (by decide) (br_t (by decide) fun v ev => F v ev)
theorem qx_bin0 {post : SX → Prop} {l : List Int32} (x : Int32) (hl : l.length < 2) (K : post (f_submitted, f_tipHeight, f_poolSize, nI l.length, 1, a_inCount, a_outCount, a_sealed, a_inFrom, a_inWitness, a_amounts, a_locks, a_parent, a_work, a_state, a_order, a_txCount, a_txs, a_height, a_weight, a_main, a_unspent, a_home, a_before, a_path, a_pool, a_poolBefore, a_inPool, a_poolSpends, a_stack, a_seenLock, a_seenWitness, a_seen)) : wpX_binary post (f_submitted, f_tipHeight, f_poolSize, nI l.length, f_failed, a_inCount, a_outCount, a_sealed, a_inFrom, a_inWitness, a_amounts, a_locks, a_parent, a_work, a_state, a_order, a_txCount, a_txs, a_height, a_weight, a_main, a_unspent, a_home, a_before, a_path, a_pool, a_poolBefore, a_inPool, a_poolSpends, a_stack, a_seenLock, a_seenWitness, a_seen) x := by
  unfold wpX_binary
  dsimp only
  exact br_f (nI_ge (b := 2) hl (by decide)) K

theorem qx_s1 {post : SX → Prop} {l : List Int32} {h : Int32} (R : qs_R a_stack l) (hl : l.length ≤ 11) (K1 : ∀ (l' : List Int32) (sp' : Int32) (stk' : Nat → Int32), qs_step 1 h l = some l' → sp' = nI l'.length → qs_R stk' l' → post (f_submitted, f_tipHeight, f_poolSize, sp', 0, a_inCount, a_outCount, a_sealed, a_inFrom, a_inWitness, a_amounts, a_locks, a_parent, a_work, a_state, a_order, a_txCount, a_txs, a_height, a_weight, a_main, a_unspent, a_home, a_before, a_path, a_pool, a_poolBefore, a_inPool, a_poolSpends, stk', a_seenLock, a_seenWitness, a_seen)) (K2 : qs_step 1 h l = none → ∀ (sp' : Int32) (stk' : Nat → Int32), post (f_submitted, f_tipHeight, f_poolSize, sp', 1, a_inCount, a_outCount, a_sealed, a_inFrom, a_inWitness, a_amounts, a_locks, a_parent, a_work, a_state, a_order, a_txCount, a_txs, a_height, a_weight, a_main, a_unspent, a_home, a_before, a_path, a_pool, a_poolBefore, a_inPool, a_poolSpends, stk', a_seenLock, a_seenWitness, a_seen)) : wpX_single post (f_submitted, f_tipHeight, f_poolSize, nI l.length, 0, a_inCount, a_outCount, a_sealed, a_inFrom, a_inWitness, a_amounts, a_locks, a_parent, a_work, a_state, a_order, a_txCount, a_txs, a_height, a_weight, a_main, a_unspent, a_home, a_before, a_path, a_pool, a_poolBefore, a_inPool, a_poolSpends, a_stack, a_seenLock, a_seenWitness, a_seen) (nI 1) h := by
  have cl : (nI l.length).toNatClampNeg = l.length := nI_clamp (by omega)
  unfold wpX_single wX_single_17 wX_single_33
  dsimp only
  refine br_t (by decide) (br_t (nI_le (a := 0) (by omega) (by omega)) (fun x4 e4 => br_f (by decide) (br_f (by decide) (br_t (by decide) (fun sp es => ⟨vp_in_nI (by omega) (by decide), fun s e => ?_⟩)))))
  rw [cl] at e
  rw [nI_1] at es
  exact K1 (1 :: l) sp s rfl es (by rw [e]; exact ⟨pk_us, qs_up R (Nat.le_refl _)⟩)
theorem qx_s2 {post : SX → Prop} {l : List Int32} {h : Int32} (R : qs_R a_stack l) (hl : l.length ≤ 11) (K1 : ∀ (l' : List Int32) (sp' : Int32) (stk' : Nat → Int32), qs_step 2 h l = some l' → sp' = nI l'.length → qs_R stk' l' → post (f_submitted, f_tipHeight, f_poolSize, sp', 0, a_inCount, a_outCount, a_sealed, a_inFrom, a_inWitness, a_amounts, a_locks, a_parent, a_work, a_state, a_order, a_txCount, a_txs, a_height, a_weight, a_main, a_unspent, a_home, a_before, a_path, a_pool, a_poolBefore, a_inPool, a_poolSpends, stk', a_seenLock, a_seenWitness, a_seen)) (K2 : qs_step 2 h l = none → ∀ (sp' : Int32) (stk' : Nat → Int32), post (f_submitted, f_tipHeight, f_poolSize, sp', 1, a_inCount, a_outCount, a_sealed, a_inFrom, a_inWitness, a_amounts, a_locks, a_parent, a_work, a_state, a_order, a_txCount, a_txs, a_height, a_weight, a_main, a_unspent, a_home, a_before, a_path, a_pool, a_poolBefore, a_inPool, a_poolSpends, stk', a_seenLock, a_seenWitness, a_seen)) : wpX_single post (f_submitted, f_tipHeight, f_poolSize, nI l.length, 0, a_inCount, a_outCount, a_sealed, a_inFrom, a_inWitness, a_amounts, a_locks, a_parent, a_work, a_state, a_order, a_txCount, a_txs, a_height, a_weight, a_main, a_unspent, a_home, a_before, a_path, a_pool, a_poolBefore, a_inPool, a_poolSpends, a_stack, a_seenLock, a_seenWitness, a_seen) (nI 2) h := by
  have cl : (nI l.length).toNatClampNeg = l.length := nI_clamp (by omega)
  unfold wpX_single wX_single_17 wX_single_33
  dsimp only
  cases l with
  | nil => exact br_f (by decide) (br_f (by decide) (br_f (by decide) (br_f (by decide) (br_f (by decide) (br_f (by decide) (K2 rfl _ _))))))
  | cons y l1 =>
  have hl' : l1.length + 1 ≤ 11 := hl
  have e1 : nI (l1.length + 1) - 1 = nI (l1.length + 0) := nI_pred _
  have c1 : (nI (l1.length + 0)).toNatClampNeg = l1.length + 0 := nI_clamp (by omega)
  refine br_f (by decide) (br_f (by decide) (br_f (by decide) (br_f (by decide) (br_f (by decide) (br_t (nI_le (a := 1) (b := l1.length + 1) (by omega) (by omega)) (fun x4 e4 => ?_))))))
  have e4' : x4 = nI (l1.length + 0) := e4.trans e1
  subst e4'
  have cl' : (nI (l1.length + 1)).toNatClampNeg = l1.length + 1 := nI_clamp (by omega)
  have r0 : a_stack (l1.length + 0) = y := R.1
  refine br_f (by decide) (br_f (by decide) (br_f (by decide) (br_t (by decide) (fun sp es => ⟨vp_in_nI (by omega) (by decide), vp_in_nI (n := l1.length + 1) (by omega) (by decide), fun s e => ?_⟩))))
  have e' : s = upd a_stack (l1.length + 1) (a_stack (l1.length + 0)) := by rw [e, c1]; exact congrArg (fun q => upd a_stack q _) cl'
  rw [r0] at e'
  exact K1 (y :: y :: l1) sp s rfl (es.trans (nI_1 _)) (by rw [e']; exact ⟨pk_us, qs_up (l := y :: l1) R (Nat.le_refl _)⟩)
theorem qx_s8 {post : SX → Prop} {l : List Int32} {h : Int32} (R : qs_R a_stack l) (hl : l.length ≤ 11) (K1 : ∀ (l' : List Int32) (sp' : Int32) (stk' : Nat → Int32), qs_step 8 h l = some l' → sp' = nI l'.length → qs_R stk' l' → post (f_submitted, f_tipHeight, f_poolSize, sp', 0, a_inCount, a_outCount, a_sealed, a_inFrom, a_inWitness, a_amounts, a_locks, a_parent, a_work, a_state, a_order, a_txCount, a_txs, a_height, a_weight, a_main, a_unspent, a_home, a_before, a_path, a_pool, a_poolBefore, a_inPool, a_poolSpends, stk', a_seenLock, a_seenWitness, a_seen)) (K2 : qs_step 8 h l = none → ∀ (sp' : Int32) (stk' : Nat → Int32), post (f_submitted, f_tipHeight, f_poolSize, sp', 1, a_inCount, a_outCount, a_sealed, a_inFrom, a_inWitness, a_amounts, a_locks, a_parent, a_work, a_state, a_order, a_txCount, a_txs, a_height, a_weight, a_main, a_unspent, a_home, a_before, a_path, a_pool, a_poolBefore, a_inPool, a_poolSpends, stk', a_seenLock, a_seenWitness, a_seen)) : wpX_single post (f_submitted, f_tipHeight, f_poolSize, nI l.length, 0, a_inCount, a_outCount, a_sealed, a_inFrom, a_inWitness, a_amounts, a_locks, a_parent, a_work, a_state, a_order, a_txCount, a_txs, a_height, a_weight, a_main, a_unspent, a_home, a_before, a_path, a_pool, a_poolBefore, a_inPool, a_poolSpends, a_stack, a_seenLock, a_seenWitness, a_seen) (nI 8) h := by
  have cl : (nI l.length).toNatClampNeg = l.length := nI_clamp (by omega)
  unfold wpX_single wX_single_17 wX_single_33
  dsimp only
  cases l with
  | nil => exact br_f (by decide) (br_f (by decide) (br_f (by decide) (br_t (by decide) (br_f (by decide) (K2 rfl _ _)))))
  | cons y l0 =>
  cases l0 with
  | nil => exact br_f (by decide) (br_f (by decide) (br_f (by decide) (br_t (by decide) (br_f (nI_ge (a := 1) (b := 2) (by decide) (by decide)) (K2 rfl _ _)))))
  | cons z l1 =>
  have hl' : l1.length + 2 ≤ 11 := hl
  have e1 : nI (l1.length + 2) - 1 = nI (l1.length + 1) := nI_pred _
  have c1 : (nI (l1.length + 1)).toNatClampNeg = l1.length + 1 := nI_clamp (by omega)
  refine br_f (by decide) (br_f (by decide) (br_f (by decide) (br_t (by decide) (br_t (nI_le (a := 2) (b := l1.length + 2) (by omega) (by omega)) (fun x4 e4 => ?_)))))
  have e4' : x4 = nI (l1.length + 1) := e4.trans e1
  subst e4'
  have cl' : (nI (l1.length + 2)).toNatClampNeg = l1.length + 2 := nI_clamp (by omega)
  have e2 : nI (l1.length + 1) - 1 = nI l1.length := nI_pred _
  have c2 : (nI l1.length).toNatClampNeg = l1.length := nI_clamp (by omega)
  have r0 : a_stack (l1.length + 1) = y := R.1
  have r1 : a_stack l1.length = z := R.2.1
  rw [e2, c2, c1, r0, r1]
  refine br_f (by decide) (br_f (by decide) (br_f (by decide) (br_f (by decide) (br_f (by decide) (br_f (by decide) (br_f (by decide) (br_f (by decide) (br_f (by decide) (br_t (by decide) (⟨vp_in_nI (by omega) (by decide), fun x5 e5 => ⟨vp_in_nI (by omega) (by decide), vp_in_nI (by omega) (by decide), fun s e => ⟨vp_in_nI (by omega) (by decide), fun s' e' => ?_⟩⟩⟩))))))))))
  refine K1 (z :: y :: l1) _ s' rfl rfl ?_
  rw [e', e, e5]
  exact ⟨pk_us, (pk_un (by omega)).trans pk_us, qs_up (qs_up R.2.2 (Nat.le_refl _)) (Nat.le_succ _)⟩
theorem qx_s9 {post : SX → Prop} {l : List Int32} {h : Int32} (R : qs_R a_stack l) (hl : l.length ≤ 11) (K1 : ∀ (l' : List Int32) (sp' : Int32) (stk' : Nat → Int32), qs_step 9 h l = some l' → sp' = nI l'.length → qs_R stk' l' → post (f_submitted, f_tipHeight, f_poolSize, sp', 0, a_inCount, a_outCount, a_sealed, a_inFrom, a_inWitness, a_amounts, a_locks, a_parent, a_work, a_state, a_order, a_txCount, a_txs, a_height, a_weight, a_main, a_unspent, a_home, a_before, a_path, a_pool, a_poolBefore, a_inPool, a_poolSpends, stk', a_seenLock, a_seenWitness, a_seen)) (K2 : qs_step 9 h l = none → ∀ (sp' : Int32) (stk' : Nat → Int32), post (f_submitted, f_tipHeight, f_poolSize, sp', 1, a_inCount, a_outCount, a_sealed, a_inFrom, a_inWitness, a_amounts, a_locks, a_parent, a_work, a_state, a_order, a_txCount, a_txs, a_height, a_weight, a_main, a_unspent, a_home, a_before, a_path, a_pool, a_poolBefore, a_inPool, a_poolSpends, stk', a_seenLock, a_seenWitness, a_seen)) : wpX_single post (f_submitted, f_tipHeight, f_poolSize, nI l.length, 0, a_inCount, a_outCount, a_sealed, a_inFrom, a_inWitness, a_amounts, a_locks, a_parent, a_work, a_state, a_order, a_txCount, a_txs, a_height, a_weight, a_main, a_unspent, a_home, a_before, a_path, a_pool, a_poolBefore, a_inPool, a_poolSpends, a_stack, a_seenLock, a_seenWitness, a_seen) (nI 9) h := by
  have cl : (nI l.length).toNatClampNeg = l.length := nI_clamp (by omega)
  unfold wpX_single wX_single_17 wX_single_33
  dsimp only
  cases l with
  | nil => exact br_f (by decide) (br_f (by decide) (br_f (by decide) (br_f (by decide) (br_f (by decide) (br_f (by decide) (K2 rfl _ _))))))
  | cons y l1 =>
  have hl' : l1.length + 1 ≤ 11 := hl
  have e1 : nI (l1.length + 1) - 1 = nI (l1.length + 0) := nI_pred _
  have c1 : (nI (l1.length + 0)).toNatClampNeg = l1.length + 0 := nI_clamp (by omega)
  refine br_f (by decide) (br_f (by decide) (br_f (by decide) (br_f (by decide) (br_f (by decide) (br_t (nI_le (a := 1) (b := l1.length + 1) (by omega) (by omega)) (fun x4 e4 => ?_))))))
  have e4' : x4 = nI (l1.length + 0) := e4.trans e1
  subst e4'
  have cl' : (nI (l1.length + 1)).toNatClampNeg = l1.length + 1 := nI_clamp (by omega)
  have r0 : a_stack (l1.length + 0) = y := R.1
  refine br_f (by decide) (br_f (by decide) (br_f (by decide) (br_f (by decide) (br_f (by decide) (br_f (by decide) (br_f (by decide) (br_f (by decide) (br_f (by decide) (br_f (by decide) (br_t (by decide) (fun sp es => K1 l1 sp a_stack rfl (es.trans e1) R.2)))))))))))
theorem qx_s10 {post : SX → Prop} {l : List Int32} {h : Int32} (R : qs_R a_stack l) (hl : l.length ≤ 11) (K1 : ∀ (l' : List Int32) (sp' : Int32) (stk' : Nat → Int32), qs_step 10 h l = some l' → sp' = nI l'.length → qs_R stk' l' → post (f_submitted, f_tipHeight, f_poolSize, sp', 0, a_inCount, a_outCount, a_sealed, a_inFrom, a_inWitness, a_amounts, a_locks, a_parent, a_work, a_state, a_order, a_txCount, a_txs, a_height, a_weight, a_main, a_unspent, a_home, a_before, a_path, a_pool, a_poolBefore, a_inPool, a_poolSpends, stk', a_seenLock, a_seenWitness, a_seen)) (K2 : qs_step 10 h l = none → ∀ (sp' : Int32) (stk' : Nat → Int32), post (f_submitted, f_tipHeight, f_poolSize, sp', 1, a_inCount, a_outCount, a_sealed, a_inFrom, a_inWitness, a_amounts, a_locks, a_parent, a_work, a_state, a_order, a_txCount, a_txs, a_height, a_weight, a_main, a_unspent, a_home, a_before, a_path, a_pool, a_poolBefore, a_inPool, a_poolSpends, stk', a_seenLock, a_seenWitness, a_seen)) : wpX_single post (f_submitted, f_tipHeight, f_poolSize, nI l.length, 0, a_inCount, a_outCount, a_sealed, a_inFrom, a_inWitness, a_amounts, a_locks, a_parent, a_work, a_state, a_order, a_txCount, a_txs, a_height, a_weight, a_main, a_unspent, a_home, a_before, a_path, a_pool, a_poolBefore, a_inPool, a_poolSpends, a_stack, a_seenLock, a_seenWitness, a_seen) (nI 10) h := by
  have cl : (nI l.length).toNatClampNeg = l.length := nI_clamp (by omega)
  unfold wpX_single wX_single_17 wX_single_33
  dsimp only
  refine br_f (by decide) (br_t (by decide) (br_t (nI_le (a := 0) (by omega) (by omega)) (fun x4 e4 => br_f (by decide) (br_f (by decide) (br_f (by decide) (br_f (by decide) (br_f (by decide) (br_f (by decide) (br_f (by decide) (br_f (by decide) (br_f (by decide) (br_f (by decide) (br_f (by decide) (br_t (by decide) (fun sp es => ⟨vp_in_nI (by omega) (by decide), fun s e => ?_⟩)))))))))))))))
  rw [cl] at e
  rw [nI_1] at es
  exact K1 (h :: l) sp s rfl es (by rw [e]; exact ⟨pk_us, qs_up R (Nat.le_refl _)⟩)
theorem qx_s11 {post : SX → Prop} {l : List Int32} {h : Int32} (R : qs_R a_stack l) (hl : l.length ≤ 11) (K1 : ∀ (l' : List Int32) (sp' : Int32) (stk' : Nat → Int32), qs_step 11 h l = some l' → sp' = nI l'.length → qs_R stk' l' → post (f_submitted, f_tipHeight, f_poolSize, sp', 0, a_inCount, a_outCount, a_sealed, a_inFrom, a_inWitness, a_amounts, a_locks, a_parent, a_work, a_state, a_order, a_txCount, a_txs, a_height, a_weight, a_main, a_unspent, a_home, a_before, a_path, a_pool, a_poolBefore, a_inPool, a_poolSpends, stk', a_seenLock, a_seenWitness, a_seen)) (K2 : qs_step 11 h l = none → ∀ (sp' : Int32) (stk' : Nat → Int32), post (f_submitted, f_tipHeight, f_poolSize, sp', 1, a_inCount, a_outCount, a_sealed, a_inFrom, a_inWitness, a_amounts, a_locks, a_parent, a_work, a_state, a_order, a_txCount, a_txs, a_height, a_weight, a_main, a_unspent, a_home, a_before, a_path, a_pool, a_poolBefore, a_inPool, a_poolSpends, stk', a_seenLock, a_seenWitness, a_seen)) : wpX_single post (f_submitted, f_tipHeight, f_poolSize, nI l.length, 0, a_inCount, a_outCount, a_sealed, a_inFrom, a_inWitness, a_amounts, a_locks, a_parent, a_work, a_state, a_order, a_txCount, a_txs, a_height, a_weight, a_main, a_unspent, a_home, a_before, a_path, a_pool, a_poolBefore, a_inPool, a_poolSpends, a_stack, a_seenLock, a_seenWitness, a_seen) (nI 11) h := by
  have cl : (nI l.length).toNatClampNeg = l.length := nI_clamp (by omega)
  unfold wpX_single wX_single_17 wX_single_33
  dsimp only
  refine br_f (by decide) (br_f (by decide) (br_t (by decide) (br_t (nI_le (a := 0) (by omega) (by omega)) (fun x4 e4 => br_f (by decide) (br_f (by decide) (br_f (by decide) (br_f (by decide) (br_f (by decide) (br_f (by decide) (br_f (by decide) (br_f (by decide) (br_f (by decide) (br_f (by decide) (br_f (by decide) (br_f (by decide) (br_t (by decide) (fun sp es => ⟨vp_in_nI (by omega) (by decide), fun s e => ?_⟩)))))))))))))))))
  rw [cl] at e
  rw [nI_1] at es
  exact K1 (2 :: l) sp s rfl es (by rw [e]; exact ⟨pk_us, qs_up R (Nat.le_refl _)⟩)
theorem qx_s13 {post : SX → Prop} {l : List Int32} {h : Int32} (R : qs_R a_stack l) (hl : l.length ≤ 11) (K1 : ∀ (l' : List Int32) (sp' : Int32) (stk' : Nat → Int32), qs_step 13 h l = some l' → sp' = nI l'.length → qs_R stk' l' → post (f_submitted, f_tipHeight, f_poolSize, sp', 0, a_inCount, a_outCount, a_sealed, a_inFrom, a_inWitness, a_amounts, a_locks, a_parent, a_work, a_state, a_order, a_txCount, a_txs, a_height, a_weight, a_main, a_unspent, a_home, a_before, a_path, a_pool, a_poolBefore, a_inPool, a_poolSpends, stk', a_seenLock, a_seenWitness, a_seen)) (K2 : qs_step 13 h l = none → ∀ (sp' : Int32) (stk' : Nat → Int32), post (f_submitted, f_tipHeight, f_poolSize, sp', 1, a_inCount, a_outCount, a_sealed, a_inFrom, a_inWitness, a_amounts, a_locks, a_parent, a_work, a_state, a_order, a_txCount, a_txs, a_height, a_weight, a_main, a_unspent, a_home, a_before, a_path, a_pool, a_poolBefore, a_inPool, a_poolSpends, stk', a_seenLock, a_seenWitness, a_seen)) : wpX_single post (f_submitted, f_tipHeight, f_poolSize, nI l.length, 0, a_inCount, a_outCount, a_sealed, a_inFrom, a_inWitness, a_amounts, a_locks, a_parent, a_work, a_state, a_order, a_txCount, a_txs, a_height, a_weight, a_main, a_unspent, a_home, a_before, a_path, a_pool, a_poolBefore, a_inPool, a_poolSpends, a_stack, a_seenLock, a_seenWitness, a_seen) (nI 13) h := by
  have cl : (nI l.length).toNatClampNeg = l.length := nI_clamp (by omega)
  unfold wpX_single wX_single_17 wX_single_33
  dsimp only
  cases l with
  | nil => exact br_f (by decide) (br_f (by decide) (br_f (by decide) (br_f (by decide) (br_f (by decide) (br_f (by decide) (K2 rfl _ _))))))
  | cons y l1 =>
  have hl' : l1.length + 1 ≤ 11 := hl
  have e1 : nI (l1.length + 1) - 1 = nI (l1.length + 0) := nI_pred _
  have c1 : (nI (l1.length + 0)).toNatClampNeg = l1.length + 0 := nI_clamp (by omega)
  refine br_f (by decide) (br_f (by decide) (br_f (by decide) (br_f (by decide) (br_f (by decide) (br_t (nI_le (a := 1) (b := l1.length + 1) (by omega) (by omega)) (fun x4 e4 => ?_))))))
  have e4' : x4 = nI (l1.length + 0) := e4.trans e1
  subst e4'
  have cl' : (nI (l1.length + 1)).toNatClampNeg = l1.length + 1 := nI_clamp (by omega)
  have r0 : a_stack (l1.length + 0) = y := R.1
  refine br_f (by decide) (br_f (by decide) (br_f (by decide) (br_f (by decide) (br_f (by decide) (br_f (by decide) (br_f (by decide) (br_f (by decide) (br_f (by decide) (br_f (by decide) (br_f (by decide) (br_f (by decide) (br_f (by decide) (br_f (by decide) (br_t (by decide) (⟨vp_in_nI (by omega) (by decide), br_c (fun q => ⟨vp_in_nI (by omega) (by decide), fun s e => ?_⟩) (fun q => ⟨vp_in_nI (by omega) (by decide), fun s e => ?_⟩)⟩)))))))))))))))
  · rw [c1, r0] at q
    refine K1 (1 :: l1) _ s (by show some ((if y = 0 then (1 : Int32) else 0) :: l1) = _; rw [if_pos q]) rfl ?_
    rw [e, c1]
    exact ⟨pk_us, qs_up R.2 (Nat.le_refl _)⟩
  · rw [c1, r0] at q
    refine K1 (0 :: l1) _ s (by show some ((if y = 0 then (1 : Int32) else 0) :: l1) = _; rw [if_neg q]) rfl ?_
    rw [e, c1]
    exact ⟨pk_us, qs_up R.2 (Nat.le_refl _)⟩
theorem qx_s14 {post : SX → Prop} {l : List Int32} {h : Int32} (R : qs_R a_stack l) (hl : l.length ≤ 11) (K1 : ∀ (l' : List Int32) (sp' : Int32) (stk' : Nat → Int32), qs_step 14 h l = some l' → sp' = nI l'.length → qs_R stk' l' → post (f_submitted, f_tipHeight, f_poolSize, sp', 0, a_inCount, a_outCount, a_sealed, a_inFrom, a_inWitness, a_amounts, a_locks, a_parent, a_work, a_state, a_order, a_txCount, a_txs, a_height, a_weight, a_main, a_unspent, a_home, a_before, a_path, a_pool, a_poolBefore, a_inPool, a_poolSpends, stk', a_seenLock, a_seenWitness, a_seen)) (K2 : qs_step 14 h l = none → ∀ (sp' : Int32) (stk' : Nat → Int32), post (f_submitted, f_tipHeight, f_poolSize, sp', 1, a_inCount, a_outCount, a_sealed, a_inFrom, a_inWitness, a_amounts, a_locks, a_parent, a_work, a_state, a_order, a_txCount, a_txs, a_height, a_weight, a_main, a_unspent, a_home, a_before, a_path, a_pool, a_poolBefore, a_inPool, a_poolSpends, stk', a_seenLock, a_seenWitness, a_seen)) : wpX_single post (f_submitted, f_tipHeight, f_poolSize, nI l.length, 0, a_inCount, a_outCount, a_sealed, a_inFrom, a_inWitness, a_amounts, a_locks, a_parent, a_work, a_state, a_order, a_txCount, a_txs, a_height, a_weight, a_main, a_unspent, a_home, a_before, a_path, a_pool, a_poolBefore, a_inPool, a_poolSpends, a_stack, a_seenLock, a_seenWitness, a_seen) (nI 14) h := by
  have cl : (nI l.length).toNatClampNeg = l.length := nI_clamp (by omega)
  unfold wpX_single wX_single_17 wX_single_33
  dsimp only
  cases l with
  | nil => exact br_f (by decide) (br_f (by decide) (br_f (by decide) (br_f (by decide) (br_t (by decide) (br_f (by decide) (K2 rfl _ _))))))
  | cons y l0 =>
  cases l0 with
  | nil => exact br_f (by decide) (br_f (by decide) (br_f (by decide) (br_f (by decide) (br_t (by decide) (br_f (nI_ge (a := 1) (b := 2) (by decide) (by decide)) (K2 rfl _ _))))))
  | cons z l1 =>
  have hl' : l1.length + 2 ≤ 11 := hl
  have e1 : nI (l1.length + 2) - 1 = nI (l1.length + 1) := nI_pred _
  have c1 : (nI (l1.length + 1)).toNatClampNeg = l1.length + 1 := nI_clamp (by omega)
  refine br_f (by decide) (br_f (by decide) (br_f (by decide) (br_f (by decide) (br_t (by decide) (br_t (nI_le (a := 2) (b := l1.length + 2) (by omega) (by omega)) (fun x4 e4 => ?_))))))
  have e4' : x4 = nI (l1.length + 1) := e4.trans e1
  subst e4'
  have cl' : (nI (l1.length + 2)).toNatClampNeg = l1.length + 2 := nI_clamp (by omega)
  have e2 : nI (l1.length + 1) - 1 = nI l1.length := nI_pred _
  have c2 : (nI l1.length).toNatClampNeg = l1.length := nI_clamp (by omega)
  have r0 : a_stack (l1.length + 1) = y := R.1
  have r1 : a_stack l1.length = z := R.2.1
  rw [e2, c2, r1]
  refine br_f (by decide) (br_f (by decide) (br_f (by decide) (br_f (by decide) (br_f (by decide) (br_f (by decide) (br_f (by decide) (br_f (by decide) (br_f (by decide) (br_f (by decide) (br_f (by decide) (br_f (by decide) (br_f (by decide) (br_f (by decide) (br_f (by decide) (br_t (by decide) (fun sp es => ⟨vp_in_nI (by omega) (by decide), vp_in_nI (n := l1.length + 2) (by omega) (by decide), fun s e => ?_⟩))))))))))))))))
  have e' : s = upd a_stack (l1.length + 2) z := e.trans (congrArg (fun q => upd a_stack q z) cl')
  exact K1 (z :: y :: z :: l1) sp s rfl (es.trans (nI_1 _)) (by rw [e']; exact ⟨pk_us, qs_up (l := y :: z :: l1) R (Nat.le_refl _)⟩)
theorem qx_s15 {post : SX → Prop} {l : List Int32} {h : Int32} (R : qs_R a_stack l) (hl : l.length ≤ 11) (K1 : ∀ (l' : List Int32) (sp' : Int32) (stk' : Nat → Int32), qs_step 15 h l = some l' → sp' = nI l'.length → qs_R stk' l' → post (f_submitted, f_tipHeight, f_poolSize, sp', 0, a_inCount, a_outCount, a_sealed, a_inFrom, a_inWitness, a_amounts, a_locks, a_parent, a_work, a_state, a_order, a_txCount, a_txs, a_height, a_weight, a_main, a_unspent, a_home, a_before, a_path, a_pool, a_poolBefore, a_inPool, a_poolSpends, stk', a_seenLock, a_seenWitness, a_seen)) (K2 : qs_step 15 h l = none → ∀ (sp' : Int32) (stk' : Nat → Int32), post (f_submitted, f_tipHeight, f_poolSize, sp', 1, a_inCount, a_outCount, a_sealed, a_inFrom, a_inWitness, a_amounts, a_locks, a_parent, a_work, a_state, a_order, a_txCount, a_txs, a_height, a_weight, a_main, a_unspent, a_home, a_before, a_path, a_pool, a_poolBefore, a_inPool, a_poolSpends, stk', a_seenLock, a_seenWitness, a_seen)) : wpX_single post (f_submitted, f_tipHeight, f_poolSize, nI l.length, 0, a_inCount, a_outCount, a_sealed, a_inFrom, a_inWitness, a_amounts, a_locks, a_parent, a_work, a_state, a_order, a_txCount, a_txs, a_height, a_weight, a_main, a_unspent, a_home, a_before, a_path, a_pool, a_poolBefore, a_inPool, a_poolSpends, a_stack, a_seenLock, a_seenWitness, a_seen) (nI 15) h := by
  have cl : (nI l.length).toNatClampNeg = l.length := nI_clamp (by omega)
  unfold wpX_single wX_single_17 wX_single_33
  dsimp only
  cases l with
  | nil => exact br_f (by decide) (br_f (by decide) (br_f (by decide) (br_f (by decide) (br_f (by decide) (br_f (by decide) (K2 rfl _ _))))))
  | cons y l1 =>
  have hl' : l1.length + 1 ≤ 11 := hl
  have e1 : nI (l1.length + 1) - 1 = nI (l1.length + 0) := nI_pred _
  have c1 : (nI (l1.length + 0)).toNatClampNeg = l1.length + 0 := nI_clamp (by omega)
  refine br_f (by decide) (br_f (by decide) (br_f (by decide) (br_f (by decide) (br_f (by decide) (br_t (nI_le (a := 1) (b := l1.length + 1) (by omega) (by omega)) (fun x4 e4 => ?_))))))
  have e4' : x4 = nI (l1.length + 0) := e4.trans e1
  subst e4'
  have cl' : (nI (l1.length + 1)).toNatClampNeg = l1.length + 1 := nI_clamp (by omega)
  have r0 : a_stack (l1.length + 0) = y := R.1
  refine br_f (by decide) (br_f (by decide) (br_f (by decide) (br_f (by decide) (br_f (by decide) (br_f (by decide) (br_f (by decide) (br_f (by decide) (br_f (by decide) (br_f (by decide) (br_f (by decide) (br_f (by decide) (br_f (by decide) (br_f (by decide) (br_f (by decide) (br_f (by decide) (br_t (by decide) (⟨vp_in_nI (by omega) (by decide), br_c (fun q => ?_) (fun q => ?_)⟩)))))))))))))))))
  · rw [c1, r0] at q
    unfold wX_single_330
    exact ⟨rfl, rfl, fun sp es => K2 (by show (if y = 0 then none else some l1) = none; rw [if_pos q]) _ _⟩
  · rw [c1, r0] at q
    unfold wX_single_330
    exact ⟨rfl, rfl, fun sp es => K1 l1 sp a_stack (by show (if y = 0 then none else some l1) = some l1; rw [if_neg q]) (es.trans e1) R.2⟩
theorem qx_92 {post : Int32 → SX → Prop} {l : List Int32} (R : qs_R a_stack l) (hl : l.length ≤ 12) (K : post (qa_B (qs_end l)) (f_submitted, f_tipHeight, f_poolSize, nI l.length, 0, a_inCount, a_outCount, a_sealed, a_inFrom, a_inWitness, a_amounts, a_locks, a_parent, a_work, a_state, a_order, a_txCount, a_txs, a_height, a_weight, a_main, a_unspent, a_home, a_before, a_path, a_pool, a_poolBefore, a_inPool, a_poolSpends, a_stack, a_seenLock, a_seenWitness, a_seen)) : wX_runScript_92 post f_submitted f_tipHeight f_poolSize (nI l.length) 0 a_inCount a_outCount a_sealed a_inFrom a_inWitness a_amounts a_locks a_parent a_work a_state a_order a_txCount a_txs a_height a_weight a_main a_unspent a_home a_before a_path a_pool a_poolBefore a_inPool a_poolSpends a_stack a_seenLock a_seenWitness a_seen := by
  unfold wX_runScript_92
  refine br_t rfl ?_
  cases l with
  | nil => exact br_t (by decide) K
  | cons y l1 =>
    have hl' : l1.length + 1 ≤ 12 := hl
    refine br_f (nI_nle (n := l1.length + 1) (by omega) (by omega)) ?_
    have e1 : nI (y :: l1).length - 1 = nI l1.length := nI_pred _
    have r0 : a_stack l1.length = y := R.1
    rw [e1, nI_clamp (by omega), r0]
    refine ⟨vp_in_nI (by omega) (by decide), br_c (fun q => ?_) (fun q => ?_)⟩
    · rw [show qs_end (y :: l1) = false from by show decide (¬ y = 0) = false; simp [q]] at K; exact K
    · rw [show qs_end (y :: l1) = true from by show decide (¬ y = 0) = true; simp [q]] at K; exact K
theorem qx_80f {post : Int32 → SX → Prop} {J : Int32 → Int32 → Int32 → Int32 → Int32 → Int32 → (Nat → Int32) → (Nat → Int32) → (Nat → Int32) → (Nat → Int32) → (Nat → Int32) → (Nat → Int32) → (Nat → Int32) → (Nat → Int32) → (Nat → Int32) → (Nat → Int32) → (Nat → Int32) → (Nat → Int32) → (Nat → Int32) → (Nat → Int32) → (Nat → Int32) → (Nat → Int32) → (Nat → Int32) → (Nat → Int32) → (Nat → Int32) → (Nat → Int32) → (Nat → Int32) → (Nat → Int32) → (Nat → Int32) → (Nat → Int32) → (Nat → Int32) → (Nat → Int32) → (Nat → Int32) → (Nat → Int32) → Prop} {x3 x4 : Int32} (K : post 0 (f_submitted, f_tipHeight, f_poolSize, f_sp, 1, a_inCount, a_outCount, a_sealed, a_inFrom, a_inWitness, a_amounts, a_locks, a_parent, a_work, a_state, a_order, a_txCount, a_txs, a_height, a_weight, a_main, a_unspent, a_home, a_before, a_path, a_pool, a_poolBefore, a_inPool, a_poolSpends, a_stack, a_seenLock, a_seenWitness, a_seen)) : wX_runScript_80 post J x3 x4 f_submitted f_tipHeight f_poolSize f_sp 1 a_inCount a_outCount a_sealed a_inFrom a_inWitness a_amounts a_locks a_parent a_work a_state a_order a_txCount a_txs a_height a_weight a_main a_unspent a_home a_before a_path a_pool a_poolBefore a_inPool a_poolSpends a_stack a_seenLock a_seenWitness a_seen := by
  unfold wX_runScript_80 wX_runScript_92
  exact br_c (fun _ => br_f (by decide) K) (fun _ => br_f (by decide) (br_f (by decide) K))
theorem qx_loop {post : Int32 → SX → Prop} {h : Int32} : ∀ (n : Nat) (x : Int32) (l : List Int32) (stk : Nat → Int32), x.toBitVec.toNat < 16 ^ (n + 1) → l.length + n + 1 ≤ 12 → qs_R stk l → (∀ (sp' fa' : Int32) (stk' : Nat → Int32), post (qa_B (qs_go (n + 1) x.toBitVec.toNat h l)) (f_submitted, f_tipHeight, f_poolSize, sp', fa', a_inCount, a_outCount, a_sealed, a_inFrom, a_inWitness, a_amounts, a_locks, a_parent, a_work, a_state, a_order, a_txCount, a_txs, a_height, a_weight, a_main, a_unspent, a_home, a_before, a_path, a_pool, a_poolBefore, a_inPool, a_poolSpends, stk', a_seenLock, a_seenWitness, a_seen)) → ∀ m, n < m → wX_runScript_20 post h m x f_submitted f_tipHeight f_poolSize (nI l.length) 0 a_inCount a_outCount a_sealed a_inFrom a_inWitness a_amounts a_locks a_parent a_work a_state a_order a_txCount a_txs a_height a_weight a_main a_unspent a_home a_before a_path a_pool a_poolBefore a_inPool a_poolSpends stk a_seenLock a_seenWitness a_seen := by
  intro n
  induction n with
  | zero =>
    intro x l stk hx hl R hp m hm
    obtain ⟨m, rfl⟩ : ∃ q, m = q + 1 := ⟨m - 1, by omega⟩
    rw [wX_runScript_20]
    intro op eop r er
    rw [qs_op] at eop
    have hr : r.toBitVec.toNat = x.toBitVec.toNat / 16 := by rw [er]; exact qs_s4 x
    clear er
    by_cases z : x.toBitVec.toNat % 16 = 0
    · rw [z] at eop
      subst eop
      refine br_t (by decide) ?_
      unfold wX_runScript_80
      refine br_t rfl (qx_92 R (by omega) ?_)
      have := hp (nI l.length) 0 stk
      rwa [qs_go_z z] at this
    refine br_f (fun q => z (qs_opz.mp (eop.symm.trans q))) ?_
    have K2 : qs_step (x.toBitVec.toNat % 16) h l = none → ∀ (sp' : Int32) (stk' : Nat → Int32), wX_runScript_80 post (wX_runScript_20 post h m) h r f_submitted f_tipHeight f_poolSize sp' 1 a_inCount a_outCount a_sealed a_inFrom a_inWitness a_amounts a_locks a_parent a_work a_state a_order a_txCount a_txs a_height a_weight a_main a_unspent a_home a_before a_path a_pool a_poolBefore a_inPool a_poolSpends stk' a_seenLock a_seenWitness a_seen := by
      intro s sp' stk'
      have := hp sp' 1 stk'
      rw [qs_go_n z s] at this
      exact qx_80f this
    have hj : x.toBitVec.toNat % 16 < 16 := Nat.mod_lt _ (by decide)
    have hK1 : ∀ (l' : List Int32) (sp' : Int32) (stk' : Nat → Int32), qs_step (x.toBitVec.toNat % 16) h l = some l' → sp' = nI l'.length → qs_R stk' l' → wX_runScript_80 post (wX_runScript_20 post h m) h r f_submitted f_tipHeight f_poolSize sp' 0 a_inCount a_outCount a_sealed a_inFrom a_inWitness a_amounts a_locks a_parent a_work a_state a_order a_txCount a_txs a_height a_weight a_main a_unspent a_home a_before a_path a_pool a_poolBefore a_inPool a_poolSpends stk' a_seenLock a_seenWitness a_seen := (by
      intro l' sp' stk' s es R'
      subst es
      have hl' := qs_len s
      unfold wX_runScript_80
      have r0 : r = 0 := qs_z.mpr (by rw [hr]; omega)
      refine br_t r0 (qx_92 R' (by omega) ?_)
      have := hp (nI l'.length) 0 stk'
      rw [qs_go_s z s] at this
      exact this)
    revert hK1 K2 eop hj
    generalize x.toBitVec.toNat % 16 = j at z ⊢
    intro eop hK2 hj hK1
    subst eop
    have hj' : j = 1 ∨ j = 2 ∨ j = 3 ∨ j = 4 ∨ j = 5 ∨ j = 6 ∨ j = 7 ∨ j = 8 ∨ j = 9 ∨ j = 10 ∨ j = 11 ∨ j = 12 ∨ j = 13 ∨ j = 14 ∨ j = 15 := by omega
    have B : (j = 3 ∨ j = 4 ∨ j = 5 ∨ j = 6 ∨ j = 7 ∨ j = 12) → wX_runScript_64 post (wX_runScript_20 post h m) h r (nI j) f_submitted f_tipHeight f_poolSize (nI l.length) 0 a_inCount a_outCount a_sealed a_inFrom a_inWitness a_amounts a_locks a_parent a_work a_state a_order a_txCount a_txs a_height a_weight a_main a_unspent a_home a_before a_path a_pool a_poolBefore a_inPool a_poolSpends stk a_seenLock a_seenWitness a_seen := by
      intro hb
      unfold wX_runScript_64
      match l, R, hl, hK1, hK2 with
      | [], R, hl, hK1, hK2 => exact qx_bin0 (l := []) _ (by decide) (hK2 (by rcases hb with rfl | rfl | rfl | rfl | rfl | rfl <;> rfl) _ _)
      | [y], R, hl, hK1, hK2 => exact qx_bin0 (l := [y]) _ (show 1 < 2 by decide) (hK2 (by rcases hb with rfl | rfl | rfl | rfl | rfl | rfl <;> rfl) _ _)
      | a :: b :: l2, R, hl, hK1, hK2 => exact qx_bin j hb R (by simp only [List.length_cons] at hl; omega) (fun sp' stk' es R' => hK1 (qs_bin j b a :: l2) sp' stk' (by rcases hb with rfl | rfl | rfl | rfl | rfl | rfl <;> rfl) es R')
    unfold wX_runScript_57
    rcases hj' with rfl | rfl | rfl | rfl | rfl | rfl | rfl | rfl | rfl | rfl | rfl | rfl | rfl | rfl | rfl
    · exact br_t (by decide) (br_f (by decide) (qx_s1 R (by omega) hK1 hK2))
    · exact br_t (by decide) (br_f (by decide) (qx_s2 R (by omega) hK1 hK2))
    · exact br_f (by decide) (br_t (by decide) (B (by decide)))
    · exact br_f (by decide) (br_t (by decide) (B (by decide)))
    · exact br_f (by decide) (br_t (by decide) (B (by decide)))
    · exact br_f (by decide) (br_t (by decide) (B (by decide)))
    · exact br_f (by decide) (br_t (by decide) (B (by decide)))
    · exact br_f (by decide) (br_f (by decide) (br_f (by decide) (qx_s8 R (by omega) hK1 hK2)))
    · exact br_f (by decide) (br_f (by decide) (br_f (by decide) (qx_s9 R (by omega) hK1 hK2)))
    · exact br_f (by decide) (br_f (by decide) (br_f (by decide) (qx_s10 R (by omega) hK1 hK2)))
    · exact br_f (by decide) (br_f (by decide) (br_f (by decide) (qx_s11 R (by omega) hK1 hK2)))
    · exact br_f (by decide) (br_f (by decide) (br_t (by decide) (B (by decide))))
    · exact br_f (by decide) (br_f (by decide) (br_f (by decide) (qx_s13 R (by omega) hK1 hK2)))
    · exact br_f (by decide) (br_f (by decide) (br_f (by decide) (qx_s14 R (by omega) hK1 hK2)))
    · exact br_f (by decide) (br_f (by decide) (br_f (by decide) (qx_s15 R (by omega) hK1 hK2)))
  | succ n ih =>
    intro x l stk hx hl R hp m hm
    obtain ⟨m, rfl⟩ : ∃ q, m = q + 1 := ⟨m - 1, by omega⟩
    rw [wX_runScript_20]
    intro op eop r er
    rw [qs_op] at eop
    have hr : r.toBitVec.toNat = x.toBitVec.toNat / 16 := by rw [er]; exact qs_s4 x
    clear er
    by_cases z : x.toBitVec.toNat % 16 = 0
    · rw [z] at eop
      subst eop
      refine br_t (by decide) ?_
      unfold wX_runScript_80
      refine br_t rfl (qx_92 R (by omega) ?_)
      have := hp (nI l.length) 0 stk
      rwa [qs_go_z z] at this
    refine br_f (fun q => z (qs_opz.mp (eop.symm.trans q))) ?_
    have K2 : qs_step (x.toBitVec.toNat % 16) h l = none → ∀ (sp' : Int32) (stk' : Nat → Int32), wX_runScript_80 post (wX_runScript_20 post h m) h r f_submitted f_tipHeight f_poolSize sp' 1 a_inCount a_outCount a_sealed a_inFrom a_inWitness a_amounts a_locks a_parent a_work a_state a_order a_txCount a_txs a_height a_weight a_main a_unspent a_home a_before a_path a_pool a_poolBefore a_inPool a_poolSpends stk' a_seenLock a_seenWitness a_seen := by
      intro s sp' stk'
      have := hp sp' 1 stk'
      rw [qs_go_n z s] at this
      exact qx_80f this
    have hj : x.toBitVec.toNat % 16 < 16 := Nat.mod_lt _ (by decide)
    have hK1 : ∀ (l' : List Int32) (sp' : Int32) (stk' : Nat → Int32), qs_step (x.toBitVec.toNat % 16) h l = some l' → sp' = nI l'.length → qs_R stk' l' → wX_runScript_80 post (wX_runScript_20 post h m) h r f_submitted f_tipHeight f_poolSize sp' 0 a_inCount a_outCount a_sealed a_inFrom a_inWitness a_amounts a_locks a_parent a_work a_state a_order a_txCount a_txs a_height a_weight a_main a_unspent a_home a_before a_path a_pool a_poolBefore a_inPool a_poolSpends stk' a_seenLock a_seenWitness a_seen := (by
      intro l' sp' stk' s es R'
      subst es
      have hl' := qs_len s
      unfold wX_runScript_80
      have hp' : ∀ (sp' fa' : Int32) (stk' : Nat → Int32), post (qa_B (qs_go (n + 1) r.toBitVec.toNat h l')) (f_submitted, f_tipHeight, f_poolSize, sp', fa', a_inCount, a_outCount, a_sealed, a_inFrom, a_inWitness, a_amounts, a_locks, a_parent, a_work, a_state, a_order, a_txCount, a_txs, a_height, a_weight, a_main, a_unspent, a_home, a_before, a_path, a_pool, a_poolBefore, a_inPool, a_poolSpends, stk', a_seenLock, a_seenWitness, a_seen) := by
        intro a b c
        have := hp a b c
        rw [qs_go_s z s] at this
        rw [hr]
        exact this
      refine br_c (fun r0 => ?_) (fun r0 => br_t rfl (ih r l' stk' ?_ (by omega) R' hp' m (by omega)))
      · refine qx_92 R' (by omega) ?_
        have := hp' (nI l'.length) 0 stk'
        rw [qs_z.mp r0, qs_go_0] at this
        exact this
      · rw [hr]; rw [Nat.pow_succ] at hx; omega)
    revert hK1 K2 eop hj
    generalize x.toBitVec.toNat % 16 = j at z ⊢
    intro eop hK2 hj hK1
    subst eop
    have hj' : j = 1 ∨ j = 2 ∨ j = 3 ∨ j = 4 ∨ j = 5 ∨ j = 6 ∨ j = 7 ∨ j = 8 ∨ j = 9 ∨ j = 10 ∨ j = 11 ∨ j = 12 ∨ j = 13 ∨ j = 14 ∨ j = 15 := by omega
    have B : (j = 3 ∨ j = 4 ∨ j = 5 ∨ j = 6 ∨ j = 7 ∨ j = 12) → wX_runScript_64 post (wX_runScript_20 post h m) h r (nI j) f_submitted f_tipHeight f_poolSize (nI l.length) 0 a_inCount a_outCount a_sealed a_inFrom a_inWitness a_amounts a_locks a_parent a_work a_state a_order a_txCount a_txs a_height a_weight a_main a_unspent a_home a_before a_path a_pool a_poolBefore a_inPool a_poolSpends stk a_seenLock a_seenWitness a_seen := by
      intro hb
      unfold wX_runScript_64
      match l, R, hl, hK1, hK2 with
      | [], R, hl, hK1, hK2 => exact qx_bin0 (l := []) _ (by decide) (hK2 (by rcases hb with rfl | rfl | rfl | rfl | rfl | rfl <;> rfl) _ _)
      | [y], R, hl, hK1, hK2 => exact qx_bin0 (l := [y]) _ (show 1 < 2 by decide) (hK2 (by rcases hb with rfl | rfl | rfl | rfl | rfl | rfl <;> rfl) _ _)
      | a :: b :: l2, R, hl, hK1, hK2 => exact qx_bin j hb R (by simp only [List.length_cons] at hl; omega) (fun sp' stk' es R' => hK1 (qs_bin j b a :: l2) sp' stk' (by rcases hb with rfl | rfl | rfl | rfl | rfl | rfl <;> rfl) es R')
    unfold wX_runScript_57
    rcases hj' with rfl | rfl | rfl | rfl | rfl | rfl | rfl | rfl | rfl | rfl | rfl | rfl | rfl | rfl | rfl
    · exact br_t (by decide) (br_f (by decide) (qx_s1 R (by omega) hK1 hK2))
    · exact br_t (by decide) (br_f (by decide) (qx_s2 R (by omega) hK1 hK2))
    · exact br_f (by decide) (br_t (by decide) (B (by decide)))
    · exact br_f (by decide) (br_t (by decide) (B (by decide)))
    · exact br_f (by decide) (br_t (by decide) (B (by decide)))
    · exact br_f (by decide) (br_t (by decide) (B (by decide)))
    · exact br_f (by decide) (br_t (by decide) (B (by decide)))
    · exact br_f (by decide) (br_f (by decide) (br_f (by decide) (qx_s8 R (by omega) hK1 hK2)))
    · exact br_f (by decide) (br_f (by decide) (br_f (by decide) (qx_s9 R (by omega) hK1 hK2)))
    · exact br_f (by decide) (br_f (by decide) (br_f (by decide) (qx_s10 R (by omega) hK1 hK2)))
    · exact br_f (by decide) (br_f (by decide) (br_f (by decide) (qx_s11 R (by omega) hK1 hK2)))
    · exact br_f (by decide) (br_f (by decide) (br_t (by decide) (B (by decide))))
    · exact br_f (by decide) (br_f (by decide) (br_f (by decide) (qx_s13 R (by omega) hK1 hK2)))
    · exact br_f (by decide) (br_f (by decide) (br_f (by decide) (qx_s14 R (by omega) hK1 hK2)))
    · exact br_f (by decide) (br_f (by decide) (br_f (by decide) (qx_s15 R (by omega) hK1 hK2)))
theorem qx_run {post : Int32 → SX → Prop} {lock w h : Int32} (H : ∀ (sp' fa' : Int32) (stk' : Nat → Int32), post (qa_B (qs_run lock w h)) (f_submitted, f_tipHeight, f_poolSize, sp', fa', a_inCount, a_outCount, a_sealed, a_inFrom, a_inWitness, a_amounts, a_locks, a_parent, a_work, a_state, a_order, a_txCount, a_txs, a_height, a_weight, a_main, a_unspent, a_home, a_before, a_path, a_pool, a_poolBefore, a_inPool, a_poolSpends, stk', a_seenLock, a_seenWitness, a_seen)) : wpX_runScript post (f_submitted, f_tipHeight, f_poolSize, f_sp, f_failed, a_inCount, a_outCount, a_sealed, a_inFrom, a_inWitness, a_amounts, a_locks, a_parent, a_work, a_state, a_order, a_txCount, a_txs, a_height, a_weight, a_main, a_unspent, a_home, a_before, a_path, a_pool, a_poolBefore, a_inPool, a_poolSpends, a_stack, a_seenLock, a_seenWitness, a_seen) lock w h := by
  unfold wpX_runScript
  dsimp only
  intro s es
  refine ⟨8, ?_⟩
  have := qx_loop (post := post) (h := h) 7 lock [w] s (by have := lock.toBitVec.isLt; omega) (show 1 + 7 + 1 ≤ 12 by decide) ⟨by rw [es]; exact pk_us, True.intro⟩ H 8 (by decide)
  exact this
end
end
section
section
variable {f_submitted f_length f_weight f_pooledCount f_tipBlock : Int32} {a_inputs a_inFrom a_inPlace a_witness a_outputs a_amount a_lock a_sealed a_state a_parent a_work a_count a_tx a_order a_path a_listed a_spent a_heightOf a_stack a_pool a_oldPool a_oldPath : Nat → Int32}
variable {J : Int32 → Int32 → (Nat → Int32) → (Nat → Int32) → (Nat → Int32) → (Nat → Int32) → (Nat → Int32) → (Nat → Int32) → (Nat → Int32) → (Nat → Int32) → (Nat → Int32) → (Nat → Int32) → (Nat → Int32) → (Nat → Int32) → (Nat → Int32) → (Nat → Int32) → (Nat → Int32) → (Nat → Int32) → (Nat → Int32) → (Nat → Int32) → (Nat → Int32) → (Nat → Int32) → (Nat → Int32) → (Nat → Int32) → Prop}
theorem qy_fin {k : Nat} {l : List Int32} {v x4 : Int32} (e4 : x4 = nI (l.length + 1)) (hl : l.length < 16) (R : qs_R a_stack l) (K : ∀ (x5' : Int32) (stk' : Nat → Int32), x5' = nI (k + 1) → qs_R stk' (v :: l) → J x4 x5' a_inputs a_inFrom a_inPlace a_witness a_outputs a_amount a_lock a_sealed a_state a_parent a_work a_count a_tx a_order a_path a_listed a_spent a_heightOf stk' a_pool a_oldPool a_oldPath) : vp_in (x4 - 1) 16 ∧ ∀ stk : Nat → Int32, stk = upd a_stack (x4 - 1).toNatClampNeg v → ∀ x5' : Int32, x5' = nI k + 1 → J x4 x5' a_inputs a_inFrom a_inPlace a_witness a_outputs a_amount a_lock a_sealed a_state a_parent a_work a_count a_tx a_order a_path a_listed a_spent a_heightOf stk a_pool a_oldPool a_oldPath := by
  have e : x4 - 1 = nI l.length := by rw [e4]; exact nI_pred _
  rw [e, nI_clamp (by omega)]
  refine ⟨vp_in_nI hl (by decide), fun s es x5 e5 => K x5 s (e5.trans (nI_1 _)) ?_⟩
  rw [es]
  exact ⟨pk_us, qs_up R (Nat.le_refl _)⟩

theorem qy_o1 {post : Int32 → SY → Prop} {x1 h : Int32} {k : Nat} {l : List Int32} (R : qs_R a_stack l) (hl : l.length ≤ 12) (K1 : ∀ (l' : List Int32) (x4' x5' : Int32) (stk' : Nat → Int32), qs_step 1 h l = some l' → x4' = nI l'.length → x5' = nI (k + 1) → qs_R stk' l' → J x4' x5' a_inputs a_inFrom a_inPlace a_witness a_outputs a_amount a_lock a_sealed a_state a_parent a_work a_count a_tx a_order a_path a_listed a_spent a_heightOf stk' a_pool a_oldPool a_oldPath) (K2 : qs_step 1 h l = none → ∀ stk' : Nat → Int32, post 0 (f_submitted, f_length, f_weight, f_pooledCount, f_tipBlock, a_inputs, a_inFrom, a_inPlace, a_witness, a_outputs, a_amount, a_lock, a_sealed, a_state, a_parent, a_work, a_count, a_tx, a_order, a_path, a_listed, a_spent, a_heightOf, stk', a_pool, a_oldPool, a_oldPath)) : wY_opens_95 post J x1 h (nI l.length) (nI k) (nI 1) 0 f_submitted f_length f_weight f_pooledCount f_tipBlock a_inputs a_inFrom a_inPlace a_witness a_outputs a_amount a_lock a_sealed a_state a_parent a_work a_count a_tx a_order a_path a_listed a_spent a_heightOf a_stack a_pool a_oldPool a_oldPath := by
  unfold wY_opens_95 wY_opens_124 wY_opens_145 wY_opens_161 wY_opens_196 wY_opens_214 wY_opens_219 wpY_result
  refine br_t (nI_le (a := 0) (by omega) (by omega)) (br_t (by decide) (br_t (by decide) (br_f (by decide) (br_t (by decide) (fun x4' e4 => br_f (by decide) (br_f (by decide) (br_f (by decide) (br_f (by decide) (br_f (by decide) (br_t (by decide) (?_)))))))))))
  exact qy_fin (e4.trans (nI_1 _)) (by omega) R (fun x5' stk' e5 R' => K1 (1 :: l) x4' x5' stk' rfl (e4.trans (nI_1 _)) e5 R')
theorem qy_o2 {post : Int32 → SY → Prop} {x1 h : Int32} {k : Nat} {l : List Int32} (R : qs_R a_stack l) (hl : l.length ≤ 12) (K1 : ∀ (l' : List Int32) (x4' x5' : Int32) (stk' : Nat → Int32), qs_step 2 h l = some l' → x4' = nI l'.length → x5' = nI (k + 1) → qs_R stk' l' → J x4' x5' a_inputs a_inFrom a_inPlace a_witness a_outputs a_amount a_lock a_sealed a_state a_parent a_work a_count a_tx a_order a_path a_listed a_spent a_heightOf stk' a_pool a_oldPool a_oldPath) (K2 : qs_step 2 h l = none → ∀ stk' : Nat → Int32, post 0 (f_submitted, f_length, f_weight, f_pooledCount, f_tipBlock, a_inputs, a_inFrom, a_inPlace, a_witness, a_outputs, a_amount, a_lock, a_sealed, a_state, a_parent, a_work, a_count, a_tx, a_order, a_path, a_listed, a_spent, a_heightOf, stk', a_pool, a_oldPool, a_oldPath)) : wY_opens_95 post J x1 h (nI l.length) (nI k) (nI 2) 1 f_submitted f_length f_weight f_pooledCount f_tipBlock a_inputs a_inFrom a_inPlace a_witness a_outputs a_amount a_lock a_sealed a_state a_parent a_work a_count a_tx a_order a_path a_listed a_spent a_heightOf a_stack a_pool a_oldPool a_oldPath := by
  unfold wY_opens_95 wY_opens_124 wY_opens_145 wY_opens_161 wY_opens_196 wY_opens_214 wY_opens_219 wpY_result
  cases l with
  | nil => exact br_f (by decide) (K2 rfl _)
  | cons y l1 =>
  have hl' : l1.length + 1 ≤ 12 := hl
  have e1 : nI (y :: l1).length - 1 = nI (l1.length + 0) := nI_pred _
  have c1 : (nI (l1.length + 0)).toNatClampNeg = l1.length + 0 := nI_clamp (by omega)
  have r0 : a_stack (l1.length + 0) = y := R.1
  rw [e1, c1, r0]
  refine br_t (nI_le (a := 1) (b := l1.length + 1) (by omega) (by omega)) (br_f (by decide) ⟨vp_in_nI (by omega) (by decide), br_t (by decide) (br_f (by decide) (br_f (by decide) (br_t (by decide) (fun x4' e4 => br_f (by decide) (br_f (by decide) (br_f (by decide) (br_f (by decide) (br_f (by decide) (br_f (by decide) (br_t (by decide) (?_)))))))))))⟩)
  exact qy_fin (l := (y :: l1)) (e4.trans (nI_1 _)) (by first | omega | (simp only [List.length_cons]; omega)) R (fun x5' stk' e5 R' => K1 (y :: (y :: l1)) x4' x5' stk' rfl (e4.trans (nI_1 _)) e5 R')
theorem qy_o3 {post : Int32 → SY → Prop} {x1 h : Int32} {k : Nat} {l : List Int32} (R : qs_R a_stack l) (hl : l.length ≤ 12) (K1 : ∀ (l' : List Int32) (x4' x5' : Int32) (stk' : Nat → Int32), qs_step 3 h l = some l' → x4' = nI l'.length → x5' = nI (k + 1) → qs_R stk' l' → J x4' x5' a_inputs a_inFrom a_inPlace a_witness a_outputs a_amount a_lock a_sealed a_state a_parent a_work a_count a_tx a_order a_path a_listed a_spent a_heightOf stk' a_pool a_oldPool a_oldPath) (K2 : qs_step 3 h l = none → ∀ stk' : Nat → Int32, post 0 (f_submitted, f_length, f_weight, f_pooledCount, f_tipBlock, a_inputs, a_inFrom, a_inPlace, a_witness, a_outputs, a_amount, a_lock, a_sealed, a_state, a_parent, a_work, a_count, a_tx, a_order, a_path, a_listed, a_spent, a_heightOf, stk', a_pool, a_oldPool, a_oldPath)) : wY_opens_95 post J x1 h (nI l.length) (nI k) (nI 3) 2 f_submitted f_length f_weight f_pooledCount f_tipBlock a_inputs a_inFrom a_inPlace a_witness a_outputs a_amount a_lock a_sealed a_state a_parent a_work a_count a_tx a_order a_path a_listed a_spent a_heightOf a_stack a_pool a_oldPool a_oldPath := by
  unfold wY_opens_95 wY_opens_124 wY_opens_145 wY_opens_161 wY_opens_196 wY_opens_214 wY_opens_219 wpY_result
  cases l with
  | nil => exact br_f (by decide) (K2 rfl _)
  | cons y l0 =>
  cases l0 with
  | nil => exact br_f (nI_ge (a := 1) (b := 2) (by decide) (by decide)) (K2 rfl _)
  | cons z l1 =>
  have hl' : l1.length + 2 ≤ 12 := hl
  have e1 : nI (y :: z :: l1).length - 1 = nI (l1.length + 1) := nI_pred _
  have c1 : (nI (l1.length + 1)).toNatClampNeg = l1.length + 1 := nI_clamp (by omega)
  have r0 : a_stack (l1.length + 1) = y := R.1
  have e2 : nI (y :: z :: l1).length - 2 = nI l1.length := pk_sub (a := l1.length + 2) (b := 2) (by omega)
  have c2 : (nI l1.length).toNatClampNeg = l1.length := nI_clamp (by omega)
  have r1 : a_stack l1.length = z := R.2.1
  rw [e1, e2, c1, c2, r0, r1]
  refine br_t (nI_le (a := 2) (b := l1.length + 2) (by omega) (by omega)) (br_f (by decide) ⟨vp_in_nI (by omega) (by decide), br_f (by decide) ⟨vp_in_nI (by omega) (by decide), br_f (by decide) (br_f (by decide) (br_f (by decide) (br_f (by decide) (br_f (by decide) (br_f (by decide) (br_f (by decide) (br_f (by decide) (fun x4' e4 => br_f (by decide) (br_f (by decide) (br_f (by decide) (br_f (by decide) (br_f (by decide) (br_f (by decide) (br_f (by decide) (br_t (by decide) (?_))))))))))))))))⟩⟩)
  exact qy_fin (l := l1) (e4.trans (pk_m1 (l1.length + 1))) (by first | omega | (simp only [List.length_cons]; omega)) R.2.2 (fun x5' stk' e5 R' => K1 ((z + y) :: l1) x4' x5' stk' rfl (e4.trans (pk_m1 (l1.length + 1))) e5 R')
theorem qy_o4 {post : Int32 → SY → Prop} {x1 h : Int32} {k : Nat} {l : List Int32} (R : qs_R a_stack l) (hl : l.length ≤ 12) (K1 : ∀ (l' : List Int32) (x4' x5' : Int32) (stk' : Nat → Int32), qs_step 4 h l = some l' → x4' = nI l'.length → x5' = nI (k + 1) → qs_R stk' l' → J x4' x5' a_inputs a_inFrom a_inPlace a_witness a_outputs a_amount a_lock a_sealed a_state a_parent a_work a_count a_tx a_order a_path a_listed a_spent a_heightOf stk' a_pool a_oldPool a_oldPath) (K2 : qs_step 4 h l = none → ∀ stk' : Nat → Int32, post 0 (f_submitted, f_length, f_weight, f_pooledCount, f_tipBlock, a_inputs, a_inFrom, a_inPlace, a_witness, a_outputs, a_amount, a_lock, a_sealed, a_state, a_parent, a_work, a_count, a_tx, a_order, a_path, a_listed, a_spent, a_heightOf, stk', a_pool, a_oldPool, a_oldPath)) : wY_opens_95 post J x1 h (nI l.length) (nI k) (nI 4) 2 f_submitted f_length f_weight f_pooledCount f_tipBlock a_inputs a_inFrom a_inPlace a_witness a_outputs a_amount a_lock a_sealed a_state a_parent a_work a_count a_tx a_order a_path a_listed a_spent a_heightOf a_stack a_pool a_oldPool a_oldPath := by
  unfold wY_opens_95 wY_opens_124 wY_opens_145 wY_opens_161 wY_opens_196 wY_opens_214 wY_opens_219 wpY_result
  cases l with
  | nil => exact br_f (by decide) (K2 rfl _)
  | cons y l0 =>
  cases l0 with
  | nil => exact br_f (nI_ge (a := 1) (b := 2) (by decide) (by decide)) (K2 rfl _)
  | cons z l1 =>
  have hl' : l1.length + 2 ≤ 12 := hl
  have e1 : nI (y :: z :: l1).length - 1 = nI (l1.length + 1) := nI_pred _
  have c1 : (nI (l1.length + 1)).toNatClampNeg = l1.length + 1 := nI_clamp (by omega)
  have r0 : a_stack (l1.length + 1) = y := R.1
  have e2 : nI (y :: z :: l1).length - 2 = nI l1.length := pk_sub (a := l1.length + 2) (b := 2) (by omega)
  have c2 : (nI l1.length).toNatClampNeg = l1.length := nI_clamp (by omega)
  have r1 : a_stack l1.length = z := R.2.1
  rw [e1, e2, c1, c2, r0, r1]
  refine br_t (nI_le (a := 2) (b := l1.length + 2) (by omega) (by omega)) (br_f (by decide) ⟨vp_in_nI (by omega) (by decide), br_f (by decide) ⟨vp_in_nI (by omega) (by decide), br_f (by decide) (br_f (by decide) (br_f (by decide) (br_f (by decide) (br_f (by decide) (br_f (by decide) (br_f (by decide) (br_f (by decide) (fun x4' e4 => br_f (by decide) (br_f (by decide) (br_f (by decide) (br_f (by decide) (br_f (by decide) (br_f (by decide) (br_f (by decide) (br_f (by decide) (br_t (by decide) (?_)))))))))))))))))⟩⟩)
  exact qy_fin (l := l1) (e4.trans (pk_m1 (l1.length + 1))) (by first | omega | (simp only [List.length_cons]; omega)) R.2.2 (fun x5' stk' e5 R' => K1 ((z * y) :: l1) x4' x5' stk' rfl (e4.trans (pk_m1 (l1.length + 1))) e5 R')
theorem qy_o5 {post : Int32 → SY → Prop} {x1 h : Int32} {k : Nat} {l : List Int32} (R : qs_R a_stack l) (hl : l.length ≤ 12) (K1 : ∀ (l' : List Int32) (x4' x5' : Int32) (stk' : Nat → Int32), qs_step 5 h l = some l' → x4' = nI l'.length → x5' = nI (k + 1) → qs_R stk' l' → J x4' x5' a_inputs a_inFrom a_inPlace a_witness a_outputs a_amount a_lock a_sealed a_state a_parent a_work a_count a_tx a_order a_path a_listed a_spent a_heightOf stk' a_pool a_oldPool a_oldPath) (K2 : qs_step 5 h l = none → ∀ stk' : Nat → Int32, post 0 (f_submitted, f_length, f_weight, f_pooledCount, f_tipBlock, a_inputs, a_inFrom, a_inPlace, a_witness, a_outputs, a_amount, a_lock, a_sealed, a_state, a_parent, a_work, a_count, a_tx, a_order, a_path, a_listed, a_spent, a_heightOf, stk', a_pool, a_oldPool, a_oldPath)) : wY_opens_95 post J x1 h (nI l.length) (nI k) (nI 5) 2 f_submitted f_length f_weight f_pooledCount f_tipBlock a_inputs a_inFrom a_inPlace a_witness a_outputs a_amount a_lock a_sealed a_state a_parent a_work a_count a_tx a_order a_path a_listed a_spent a_heightOf a_stack a_pool a_oldPool a_oldPath := by
  unfold wY_opens_95 wY_opens_124 wY_opens_145 wY_opens_161 wY_opens_196 wY_opens_214 wY_opens_219 wpY_result
  cases l with
  | nil => exact br_f (by decide) (K2 rfl _)
  | cons y l0 =>
  cases l0 with
  | nil => exact br_f (nI_ge (a := 1) (b := 2) (by decide) (by decide)) (K2 rfl _)
  | cons z l1 =>
  have hl' : l1.length + 2 ≤ 12 := hl
  have e1 : nI (y :: z :: l1).length - 1 = nI (l1.length + 1) := nI_pred _
  have c1 : (nI (l1.length + 1)).toNatClampNeg = l1.length + 1 := nI_clamp (by omega)
  have r0 : a_stack (l1.length + 1) = y := R.1
  have e2 : nI (y :: z :: l1).length - 2 = nI l1.length := pk_sub (a := l1.length + 2) (b := 2) (by omega)
  have c2 : (nI l1.length).toNatClampNeg = l1.length := nI_clamp (by omega)
  have r1 : a_stack l1.length = z := R.2.1
  rw [e1, e2, c1, c2, r0, r1]
  refine br_t (nI_le (a := 2) (b := l1.length + 2) (by omega) (by omega)) (br_f (by decide) ⟨vp_in_nI (by omega) (by decide), br_f (by decide) ⟨vp_in_nI (by omega) (by decide), br_f (by decide) (br_f (by decide) (br_f (by decide) (br_f (by decide) (br_f (by decide) (br_f (by decide) (br_f (by decide) (br_f (by decide) (fun x4' e4 => br_f (by decide) (br_f (by decide) (br_f (by decide) (br_f (by decide) (br_f (by decide) (br_f (by decide) (br_f (by decide) (br_f (by decide) (br_f (by decide) (br_t (by decide) (?_))))))))))))))))))⟩⟩)
  exact qy_fin (l := l1) (e4.trans (pk_m1 (l1.length + 1))) (by first | omega | (simp only [List.length_cons]; omega)) R.2.2 (fun x5' stk' e5 R' => K1 ((z - y) :: l1) x4' x5' stk' rfl (e4.trans (pk_m1 (l1.length + 1))) e5 R')
theorem qy_o6 {post : Int32 → SY → Prop} {x1 h : Int32} {k : Nat} {l : List Int32} (R : qs_R a_stack l) (hl : l.length ≤ 12) (K1 : ∀ (l' : List Int32) (x4' x5' : Int32) (stk' : Nat → Int32), qs_step 6 h l = some l' → x4' = nI l'.length → x5' = nI (k + 1) → qs_R stk' l' → J x4' x5' a_inputs a_inFrom a_inPlace a_witness a_outputs a_amount a_lock a_sealed a_state a_parent a_work a_count a_tx a_order a_path a_listed a_spent a_heightOf stk' a_pool a_oldPool a_oldPath) (K2 : qs_step 6 h l = none → ∀ stk' : Nat → Int32, post 0 (f_submitted, f_length, f_weight, f_pooledCount, f_tipBlock, a_inputs, a_inFrom, a_inPlace, a_witness, a_outputs, a_amount, a_lock, a_sealed, a_state, a_parent, a_work, a_count, a_tx, a_order, a_path, a_listed, a_spent, a_heightOf, stk', a_pool, a_oldPool, a_oldPath)) : wY_opens_95 post J x1 h (nI l.length) (nI k) (nI 6) 2 f_submitted f_length f_weight f_pooledCount f_tipBlock a_inputs a_inFrom a_inPlace a_witness a_outputs a_amount a_lock a_sealed a_state a_parent a_work a_count a_tx a_order a_path a_listed a_spent a_heightOf a_stack a_pool a_oldPool a_oldPath := by
  unfold wY_opens_95 wY_opens_124 wY_opens_145 wY_opens_161 wY_opens_196 wY_opens_214 wY_opens_219 wpY_result
  cases l with
  | nil => exact br_f (by decide) (K2 rfl _)
  | cons y l0 =>
  cases l0 with
  | nil => exact br_f (nI_ge (a := 1) (b := 2) (by decide) (by decide)) (K2 rfl _)
  | cons z l1 =>
  have hl' : l1.length + 2 ≤ 12 := hl
  have e1 : nI (y :: z :: l1).length - 1 = nI (l1.length + 1) := nI_pred _
  have c1 : (nI (l1.length + 1)).toNatClampNeg = l1.length + 1 := nI_clamp (by omega)
  have r0 : a_stack (l1.length + 1) = y := R.1
  have e2 : nI (y :: z :: l1).length - 2 = nI l1.length := pk_sub (a := l1.length + 2) (b := 2) (by omega)
  have c2 : (nI l1.length).toNatClampNeg = l1.length := nI_clamp (by omega)
  have r1 : a_stack l1.length = z := R.2.1
  rw [e1, e2, c1, c2, r0, r1]
  refine br_t (nI_le (a := 2) (b := l1.length + 2) (by omega) (by omega)) (br_f (by decide) ⟨vp_in_nI (by omega) (by decide), br_f (by decide) ⟨vp_in_nI (by omega) (by decide), br_f (by decide) (br_f (by decide) (br_f (by decide) (br_f (by decide) (br_f (by decide) (br_f (by decide) (br_f (by decide) (br_f (by decide) (fun x4' e4 => br_f (by decide) (br_f (by decide) (br_f (by decide) (br_f (by decide) (br_f (by decide) (br_f (by decide) (br_f (by decide) (br_f (by decide) (br_f (by decide) (br_f (by decide) (br_t (by decide) (br_c (fun q => ?_) (fun q => ?_))))))))))))))))))))⟩⟩)
  · exact qy_fin (l := l1) (e4.trans (pk_m1 (l1.length + 1))) (by omega) R.2.2 (fun x5' stk' e5 R' => K1 (1 :: l1) x4' x5' stk' (by show some ((if z = y then (1 : Int32) else 0) :: l1) = _; rw [if_pos q]) (e4.trans (pk_m1 (l1.length + 1))) e5 R')
  · exact qy_fin (l := l1) (e4.trans (pk_m1 (l1.length + 1))) (by omega) R.2.2 (fun x5' stk' e5 R' => K1 (0 :: l1) x4' x5' stk' (by show some ((if z = y then (1 : Int32) else 0) :: l1) = _; rw [if_neg q]) (e4.trans (pk_m1 (l1.length + 1))) e5 R')
theorem qy_o7 {post : Int32 → SY → Prop} {x1 h : Int32} {k : Nat} {l : List Int32} (R : qs_R a_stack l) (hl : l.length ≤ 12) (K1 : ∀ (l' : List Int32) (x4' x5' : Int32) (stk' : Nat → Int32), qs_step 7 h l = some l' → x4' = nI l'.length → x5' = nI (k + 1) → qs_R stk' l' → J x4' x5' a_inputs a_inFrom a_inPlace a_witness a_outputs a_amount a_lock a_sealed a_state a_parent a_work a_count a_tx a_order a_path a_listed a_spent a_heightOf stk' a_pool a_oldPool a_oldPath) (K2 : qs_step 7 h l = none → ∀ stk' : Nat → Int32, post 0 (f_submitted, f_length, f_weight, f_pooledCount, f_tipBlock, a_inputs, a_inFrom, a_inPlace, a_witness, a_outputs, a_amount, a_lock, a_sealed, a_state, a_parent, a_work, a_count, a_tx, a_order, a_path, a_listed, a_spent, a_heightOf, stk', a_pool, a_oldPool, a_oldPath)) : wY_opens_95 post J x1 h (nI l.length) (nI k) (nI 7) 2 f_submitted f_length f_weight f_pooledCount f_tipBlock a_inputs a_inFrom a_inPlace a_witness a_outputs a_amount a_lock a_sealed a_state a_parent a_work a_count a_tx a_order a_path a_listed a_spent a_heightOf a_stack a_pool a_oldPool a_oldPath := by
  unfold wY_opens_95 wY_opens_124 wY_opens_145 wY_opens_161 wY_opens_196 wY_opens_214 wY_opens_219 wpY_result
  cases l with
  | nil => exact br_f (by decide) (K2 rfl _)
  | cons y l0 =>
  cases l0 with
  | nil => exact br_f (nI_ge (a := 1) (b := 2) (by decide) (by decide)) (K2 rfl _)
  | cons z l1 =>
  have hl' : l1.length + 2 ≤ 12 := hl
  have e1 : nI (y :: z :: l1).length - 1 = nI (l1.length + 1) := nI_pred _
  have c1 : (nI (l1.length + 1)).toNatClampNeg = l1.length + 1 := nI_clamp (by omega)
  have r0 : a_stack (l1.length + 1) = y := R.1
  have e2 : nI (y :: z :: l1).length - 2 = nI l1.length := pk_sub (a := l1.length + 2) (b := 2) (by omega)
  have c2 : (nI l1.length).toNatClampNeg = l1.length := nI_clamp (by omega)
  have r1 : a_stack l1.length = z := R.2.1
  rw [e1, e2, c1, c2, r0, r1]
  refine br_t (nI_le (a := 2) (b := l1.length + 2) (by omega) (by omega)) (br_f (by decide) ⟨vp_in_nI (by omega) (by decide), br_f (by decide) ⟨vp_in_nI (by omega) (by decide), br_f (by decide) (br_f (by decide) (br_f (by decide) (br_f (by decide) (br_f (by decide) (br_f (by decide) (br_f (by decide) (br_f (by decide) (fun x4' e4 => br_f (by decide) (br_f (by decide) (br_f (by decide) (br_f (by decide) (br_f (by decide) (br_f (by decide) (br_f (by decide) (br_f (by decide) (br_f (by decide) (br_f (by decide) (br_f (by decide) (br_t (by decide) (br_c (fun q => ?_) (fun q => ?_)))))))))))))))))))))⟩⟩)
  · exact qy_fin (l := l1) (e4.trans (pk_m1 (l1.length + 1))) (by omega) R.2.2 (fun x5' stk' e5 R' => K1 (0 :: l1) x4' x5' stk' (by show some ((if y ≤ z then (0 : Int32) else 1) :: l1) = _; rw [if_pos q]) (e4.trans (pk_m1 (l1.length + 1))) e5 R')
  · exact qy_fin (l := l1) (e4.trans (pk_m1 (l1.length + 1))) (by omega) R.2.2 (fun x5' stk' e5 R' => K1 (1 :: l1) x4' x5' stk' (by show some ((if y ≤ z then (0 : Int32) else 1) :: l1) = _; rw [if_neg q]) (e4.trans (pk_m1 (l1.length + 1))) e5 R')
theorem qy_o8 {post : Int32 → SY → Prop} {x1 h : Int32} {k : Nat} {l : List Int32} (R : qs_R a_stack l) (hl : l.length ≤ 12) (K1 : ∀ (l' : List Int32) (x4' x5' : Int32) (stk' : Nat → Int32), qs_step 8 h l = some l' → x4' = nI l'.length → x5' = nI (k + 1) → qs_R stk' l' → J x4' x5' a_inputs a_inFrom a_inPlace a_witness a_outputs a_amount a_lock a_sealed a_state a_parent a_work a_count a_tx a_order a_path a_listed a_spent a_heightOf stk' a_pool a_oldPool a_oldPath) (K2 : qs_step 8 h l = none → ∀ stk' : Nat → Int32, post 0 (f_submitted, f_length, f_weight, f_pooledCount, f_tipBlock, a_inputs, a_inFrom, a_inPlace, a_witness, a_outputs, a_amount, a_lock, a_sealed, a_state, a_parent, a_work, a_count, a_tx, a_order, a_path, a_listed, a_spent, a_heightOf, stk', a_pool, a_oldPool, a_oldPath)) : wY_opens_95 post J x1 h (nI l.length) (nI k) (nI 8) 2 f_submitted f_length f_weight f_pooledCount f_tipBlock a_inputs a_inFrom a_inPlace a_witness a_outputs a_amount a_lock a_sealed a_state a_parent a_work a_count a_tx a_order a_path a_listed a_spent a_heightOf a_stack a_pool a_oldPool a_oldPath := by
  unfold wY_opens_95 wY_opens_124 wY_opens_145 wY_opens_161 wY_opens_196 wY_opens_214 wY_opens_219 wpY_result
  cases l with
  | nil => exact br_f (by decide) (K2 rfl _)
  | cons y l0 =>
  cases l0 with
  | nil => exact br_f (nI_ge (a := 1) (b := 2) (by decide) (by decide)) (K2 rfl _)
  | cons z l1 =>
  have hl' : l1.length + 2 ≤ 12 := hl
  have e1 : nI (y :: z :: l1).length - 1 = nI (l1.length + 1) := nI_pred _
  have c1 : (nI (l1.length + 1)).toNatClampNeg = l1.length + 1 := nI_clamp (by omega)
  have r0 : a_stack (l1.length + 1) = y := R.1
  have e2 : nI (y :: z :: l1).length - 2 = nI l1.length := pk_sub (a := l1.length + 2) (b := 2) (by omega)
  have c2 : (nI l1.length).toNatClampNeg = l1.length := nI_clamp (by omega)
  have r1 : a_stack l1.length = z := R.2.1
  rw [e1, e2, c1, c2, r0, r1]
  refine br_t (nI_le (a := 2) (b := l1.length + 2) (by omega) (by omega)) (br_f (by decide) ⟨vp_in_nI (by omega) (by decide), br_f (by decide) ⟨vp_in_nI (by omega) (by decide), br_f (by decide) (br_f (by decide) (br_f (by decide) (br_f (by decide) (br_f (by decide) (br_f (by decide) (br_t (by decide) (fun x4' e4 => ?_)))))))⟩⟩)
  have e4' : x4' = nI (l1.length + 2) := e4.trans (Int32.add_zero _)
  subst e4'
  have f1 : nI (l1.length + 2) - 1 = nI (l1.length + 1) := nI_pred _
  have f2 : nI (l1.length + 2) - 2 = nI l1.length := pk_sub (a := l1.length + 2) (b := 2) (by omega)
  rw [f1, f2, c1, c2]
  refine br_t (by decide) ⟨vp_in_nI (by omega) (by decide), fun s es => ⟨vp_in_nI (by omega) (by decide), fun s' es' x5' e5 => ?_⟩⟩
  refine K1 (z :: y :: l1) _ x5' s' rfl rfl (e5.trans (nI_1 _)) ?_
  rw [es', es]
  exact ⟨(pk_un (by simp only [List.length_cons]; omega)).trans pk_us, pk_us, qs_up (qs_up R.2.2 (Nat.le_succ _)) (Nat.le_refl _)⟩
theorem qy_o9 {post : Int32 → SY → Prop} {x1 h : Int32} {k : Nat} {l : List Int32} (R : qs_R a_stack l) (hl : l.length ≤ 12) (K1 : ∀ (l' : List Int32) (x4' x5' : Int32) (stk' : Nat → Int32), qs_step 9 h l = some l' → x4' = nI l'.length → x5' = nI (k + 1) → qs_R stk' l' → J x4' x5' a_inputs a_inFrom a_inPlace a_witness a_outputs a_amount a_lock a_sealed a_state a_parent a_work a_count a_tx a_order a_path a_listed a_spent a_heightOf stk' a_pool a_oldPool a_oldPath) (K2 : qs_step 9 h l = none → ∀ stk' : Nat → Int32, post 0 (f_submitted, f_length, f_weight, f_pooledCount, f_tipBlock, a_inputs, a_inFrom, a_inPlace, a_witness, a_outputs, a_amount, a_lock, a_sealed, a_state, a_parent, a_work, a_count, a_tx, a_order, a_path, a_listed, a_spent, a_heightOf, stk', a_pool, a_oldPool, a_oldPath)) : wY_opens_95 post J x1 h (nI l.length) (nI k) (nI 9) 1 f_submitted f_length f_weight f_pooledCount f_tipBlock a_inputs a_inFrom a_inPlace a_witness a_outputs a_amount a_lock a_sealed a_state a_parent a_work a_count a_tx a_order a_path a_listed a_spent a_heightOf a_stack a_pool a_oldPool a_oldPath := by
  unfold wY_opens_95 wY_opens_124 wY_opens_145 wY_opens_161 wY_opens_196 wY_opens_214 wY_opens_219 wpY_result
  cases l with
  | nil => exact br_f (by decide) (K2 rfl _)
  | cons y l1 =>
  have hl' : l1.length + 1 ≤ 12 := hl
  have e1 : nI (y :: l1).length - 1 = nI (l1.length + 0) := nI_pred _
  have c1 : (nI (l1.length + 0)).toNatClampNeg = l1.length + 0 := nI_clamp (by omega)
  have r0 : a_stack (l1.length + 0) = y := R.1
  rw [e1, c1, r0]
  refine br_t (nI_le (a := 1) (b := l1.length + 1) (by omega) (by omega)) (br_f (by decide) ⟨vp_in_nI (by omega) (by decide), br_t (by decide) (br_f (by decide) (br_f (by decide) (br_f (by decide) (br_f (by decide) (br_f (by decide) (br_f (by decide) (br_f (by decide) (br_f (by decide) (fun x4' e4 => br_f (by decide) (br_t (by decide) (fun x5' e5 => ?_)))))))))))⟩)
  exact K1 l1 x4' x5' _ rfl (e4.trans (pk_m1 (l1.length + 0))) (e5.trans (nI_1 _)) R.2
theorem qy_o10 {post : Int32 → SY → Prop} {x1 h : Int32} {k : Nat} {l : List Int32} (R : qs_R a_stack l) (hl : l.length ≤ 12) (K1 : ∀ (l' : List Int32) (x4' x5' : Int32) (stk' : Nat → Int32), qs_step 10 h l = some l' → x4' = nI l'.length → x5' = nI (k + 1) → qs_R stk' l' → J x4' x5' a_inputs a_inFrom a_inPlace a_witness a_outputs a_amount a_lock a_sealed a_state a_parent a_work a_count a_tx a_order a_path a_listed a_spent a_heightOf stk' a_pool a_oldPool a_oldPath) (K2 : qs_step 10 h l = none → ∀ stk' : Nat → Int32, post 0 (f_submitted, f_length, f_weight, f_pooledCount, f_tipBlock, a_inputs, a_inFrom, a_inPlace, a_witness, a_outputs, a_amount, a_lock, a_sealed, a_state, a_parent, a_work, a_count, a_tx, a_order, a_path, a_listed, a_spent, a_heightOf, stk', a_pool, a_oldPool, a_oldPath)) : wY_opens_95 post J x1 h (nI l.length) (nI k) (nI 10) 0 f_submitted f_length f_weight f_pooledCount f_tipBlock a_inputs a_inFrom a_inPlace a_witness a_outputs a_amount a_lock a_sealed a_state a_parent a_work a_count a_tx a_order a_path a_listed a_spent a_heightOf a_stack a_pool a_oldPool a_oldPath := by
  unfold wY_opens_95 wY_opens_124 wY_opens_145 wY_opens_161 wY_opens_196 wY_opens_214 wY_opens_219 wpY_result
  refine br_t (nI_le (a := 0) (by omega) (by omega)) (br_t (by decide) (br_t (by decide) (br_f (by decide) (br_f (by decide) (br_f (by decide) (br_t (by decide) (fun x4' e4 => br_f (by decide) (br_f (by decide) (br_f (by decide) (br_f (by decide) (br_f (by decide) (br_f (by decide) (br_f (by decide) (br_f (by decide) (br_f (by decide) (br_f (by decide) (br_f (by decide) (br_f (by decide) (br_f (by decide) (br_f (by decide) (br_t (by decide) (?_))))))))))))))))))))))
  exact qy_fin (e4.trans (nI_1 _)) (by omega) R (fun x5' stk' e5 R' => K1 (h :: l) x4' x5' stk' rfl (e4.trans (nI_1 _)) e5 R')
theorem qy_o11 {post : Int32 → SY → Prop} {x1 h : Int32} {k : Nat} {l : List Int32} (R : qs_R a_stack l) (hl : l.length ≤ 12) (K1 : ∀ (l' : List Int32) (x4' x5' : Int32) (stk' : Nat → Int32), qs_step 11 h l = some l' → x4' = nI l'.length → x5' = nI (k + 1) → qs_R stk' l' → J x4' x5' a_inputs a_inFrom a_inPlace a_witness a_outputs a_amount a_lock a_sealed a_state a_parent a_work a_count a_tx a_order a_path a_listed a_spent a_heightOf stk' a_pool a_oldPool a_oldPath) (K2 : qs_step 11 h l = none → ∀ stk' : Nat → Int32, post 0 (f_submitted, f_length, f_weight, f_pooledCount, f_tipBlock, a_inputs, a_inFrom, a_inPlace, a_witness, a_outputs, a_amount, a_lock, a_sealed, a_state, a_parent, a_work, a_count, a_tx, a_order, a_path, a_listed, a_spent, a_heightOf, stk', a_pool, a_oldPool, a_oldPath)) : wY_opens_95 post J x1 h (nI l.length) (nI k) (nI 11) 0 f_submitted f_length f_weight f_pooledCount f_tipBlock a_inputs a_inFrom a_inPlace a_witness a_outputs a_amount a_lock a_sealed a_state a_parent a_work a_count a_tx a_order a_path a_listed a_spent a_heightOf a_stack a_pool a_oldPool a_oldPath := by
  unfold wY_opens_95 wY_opens_124 wY_opens_145 wY_opens_161 wY_opens_196 wY_opens_214 wY_opens_219 wpY_result
  refine br_t (nI_le (a := 0) (by omega) (by omega)) (br_t (by decide) (br_t (by decide) (br_f (by decide) (br_f (by decide) (br_f (by decide) (br_f (by decide) (br_t (by decide) (fun x4' e4 => br_f (by decide) (br_f (by decide) (br_f (by decide) (br_f (by decide) (br_f (by decide) (br_f (by decide) (br_f (by decide) (br_f (by decide) (br_f (by decide) (br_f (by decide) (br_f (by decide) (br_f (by decide) (br_f (by decide) (br_f (by decide) (br_f (by decide) (br_t (by decide) (?_))))))))))))))))))))))))
  exact qy_fin (e4.trans (nI_1 _)) (by omega) R (fun x5' stk' e5 R' => K1 (2 :: l) x4' x5' stk' rfl (e4.trans (nI_1 _)) e5 R')
theorem qy_o12 {post : Int32 → SY → Prop} {x1 h : Int32} {k : Nat} {l : List Int32} (R : qs_R a_stack l) (hl : l.length ≤ 12) (K1 : ∀ (l' : List Int32) (x4' x5' : Int32) (stk' : Nat → Int32), qs_step 12 h l = some l' → x4' = nI l'.length → x5' = nI (k + 1) → qs_R stk' l' → J x4' x5' a_inputs a_inFrom a_inPlace a_witness a_outputs a_amount a_lock a_sealed a_state a_parent a_work a_count a_tx a_order a_path a_listed a_spent a_heightOf stk' a_pool a_oldPool a_oldPath) (K2 : qs_step 12 h l = none → ∀ stk' : Nat → Int32, post 0 (f_submitted, f_length, f_weight, f_pooledCount, f_tipBlock, a_inputs, a_inFrom, a_inPlace, a_witness, a_outputs, a_amount, a_lock, a_sealed, a_state, a_parent, a_work, a_count, a_tx, a_order, a_path, a_listed, a_spent, a_heightOf, stk', a_pool, a_oldPool, a_oldPath)) : wY_opens_95 post J x1 h (nI l.length) (nI k) (nI 12) 2 f_submitted f_length f_weight f_pooledCount f_tipBlock a_inputs a_inFrom a_inPlace a_witness a_outputs a_amount a_lock a_sealed a_state a_parent a_work a_count a_tx a_order a_path a_listed a_spent a_heightOf a_stack a_pool a_oldPool a_oldPath := by
  unfold wY_opens_95 wY_opens_124 wY_opens_145 wY_opens_161 wY_opens_196 wY_opens_214 wY_opens_219 wpY_result
  cases l with
  | nil => exact br_f (by decide) (K2 rfl _)
  | cons y l0 =>
  cases l0 with
  | nil => exact br_f (nI_ge (a := 1) (b := 2) (by decide) (by decide)) (K2 rfl _)
  | cons z l1 =>
  have hl' : l1.length + 2 ≤ 12 := hl
  have e1 : nI (y :: z :: l1).length - 1 = nI (l1.length + 1) := nI_pred _
  have c1 : (nI (l1.length + 1)).toNatClampNeg = l1.length + 1 := nI_clamp (by omega)
  have r0 : a_stack (l1.length + 1) = y := R.1
  have e2 : nI (y :: z :: l1).length - 2 = nI l1.length := pk_sub (a := l1.length + 2) (b := 2) (by omega)
  have c2 : (nI l1.length).toNatClampNeg = l1.length := nI_clamp (by omega)
  have r1 : a_stack l1.length = z := R.2.1
  rw [e1, e2, c1, c2, r0, r1]
  refine br_t (nI_le (a := 2) (b := l1.length + 2) (by omega) (by omega)) (br_f (by decide) ⟨vp_in_nI (by omega) (by decide), br_f (by decide) ⟨vp_in_nI (by omega) (by decide), br_f (by decide) (br_f (by decide) (br_f (by decide) (br_f (by decide) (br_f (by decide) (br_f (by decide) (br_f (by decide) (br_f (by decide) (fun x4' e4 => br_f (by decide) (br_f (by decide) (br_f (by decide) (br_f (by decide) (br_f (by decide) (br_f (by decide) (br_f (by decide) (br_f (by decide) (br_f (by decide) (br_f (by decide) (br_f (by decide) (br_f (by decide) (br_f (by decide) (br_f (by decide) (br_f (by decide) (br_f (by decide) (br_t (by decide) (?_)))))))))))))))))))))))))⟩⟩)
  exact qy_fin (l := l1) (e4.trans (pk_m1 (l1.length + 1))) (by first | omega | (simp only [List.length_cons]; omega)) R.2.2 (fun x5' stk' e5 R' => K1 ((z ^^^ y) :: l1) x4' x5' stk' rfl (e4.trans (pk_m1 (l1.length + 1))) e5 R')
theorem qy_o13 {post : Int32 → SY → Prop} {x1 h : Int32} {k : Nat} {l : List Int32} (R : qs_R a_stack l) (hl : l.length ≤ 12) (K1 : ∀ (l' : List Int32) (x4' x5' : Int32) (stk' : Nat → Int32), qs_step 13 h l = some l' → x4' = nI l'.length → x5' = nI (k + 1) → qs_R stk' l' → J x4' x5' a_inputs a_inFrom a_inPlace a_witness a_outputs a_amount a_lock a_sealed a_state a_parent a_work a_count a_tx a_order a_path a_listed a_spent a_heightOf stk' a_pool a_oldPool a_oldPath) (K2 : qs_step 13 h l = none → ∀ stk' : Nat → Int32, post 0 (f_submitted, f_length, f_weight, f_pooledCount, f_tipBlock, a_inputs, a_inFrom, a_inPlace, a_witness, a_outputs, a_amount, a_lock, a_sealed, a_state, a_parent, a_work, a_count, a_tx, a_order, a_path, a_listed, a_spent, a_heightOf, stk', a_pool, a_oldPool, a_oldPath)) : wY_opens_95 post J x1 h (nI l.length) (nI k) (nI 13) 1 f_submitted f_length f_weight f_pooledCount f_tipBlock a_inputs a_inFrom a_inPlace a_witness a_outputs a_amount a_lock a_sealed a_state a_parent a_work a_count a_tx a_order a_path a_listed a_spent a_heightOf a_stack a_pool a_oldPool a_oldPath := by
  unfold wY_opens_95 wY_opens_124 wY_opens_145 wY_opens_161 wY_opens_196 wY_opens_214 wY_opens_219 wpY_result
  cases l with
  | nil => exact br_f (by decide) (K2 rfl _)
  | cons y l1 =>
  have hl' : l1.length + 1 ≤ 12 := hl
  have e1 : nI (y :: l1).length - 1 = nI (l1.length + 0) := nI_pred _
  have c1 : (nI (l1.length + 0)).toNatClampNeg = l1.length + 0 := nI_clamp (by omega)
  have r0 : a_stack (l1.length + 0) = y := R.1
  rw [e1, c1, r0]
  refine br_t (nI_le (a := 1) (b := l1.length + 1) (by omega) (by omega)) (br_f (by decide) ⟨vp_in_nI (by omega) (by decide), br_t (by decide) (br_f (by decide) (br_f (by decide) (br_f (by decide) (br_f (by decide) (br_f (by decide) (br_f (by decide) (br_f (by decide) (br_t (by decide) (fun x4' e4 => br_f (by decide) (br_f (by decide) (br_f (by decide) (br_f (by decide) (br_f (by decide) (br_f (by decide) (br_f (by decide) (br_f (by decide) (br_f (by decide) (br_f (by decide) (br_f (by decide) (br_f (by decide) (br_f (by decide) (br_f (by decide) (br_f (by decide) (br_f (by decide) (br_f (by decide) (br_t (by decide) (br_c (fun q => ?_) (fun q => ?_))))))))))))))))))))))))))))⟩)
  · exact qy_fin (l := l1) (e4.trans (Int32.add_zero _)) (by omega) R.2 (fun x5' stk' e5 R' => K1 (1 :: l1) x4' x5' stk' (by show some ((if y = 0 then (1 : Int32) else 0) :: l1) = _; rw [if_pos q]) (e4.trans (Int32.add_zero _)) e5 R')
  · exact qy_fin (l := l1) (e4.trans (Int32.add_zero _)) (by omega) R.2 (fun x5' stk' e5 R' => K1 (0 :: l1) x4' x5' stk' (by show some ((if y = 0 then (1 : Int32) else 0) :: l1) = _; rw [if_neg q]) (e4.trans (Int32.add_zero _)) e5 R')
theorem qy_o14 {post : Int32 → SY → Prop} {x1 h : Int32} {k : Nat} {l : List Int32} (R : qs_R a_stack l) (hl : l.length ≤ 12) (K1 : ∀ (l' : List Int32) (x4' x5' : Int32) (stk' : Nat → Int32), qs_step 14 h l = some l' → x4' = nI l'.length → x5' = nI (k + 1) → qs_R stk' l' → J x4' x5' a_inputs a_inFrom a_inPlace a_witness a_outputs a_amount a_lock a_sealed a_state a_parent a_work a_count a_tx a_order a_path a_listed a_spent a_heightOf stk' a_pool a_oldPool a_oldPath) (K2 : qs_step 14 h l = none → ∀ stk' : Nat → Int32, post 0 (f_submitted, f_length, f_weight, f_pooledCount, f_tipBlock, a_inputs, a_inFrom, a_inPlace, a_witness, a_outputs, a_amount, a_lock, a_sealed, a_state, a_parent, a_work, a_count, a_tx, a_order, a_path, a_listed, a_spent, a_heightOf, stk', a_pool, a_oldPool, a_oldPath)) : wY_opens_95 post J x1 h (nI l.length) (nI k) (nI 14) 2 f_submitted f_length f_weight f_pooledCount f_tipBlock a_inputs a_inFrom a_inPlace a_witness a_outputs a_amount a_lock a_sealed a_state a_parent a_work a_count a_tx a_order a_path a_listed a_spent a_heightOf a_stack a_pool a_oldPool a_oldPath := by
  unfold wY_opens_95 wY_opens_124 wY_opens_145 wY_opens_161 wY_opens_196 wY_opens_214 wY_opens_219 wpY_result
  cases l with
  | nil => exact br_f (by decide) (K2 rfl _)
  | cons y l0 =>
  cases l0 with
  | nil => exact br_f (nI_ge (a := 1) (b := 2) (by decide) (by decide)) (K2 rfl _)
  | cons z l1 =>
  have hl' : l1.length + 2 ≤ 12 := hl
  have e1 : nI (y :: z :: l1).length - 1 = nI (l1.length + 1) := nI_pred _
  have c1 : (nI (l1.length + 1)).toNatClampNeg = l1.length + 1 := nI_clamp (by omega)
  have r0 : a_stack (l1.length + 1) = y := R.1
  have e2 : nI (y :: z :: l1).length - 2 = nI l1.length := pk_sub (a := l1.length + 2) (b := 2) (by omega)
  have c2 : (nI l1.length).toNatClampNeg = l1.length := nI_clamp (by omega)
  have r1 : a_stack l1.length = z := R.2.1
  rw [e1, e2, c1, c2, r0, r1]
  refine br_t (nI_le (a := 2) (b := l1.length + 2) (by omega) (by omega)) (br_f (by decide) ⟨vp_in_nI (by omega) (by decide), br_f (by decide) ⟨vp_in_nI (by omega) (by decide), br_f (by decide) (br_f (by decide) (br_f (by decide) (br_f (by decide) (br_f (by decide) (br_t (by decide) (fun x4' e4 => br_f (by decide) (br_f (by decide) (br_f (by decide) (br_f (by decide) (br_t (by decide) (?_)))))))))))⟩⟩)
  exact qy_fin (l := (y :: z :: l1)) (e4.trans (nI_1 _)) (by first | omega | (simp only [List.length_cons]; omega)) R (fun x5' stk' e5 R' => K1 (z :: (y :: z :: l1)) x4' x5' stk' rfl (e4.trans (nI_1 _)) e5 R')
theorem qy_o15 {post : Int32 → SY → Prop} {x1 h : Int32} {k : Nat} {l : List Int32} (R : qs_R a_stack l) (hl : l.length ≤ 12) (K1 : ∀ (l' : List Int32) (x4' x5' : Int32) (stk' : Nat → Int32), qs_step 15 h l = some l' → x4' = nI l'.length → x5' = nI (k + 1) → qs_R stk' l' → J x4' x5' a_inputs a_inFrom a_inPlace a_witness a_outputs a_amount a_lock a_sealed a_state a_parent a_work a_count a_tx a_order a_path a_listed a_spent a_heightOf stk' a_pool a_oldPool a_oldPath) (K2 : qs_step 15 h l = none → ∀ stk' : Nat → Int32, post 0 (f_submitted, f_length, f_weight, f_pooledCount, f_tipBlock, a_inputs, a_inFrom, a_inPlace, a_witness, a_outputs, a_amount, a_lock, a_sealed, a_state, a_parent, a_work, a_count, a_tx, a_order, a_path, a_listed, a_spent, a_heightOf, stk', a_pool, a_oldPool, a_oldPath)) : wY_opens_95 post J x1 h (nI l.length) (nI k) (nI 15) 1 f_submitted f_length f_weight f_pooledCount f_tipBlock a_inputs a_inFrom a_inPlace a_witness a_outputs a_amount a_lock a_sealed a_state a_parent a_work a_count a_tx a_order a_path a_listed a_spent a_heightOf a_stack a_pool a_oldPool a_oldPath := by
  unfold wY_opens_95 wY_opens_124 wY_opens_145 wY_opens_161 wY_opens_196 wY_opens_214 wY_opens_219 wpY_result
  cases l with
  | nil => exact br_f (by decide) (K2 rfl _)
  | cons y l1 =>
  have hl' : l1.length + 1 ≤ 12 := hl
  have e1 : nI (y :: l1).length - 1 = nI (l1.length + 0) := nI_pred _
  have c1 : (nI (l1.length + 0)).toNatClampNeg = l1.length + 0 := nI_clamp (by omega)
  have r0 : a_stack (l1.length + 0) = y := R.1
  rw [e1, c1, r0]
  refine br_t (nI_le (a := 1) (b := l1.length + 1) (by omega) (by omega)) (br_f (by decide) ⟨vp_in_nI (by omega) (by decide), br_t (by decide) (br_t (by decide) (br_c (fun q => ?_) (fun q => br_f (by decide) (br_f (by decide) (br_f (by decide) (br_f (by decide) (br_f (by decide) (br_f (by decide) (br_f (by decide) (fun x4' e4 => br_f (by decide) (br_f (by decide) (br_t (by decide) (fun x5' e5 => ?_)))))))))))))⟩)
  · exact K2 (by show (if y = 0 then none else some l1) = none; rw [if_pos q]) _
  · exact K1 l1 x4' x5' _ (by show (if y = 0 then none else some l1) = some l1; rw [if_neg q]) (e4.trans (pk_m1 (l1.length + 0))) (e5.trans (nI_1 _)) R.2
theorem qy_293 {post : Int32 → SY → Prop} {l : List Int32} (R : qs_R a_stack l) (hl : l.length ≤ 12) (K : post (qa_B (qs_end l)) (f_submitted, f_length, f_weight, f_pooledCount, f_tipBlock, a_inputs, a_inFrom, a_inPlace, a_witness, a_outputs, a_amount, a_lock, a_sealed, a_state, a_parent, a_work, a_count, a_tx, a_order, a_path, a_listed, a_spent, a_heightOf, a_stack, a_pool, a_oldPool, a_oldPath)) : wY_opens_293 post (nI l.length) f_submitted f_length f_weight f_pooledCount f_tipBlock a_inputs a_inFrom a_inPlace a_witness a_outputs a_amount a_lock a_sealed a_state a_parent a_work a_count a_tx a_order a_path a_listed a_spent a_heightOf a_stack a_pool a_oldPool a_oldPath := by
  unfold wY_opens_293
  cases l with
  | nil => exact br_t (by decide) K
  | cons y l1 =>
    have hl' : l1.length + 1 ≤ 12 := hl
    refine br_f (nI_nle (n := l1.length + 1) (by omega) (by omega)) ?_
    have e1 : nI (y :: l1).length - 1 = nI l1.length := nI_pred _
    have r0 : a_stack l1.length = y := R.1
    rw [e1, nI_clamp (by omega), r0]
    refine ⟨vp_in_nI (by omega) (by decide), br_c (fun q => ?_) (fun q => ?_)⟩
    · rw [show qs_end (y :: l1) = false from by show decide (¬ y = 0) = false; simp [q]] at K; exact K
    · rw [show qs_end (y :: l1) = true from by show decide (¬ y = 0) = true; simp [q]] at K; exact K
theorem qy_shk : ∀ k, k < 8 → (((4 * nI k).toUInt32 &&& Int32.toUInt32 31).toBitVec % 32).toNat = 4 * k := by decide
theorem qy_sh (x : Int32) {k : Nat} (hk : k < 8) : ((x.toUInt32 >>> ((4 * nI k).toUInt32 &&& Int32.toUInt32 31)).toInt32) &&& 15 = nI (x.toBitVec.toNat / 16 ^ k % 16) := by
  rw [qs_op, pk_ushr x (4 * nI k) (4 * k) (qy_shk k hk), show (16 : Nat) ^ k = 2 ^ (4 * k) from (Nat.pow_mul 2 4 k).symm]
theorem qy_loop {post : Int32 → SY → Prop} {x h : Int32} : ∀ (d k : Nat) (l : List Int32) (stk : Nat → Int32), k + d = 8 → l.length + d ≤ 9 → qs_R stk l → (∀ stk' : Nat → Int32, post (qa_B (qs_go d (x.toBitVec.toNat / 16 ^ k) h l)) (f_submitted, f_length, f_weight, f_pooledCount, f_tipBlock, a_inputs, a_inFrom, a_inPlace, a_witness, a_outputs, a_amount, a_lock, a_sealed, a_state, a_parent, a_work, a_count, a_tx, a_order, a_path, a_listed, a_spent, a_heightOf, stk', a_pool, a_oldPool, a_oldPath)) → ∀ n, d < n → wY_opens_13 post x h f_submitted f_length f_weight f_pooledCount f_tipBlock n (nI l.length) (nI k) a_inputs a_inFrom a_inPlace a_witness a_outputs a_amount a_lock a_sealed a_state a_parent a_work a_count a_tx a_order a_path a_listed a_spent a_heightOf stk a_pool a_oldPool a_oldPath := by
  intro d
  induction d with
  | zero =>
    intro k l stk hk hl R hp n hn
    obtain ⟨n, rfl⟩ : ∃ q, n = q + 1 := ⟨n - 1, by omega⟩
    rw [wY_opens_13]
    exact br_t (nI_le (a := 8) (by omega) (by omega)) (qy_293 R (by omega) (hp stk))
  | succ d ih =>
    intro k l stk hk hl R hp n hn
    obtain ⟨n, rfl⟩ : ∃ q, n = q + 1 := ⟨n - 1, by omega⟩
    rw [wY_opens_13]
    refine br_f (nI_ge (b := 8) (by omega) (by decide)) ?_
    rw [qy_sh x (by omega)]
    intro op eop
    have hn' : x.toBitVec.toNat / 16 ^ k / 16 = x.toBitVec.toNat / 16 ^ (k + 1) := by rw [Nat.div_div_eq_div_mul, Nat.pow_succ]
    by_cases z : x.toBitVec.toNat / 16 ^ k % 16 = 0
    · rw [z] at eop
      subst eop
      refine br_t (by decide) (qy_293 R (by omega) ?_)
      have := hp stk
      rwa [qs_go_z z] at this
    refine br_f (fun q => z (qs_opz.mp (eop.symm.trans q))) ?_
    have hj : x.toBitVec.toNat / 16 ^ k % 16 < 16 := Nat.mod_lt _ (by decide)
    have hK1 : ∀ (l' : List Int32) (x4' x5' : Int32) (stk' : Nat → Int32), qs_step (x.toBitVec.toNat / 16 ^ k % 16) h l = some l' → x4' = nI l'.length → x5' = nI (k + 1) → qs_R stk' l' → wY_opens_13 post x h f_submitted f_length f_weight f_pooledCount f_tipBlock n x4' x5' a_inputs a_inFrom a_inPlace a_witness a_outputs a_amount a_lock a_sealed a_state a_parent a_work a_count a_tx a_order a_path a_listed a_spent a_heightOf stk' a_pool a_oldPool a_oldPath := by
      intro l' x4' x5' stk' s e4 e5 R'
      subst e4 e5
      have hl' := qs_len s
      refine ih (k + 1) l' stk' (by omega) (by omega) R' ?_ n (by omega)
      intro s'
      have := hp s'
      rw [qs_go_s z s, hn'] at this
      exact this
    have hK2 : qs_step (x.toBitVec.toNat / 16 ^ k % 16) h l = none → ∀ stk' : Nat → Int32, post 0 (f_submitted, f_length, f_weight, f_pooledCount, f_tipBlock, a_inputs, a_inFrom, a_inPlace, a_witness, a_outputs, a_amount, a_lock, a_sealed, a_state, a_parent, a_work, a_count, a_tx, a_order, a_path, a_listed, a_spent, a_heightOf, stk', a_pool, a_oldPool, a_oldPath) := by
      intro s s'
      have := hp s'
      rw [qs_go_n z s] at this
      exact this
    revert hK1 hK2 eop hj
    generalize x.toBitVec.toNat / 16 ^ k % 16 = j at z ⊢
    intro eop hj hK1 hK2
    subst eop
    have hj' : j = 1 ∨ j = 2 ∨ j = 3 ∨ j = 4 ∨ j = 5 ∨ j = 6 ∨ j = 7 ∨ j = 8 ∨ j = 9 ∨ j = 10 ∨ j = 11 ∨ j = 12 ∨ j = 13 ∨ j = 14 ∨ j = 15 := by omega
    unfold wY_opens_59 wY_opens_90
    rcases hj' with rfl | rfl | rfl | rfl | rfl | rfl | rfl | rfl | rfl | rfl | rfl | rfl | rfl | rfl | rfl
    · exact br_t (by decide) (qy_o1 R (by omega) hK1 hK2)
    · exact br_f (by decide) (br_f (by decide) (br_f (by decide) (br_t (by decide) (qy_o2 R (by omega) hK1 hK2))))
    · exact br_f (by decide) (br_f (by decide) (br_f (by decide) (br_f (by decide) (br_f (by decide) (br_f (by decide) (br_f (by decide) (qy_o3 R (by omega) hK1 hK2)))))))
    · exact br_f (by decide) (br_f (by decide) (br_f (by decide) (br_f (by decide) (br_f (by decide) (br_f (by decide) (br_f (by decide) (qy_o4 R (by omega) hK1 hK2)))))))
    · exact br_f (by decide) (br_f (by decide) (br_f (by decide) (br_f (by decide) (br_f (by decide) (br_f (by decide) (br_f (by decide) (qy_o5 R (by omega) hK1 hK2)))))))
    · exact br_f (by decide) (br_f (by decide) (br_f (by decide) (br_f (by decide) (br_f (by decide) (br_f (by decide) (br_f (by decide) (qy_o6 R (by omega) hK1 hK2)))))))
    · exact br_f (by decide) (br_f (by decide) (br_f (by decide) (br_f (by decide) (br_f (by decide) (br_f (by decide) (br_f (by decide) (qy_o7 R (by omega) hK1 hK2)))))))
    · exact br_f (by decide) (br_f (by decide) (br_f (by decide) (br_f (by decide) (br_f (by decide) (br_f (by decide) (br_f (by decide) (qy_o8 R (by omega) hK1 hK2)))))))
    · exact br_f (by decide) (br_f (by decide) (br_f (by decide) (br_f (by decide) (br_t (by decide) (qy_o9 R (by omega) hK1 hK2)))))
    · exact br_f (by decide) (br_t (by decide) (qy_o10 R (by omega) hK1 hK2))
    · exact br_f (by decide) (br_f (by decide) (br_t (by decide) (qy_o11 R (by omega) hK1 hK2)))
    · exact br_f (by decide) (br_f (by decide) (br_f (by decide) (br_f (by decide) (br_f (by decide) (br_f (by decide) (br_f (by decide) (qy_o12 R (by omega) hK1 hK2)))))))
    · exact br_f (by decide) (br_f (by decide) (br_f (by decide) (br_f (by decide) (br_f (by decide) (br_t (by decide) (qy_o13 R (by omega) hK1 hK2))))))
    · exact br_f (by decide) (br_f (by decide) (br_f (by decide) (br_f (by decide) (br_f (by decide) (br_f (by decide) (br_f (by decide) (qy_o14 R (by omega) hK1 hK2)))))))
    · exact br_f (by decide) (br_f (by decide) (br_f (by decide) (br_f (by decide) (br_f (by decide) (br_f (by decide) (br_t (by decide) (qy_o15 R (by omega) hK1 hK2)))))))
theorem qy_opens {post : Int32 → SY → Prop} {lock w h : Int32} (H : ∀ stk' : Nat → Int32, post (qa_B (qs_run lock w h)) (f_submitted, f_length, f_weight, f_pooledCount, f_tipBlock, a_inputs, a_inFrom, a_inPlace, a_witness, a_outputs, a_amount, a_lock, a_sealed, a_state, a_parent, a_work, a_count, a_tx, a_order, a_path, a_listed, a_spent, a_heightOf, stk', a_pool, a_oldPool, a_oldPath)) : wpY_opens post (f_submitted, f_length, f_weight, f_pooledCount, f_tipBlock, a_inputs, a_inFrom, a_inPlace, a_witness, a_outputs, a_amount, a_lock, a_sealed, a_state, a_parent, a_work, a_count, a_tx, a_order, a_path, a_listed, a_spent, a_heightOf, a_stack, a_pool, a_oldPool, a_oldPath) lock w h := by
  unfold wpY_opens
  dsimp only
  intro s es
  refine ⟨9, ?_⟩
  have := qy_loop (post := post) (x := lock) (h := h) 8 0 [w] s rfl (show 1 + 8 ≤ 9 by decide) ⟨by rw [es]; exact pk_us, True.intro⟩ (by rw [Nat.pow_zero, Nat.div_one]; exact H) 9 (by decide)
  exact this
end
end
section
/-! the coins, purely: what a chain of blocks lists and spends -/
abbrev qd_T : Type := (Nat → Nat) × (Nat → Nat) × (Nat → Bool) × (Nat → Nat) × (Nat → Int32) × (Nat → Int32) × (Nat → Int32) × (Nat → Nat) × (Nat → Nat) × (Nat → Nat) × (Nat → Nat)
def qd_ic (D : qd_T) : Nat → Nat := D.1
def qd_oc (D : qd_T) : Nat → Nat := D.2.1
def qd_se (D : qd_T) : Nat → Bool := D.2.2.1
def qd_fr (D : qd_T) : Nat → Nat := D.2.2.2.1
def qd_wt (D : qd_T) : Nat → Int32 := D.2.2.2.2.1
def qd_am (D : qd_T) : Nat → Int32 := D.2.2.2.2.2.1
def qd_lk (D : qd_T) : Nat → Int32 := D.2.2.2.2.2.2.1
def qd_ct (D : qd_T) : Nat → Nat := D.2.2.2.2.2.2.2.1
def qd_tx (D : qd_T) : Nat → Nat := D.2.2.2.2.2.2.2.2.1
def qd_pa (D : qd_T) : Nat → Nat := D.2.2.2.2.2.2.2.2.2.1
def qd_ht (D : qd_T) : Nat → Nat := D.2.2.2.2.2.2.2.2.2.2
/-- listed, spent, the block that lists -/
abbrev qc_T : Type := (Nat → Bool) × (Nat → Bool) × (Nat → Nat)
def qc_n (g : Nat → Nat) : Nat → Nat → Bool
  | 0, _ => false
  | n + 1, o => qc_n g n o || decide (g n = o)
theorem qc_n_iff {g : Nat → Nat} {o : Nat} : ∀ {n : Nat}, qc_n g n o = true ↔ ∃ i, i < n ∧ g i = o
  | 0 => ⟨fun h => (by cases h), fun ⟨i, h, _⟩ => (by omega)⟩
  | n + 1 => by
    rw [qc_n, Bool.or_eq_true, qc_n_iff (n := n), decide_eq_true_eq]
    constructor
    · rintro (⟨i, hi, e⟩ | e)
      · exact ⟨i, by omega, e⟩
      · exact ⟨n, by omega, e⟩
    · rintro ⟨i, hi, e⟩
      by_cases z : i = n
      · subst z; exact Or.inr e
      · exact Or.inl ⟨i, by omega, e⟩
/-- writes of one value, one after another -/
def qc_w (g : Nat → Nat) (v : Bool) (u : Nat → Bool) : Nat → Nat → Bool
  | 0 => u
  | n + 1 => qa_v (qc_w g v u n) (g n) v
theorem qc_w_eq {g : Nat → Nat} {v : Bool} {u : Nat → Bool} {o : Nat} : ∀ {n : Nat}, qc_w g v u n o = if qc_n g n o = true then v else u o
  | 0 => rfl
  | n + 1 => by
    show (if o = g n then v else qc_w g v u n o) = _
    rw [qc_w_eq (n := n), qc_n]
    by_cases z : o = g n
    · rw [if_pos z, if_pos (by rw [decide_eq_true z.symm, Bool.or_true])]
    · rw [if_neg z, decide_eq_false (fun e => z e.symm), Bool.or_false]
def qc_un (D : qd_T) (c : qc_T) (o : Nat) : Bool := c.1 (o / 2) && (decide (o % 2 < qd_oc D (o / 2)) && !c.2.1 o)
theorem qc_un_iff {D : qd_T} {c : qc_T} {o : Nat} : qc_un D c o = true ↔ c.1 (o / 2) = true ∧ o % 2 < qd_oc D (o / 2) ∧ c.2.1 o = false := by
  simp [qc_un]
def qc_ok (D : qd_T) (a : Nat → Bool) (h k : Nat) : Bool := a (qd_fr D k) && ((decide (qd_fr D k < 64) || decide (qd_ht D (qd_fr D k / 2 - 32) + 2 ≤ h)) && qs_run (qd_lk D (qd_fr D k)) (qd_wt D k) (nI h))
def qc_oks (D : qd_T) (a : Nat → Bool) (h t : Nat) : Nat → Bool
  | 0 => true
  | n + 1 => qc_oks D a h t n && qc_ok D a h (2 * t + n)
theorem qc_oks_iff {D : qd_T} {a : Nat → Bool} {h t : Nat} : ∀ {n : Nat}, qc_oks D a h t n = true ↔ ∀ i, i < n → qc_ok D a h (2 * t + i) = true
  | 0 => ⟨fun _ i hi => by omega, fun _ => rfl⟩
  | n + 1 => by
    rw [qc_oks, Bool.and_eq_true, qc_oks_iff (n := n)]
    constructor
    · rintro ⟨x, y⟩ i hi
      by_cases z : i = n
      · subst z; exact y
      · exact x i (by omega)
    · exact fun x => ⟨fun i hi => x i (by omega), x n (by omega)⟩
def qc_sp (D : qd_T) (t : Nat) : Int32 := qa_s (fun i => qd_am D (qd_fr D (2 * t + i))) (qd_ic D t)
def qc_gv (D : qd_T) (t : Nat) : Int32 := qa_s (fun i => qd_am D (2 * t + i)) (qd_oc D t)
def qc_du (D : qd_T) (t : Nat) : Bool := decide (qd_ic D t = 2) && decide (qd_fr D (2 * t) = qd_fr D (2 * t + 1))
def qc_gf (D : qd_T) (a : Nat → Bool) (t h : Nat) : Bool := qd_se D t && (!decide (qd_ic D t = 0) && (!decide (qd_oc D t = 0) && (!qc_du D t && (qc_oks D a h t (qd_ic D t) && decide (qc_gv D t ≤ qc_sp D t)))))
def qc_fit (D : qd_T) (c : qc_T) (t h : Nat) : Bool := !c.1 t && qc_gf D (qc_un D c) t h
theorem qc_fit_iff {D : qd_T} {c : qc_T} {t h : Nat} : qc_fit D c t h = true ↔ c.1 t = false ∧ qd_se D t = true ∧ qd_ic D t ≠ 0 ∧ qd_oc D t ≠ 0 ∧ qc_du D t = false ∧ qc_oks D (qc_un D c) h t (qd_ic D t) = true ∧ qc_gv D t ≤ qc_sp D t := by
  simp [qc_fit, qc_gf]
def qc_l (D : qd_T) (c : qc_T) (t b : Nat) : qc_T := (qa_v c.1 t true, (fun o => c.2.1 o || qc_n (fun i => qd_fr D (2 * t + i)) (qd_ic D t) o), qa_u c.2.2 t b)
def qc_r (D : qd_T) (g : Nat → Nat) (h b : Nat) (c : qc_T) : Nat → Option qc_T
  | 0 => some c
  | n + 1 => match qc_r D g h b c n with
    | none => none
    | some c1 => if qc_fit D c1 (g n) h = true then some (qc_l D c1 (g n) b) else none
theorem qc_r_s {D : qd_T} {g : Nat → Nat} {h b n : Nat} {c c1 : qc_T} (e : qc_r D g h b c n = some c1) (f : qc_fit D c1 (g n) h = true) : qc_r D g h b c (n + 1) = some (qc_l D c1 (g n) b) := by
  simp only [qc_r, e, f, if_true]
theorem qc_r_f {D : qd_T} {g : Nat → Nat} {h b n : Nat} {c c1 : qc_T} (e : qc_r D g h b c n = some c1) (f : qc_fit D c1 (g n) h = false) : qc_r D g h b c (n + 1) = none := by
  simp only [qc_r, e, f]
  rfl
theorem qc_r_n {D : qd_T} {g : Nat → Nat} {h b n : Nat} {c : qc_T} (e : qc_r D g h b c n = none) : qc_r D g h b c (n + 1) = none := by
  simp only [qc_r, e]
theorem qc_r_inv {D : qd_T} {g : Nat → Nat} {h b n : Nat} {c c' : qc_T} (e : qc_r D g h b c (n + 1) = some c') : ∃ c1, qc_r D g h b c n = some c1 ∧ qc_fit D c1 (g n) h = true ∧ c' = qc_l D c1 (g n) b := by
  cases q : qc_r D g h b c n with
  | none => rw [qc_r_n q] at e; cases e
  | some c1 =>
    cases f : qc_fit D c1 (g n) h with
    | false => rw [qc_r_f q f] at e; cases e
    | true => rw [qc_r_s q f] at e; exact ⟨c1, rfl, f, (Option.some.inj e).symm⟩
theorem qc_r_none {D : qd_T} {g : Nat → Nat} {h b n : Nat} {c : qc_T} (e : qc_r D g h b c n = none) : ∀ d, qc_r D g h b c (n + d) = none
  | 0 => e
  | d + 1 => qc_r_n (qc_r_none e d)
theorem qc_r_pre {D : qd_T} {g : Nat → Nat} {h b n m : Nat} {c c' : qc_T} (e : qc_r D g h b c m = some c') (hn : n ≤ m) : ∃ c1, qc_r D g h b c n = some c1 := by
  cases q : qc_r D g h b c n with
  | some c1 => exact ⟨c1, rfl⟩
  | none =>
    have := qc_r_none q (m - n)
    rw [show n + (m - n) = m by omega, e] at this
    cases this
def qc_fe (D : qd_T) (g : Nat → Nat) : Nat → Int32
  | 0 => 0
  | n + 1 => qc_fe D g n + (qc_sp D (g n) - qc_gv D (g n))
def qc_g (D : qd_T) (b : Nat) : Nat → Nat := fun i => qd_tx D (3 * b + i)
def qc_bl (D : qd_T) (c : qc_T) (b : Nat) : Option qc_T := match qc_r D (qc_g D b) (qd_ht D b) b c (qd_ct D b) with
  | none => none
  | some c1 => if qd_am D (64 + 2 * b) ≤ 50 + qc_fe D (qc_g D b) (qd_ct D b) then some (qc_l D c1 (32 + b) b) else none
theorem qc_bl_n {D : qd_T} {c : qc_T} {b : Nat} (e : qc_r D (qc_g D b) (qd_ht D b) b c (qd_ct D b) = none) : qc_bl D c b = none := by
  simp only [qc_bl, e]
theorem qc_bl_f {D : qd_T} {c c1 : qc_T} {b : Nat} (e : qc_r D (qc_g D b) (qd_ht D b) b c (qd_ct D b) = some c1) (h : ¬ qd_am D (64 + 2 * b) ≤ 50 + qc_fe D (qc_g D b) (qd_ct D b)) : qc_bl D c b = none := by
  simp only [qc_bl, e, if_neg h]
theorem qc_bl_s {D : qd_T} {c c1 : qc_T} {b : Nat} (e : qc_r D (qc_g D b) (qd_ht D b) b c (qd_ct D b) = some c1) (h : qd_am D (64 + 2 * b) ≤ 50 + qc_fe D (qc_g D b) (qd_ct D b)) : qc_bl D c b = some (qc_l D c1 (32 + b) b) := by
  simp only [qc_bl, e, if_pos h]
theorem qc_bl_inv {D : qd_T} {c c' : qc_T} {b : Nat} (e : qc_bl D c b = some c') : ∃ c1, qc_r D (qc_g D b) (qd_ht D b) b c (qd_ct D b) = some c1 ∧ qd_am D (64 + 2 * b) ≤ 50 + qc_fe D (qc_g D b) (qd_ct D b) ∧ c' = qc_l D c1 (32 + b) b := by
  cases q : qc_r D (qc_g D b) (qd_ht D b) b c (qd_ct D b) with
  | none => rw [qc_bl_n q] at e; cases e
  | some c1 =>
    by_cases h : qd_am D (64 + 2 * b) ≤ 50 + qc_fe D (qc_g D b) (qd_ct D b)
    · rw [qc_bl_s q h] at e; exact ⟨c1, rfl, h, (Option.some.inj e).symm⟩
    · rw [qc_bl_f q h] at e; cases e
def qc_e : qc_T := ((fun _ => false), (fun _ => false), (fun _ => 0))
def qc_rp (D : qd_T) : Nat → Nat → Option qc_T
  | 0, b => qc_bl D qc_e b
  | h + 1, b => match qc_rp D h (qd_pa D b) with
    | none => none
    | some c => qc_bl D c b
theorem qc_rp_n {D : qd_T} {h b : Nat} (e : qc_rp D h (qd_pa D b) = none) : qc_rp D (h + 1) b = none := by
  simp only [qc_rp, e]
theorem qc_rp_s {D : qd_T} {h b : Nat} {c : qc_T} (e : qc_rp D h (qd_pa D b) = some c) : qc_rp D (h + 1) b = qc_bl D c b := by
  simp only [qc_rp, e]
theorem qc_rp_inv {D : qd_T} {h b : Nat} {c' : qc_T} (e : qc_rp D (h + 1) b = some c') : ∃ c, qc_rp D h (qd_pa D b) = some c ∧ qc_bl D c b = some c' := by
  cases q : qc_rp D h (qd_pa D b) with
  | none => rw [qc_rp_n q] at e; cases e
  | some c => rw [qc_rp_s q] at e; exact ⟨c, rfl, e⟩
/-- the state after the chain of a connected block, if it is good -/
def qc_R (D : qd_T) (b : Nat) : Option qc_T := qc_rp D (qd_ht D b) b
/-- the sizes of what is drafted -/
def qd_W (D : qd_T) : Prop := (∀ t, qd_ic D t ≤ 2) ∧ (∀ t, 32 ≤ t → qd_ic D t = 0) ∧ (∀ t, qd_oc D t ≤ 2) ∧ (∀ k, qd_fr D k < 112) ∧ (∀ o, 0 ≤ (qd_am D o).toInt) ∧ (∀ o, o < 64 → (qd_am D o).toInt ≤ 1000) ∧ (∀ b, qd_ct D b ≤ 3) ∧ (∀ k, qd_tx D k < 32) ∧ (∀ b, qd_pa D b < 24) ∧ (∀ b, qd_ht D b ≤ 23)
/-- the connected blocks -/
def qd_G (D : qd_T) (G : Nat → Prop) : Prop := (∀ b, G b → b < 24) ∧ (∀ b, G b → b ≠ 0 → G (qd_pa D b) ∧ qd_ht D b = qd_ht D (qd_pa D b) + 1) ∧ (G 0 ∧ qd_ht D 0 = 0) ∧ (∀ b, G b → ∀ i, i < qd_ct D b → qd_se D (qd_tx D (3 * b + i)) = true) ∧ (∀ b, G b → qd_oc D (32 + b) = 1) ∧ (qd_ct D 0 = 0 ∧ qd_am D 64 = 50)
/-- what is listed is sealed or connected; what is spent is listed -/
def qc_I (D : qd_T) (G : Nat → Prop) (c : qc_T) : Prop := (∀ t, c.1 t = true → (t < 32 ∧ qd_se D t = true) ∨ (32 ≤ t ∧ G (t - 32))) ∧ (∀ o, c.2.1 o = true → c.1 (o / 2) = true)
theorem qc_fit_in {D : qd_T} {c : qc_T} {t h i : Nat} (f : qc_fit D c t h = true) (hi : i < qd_ic D t) : qc_un D c (qd_fr D (2 * t + i)) = true := by
  have := qc_oks_iff.mp (qc_fit_iff.mp f).2.2.2.2.2.1 i hi
  rw [qc_ok, Bool.and_eq_true] at this
  exact this.1
theorem qc_I_l {D : qd_T} {G : Nat → Prop} {c : qc_T} {t h b : Nat} (I : qc_I D G c) (f : qc_fit D c t h = true) (ht : t < 32) : qc_I D G (qc_l D c t b) := by
  refine ⟨fun s hs => ?_, fun o ho => ?_⟩
  · by_cases z : s = t
    · subst z; exact Or.inl ⟨ht, (qc_fit_iff.mp f).2.1⟩
    · have e : (qc_l D c t b).1 s = c.1 s := qa_vn z
      rw [e] at hs
      exact I.1 s hs
  · show qa_v c.1 t true (o / 2) = true
    have ho' : (c.2.1 o || qc_n (fun i => qd_fr D (2 * t + i)) (qd_ic D t) o) = true := ho
    have hl : c.1 (o / 2) = true := by
      rw [Bool.or_eq_true] at ho'
      rcases ho' with x | x
      · exact I.2 o x
      · obtain ⟨i, hi, e⟩ := qc_n_iff.mp x
        have := qc_fit_in f hi
        rw [e] at this
        exact (qc_un_iff.mp this).1
    by_cases z : o / 2 = t
    · rw [z]; exact qa_vs
    · rw [qa_vn z]; exact hl
theorem qc_I_b {D : qd_T} {G : Nat → Prop} {c : qc_T} {b : Nat} (I : qc_I D G c) (hb : G b) (hi : qd_ic D (32 + b) = 0) : qc_I D G (qc_l D c (32 + b) b) := by
  refine ⟨fun s hs => ?_, fun o ho => ?_⟩
  · by_cases z : s = 32 + b
    · subst z; exact Or.inr ⟨by omega, by rw [Nat.add_sub_cancel_left]; exact hb⟩
    · have e : (qc_l D c (32 + b) b).1 s = c.1 s := qa_vn z
      rw [e] at hs
      exact I.1 s hs
  · show qa_v c.1 (32 + b) true (o / 2) = true
    have ho' : (c.2.1 o || qc_n (fun i => qd_fr D (2 * (32 + b) + i)) (qd_ic D (32 + b)) o) = true := ho
    rw [hi] at ho'
    have ho2 : c.2.1 o = true := by
      rw [Bool.or_eq_true] at ho'
      rcases ho' with x | x
      · exact x
      · cases x
    by_cases z : o / 2 = 32 + b
    · rw [z]; exact qa_vs
    · rw [qa_vn z]; exact I.2 o ho2
/-- the outputs of a transaction -/
theorem qc_out {t n o : Nat} (hn : n ≤ 2) : qc_n (fun i => 2 * t + i) n o = true ↔ o / 2 = t ∧ o % 2 < n := by
  rw [qc_n_iff]
  constructor
  · rintro ⟨i, hi, e⟩
    omega
  · rintro ⟨a, b⟩
    exact ⟨o % 2, b, by omega⟩
theorem qc_apply {D : qd_T} {G : Nat → Prop} {c : qc_T} {t h b : Nat} (W : qd_W D) (I : qc_I D G c) (f : qc_fit D c t h = true) : qc_w (fun i => 2 * t + i) true (qc_w (fun i => qd_fr D (2 * t + i)) false (qc_un D c) (qd_ic D t)) (qd_oc D t) = qc_un D (qc_l D c t b) := by
  funext o
  have hL : c.1 t = false := (qc_fit_iff.mp f).1
  rw [qc_w_eq, qc_w_eq]
  by_cases z : qc_n (fun i => 2 * t + i) (qd_oc D t) o = true
  · rw [if_pos z]
    obtain ⟨z1, z2⟩ := (qc_out (W.2.2.1 t)).mp z
    refine (qc_un_iff.mpr ⟨?_, ?_, ?_⟩).symm
    · show qa_v c.1 t true (o / 2) = true
      rw [z1]; exact qa_vs
    · rw [z1]; exact z2
    · show (c.2.1 o || qc_n (fun i => qd_fr D (2 * t + i)) (qd_ic D t) o) = false
      rw [Bool.or_eq_false_iff]
      constructor
      · cases q : c.2.1 o with
        | false => rfl
        | true => have := I.2 o q; rw [z1, hL] at this; cases this
      · cases q : qc_n (fun i => qd_fr D (2 * t + i)) (qd_ic D t) o with
        | false => rfl
        | true =>
          obtain ⟨i, hi, e⟩ := qc_n_iff.mp q
          have := qc_fit_in f hi
          rw [e] at this
          have := (qc_un_iff.mp this).1
          rw [z1, hL] at this; cases this
  · rw [if_neg z]
    have zz : ¬ (o / 2 = t ∧ o % 2 < qd_oc D t) := fun q => z ((qc_out (W.2.2.1 t)).mpr q)
    show _ = (qa_v c.1 t true (o / 2) && (decide (o % 2 < qd_oc D (o / 2)) && !(c.2.1 o || qc_n (fun i => qd_fr D (2 * t + i)) (qd_ic D t) o)))
    by_cases y : qc_n (fun i => qd_fr D (2 * t + i)) (qd_ic D t) o = true
    · rw [if_pos y, y]; simp
    · rw [if_neg y, Bool.not_eq_true _ |>.mp y, Bool.or_false]
      by_cases x : o / 2 = t
      · rw [x, qa_vs]
        have : ¬ o % 2 < qd_oc D t := fun q => zz ⟨x, q⟩
        unfold qc_un
        rw [x, decide_eq_false this]; simp
      · rw [qa_vn x]; rfl
theorem qc_unapply {D : qd_T} {G : Nat → Prop} {c : qc_T} {t h b : Nat} (W : qd_W D) (I : qc_I D G c) (f : qc_fit D c t h = true) : qc_w (fun i => qd_fr D (2 * t + i)) true (qc_w (fun i => 2 * t + i) false (qc_un D (qc_l D c t b)) (qd_oc D t)) (qd_ic D t) = qc_un D c := by
  funext o
  have hL : c.1 t = false := (qc_fit_iff.mp f).1
  rw [← qc_apply W I f, qc_w_eq, qc_w_eq, qc_w_eq, qc_w_eq]
  by_cases y : qc_n (fun i => qd_fr D (2 * t + i)) (qd_ic D t) o = true
  · rw [if_pos y]
    obtain ⟨i, hi, e⟩ := qc_n_iff.mp y
    have := qc_fit_in f hi
    rw [e] at this
    exact this.symm
  · rw [if_neg y]
    by_cases z : qc_n (fun i => 2 * t + i) (qd_oc D t) o = true
    · rw [if_pos z]
      obtain ⟨z1, z2⟩ := (qc_out (W.2.2.1 t)).mp z
      unfold qc_un
      rw [z1, hL, Bool.false_and]
    · rw [if_neg z, if_neg z, if_neg y]
theorem qc_base {D : qd_T} {G : Nat → Prop} {c : qc_T} {b : Nat} (W : qd_W D) (I : qc_I D G c) (hc : qd_oc D (32 + b) = 1) (hL : c.1 (32 + b) = false) : qa_v (qc_un D c) (64 + 2 * b) true = qc_un D (qc_l D c (32 + b) b) := by
  have hi : qd_ic D (32 + b) = 0 := W.2.1 _ (by omega)
  funext o
  show _ = (qa_v c.1 (32 + b) true (o / 2) && (decide (o % 2 < qd_oc D (o / 2)) && !(c.2.1 o || qc_n (fun i => qd_fr D (2 * (32 + b) + i)) (qd_ic D (32 + b)) o)))
  rw [hi, qc_n, Bool.or_false]
  by_cases z : o = 64 + 2 * b
  · subst z
    have e : (64 + 2 * b) / 2 = 32 + b := by omega
    have m : (64 + 2 * b) % 2 = 0 := by omega
    have s : c.2.1 (64 + 2 * b) = false := by
      cases q : c.2.1 (64 + 2 * b) with
      | false => rfl
      | true => have := I.2 _ q; rw [e, hL] at this; cases this
    rw [qa_vs, e, m, qa_vs, hc, s]
    rfl
  · rw [qa_vn z]
    by_cases y : o / 2 = 32 + b
    · have m : o % 2 = 1 := by omega
      unfold qc_un
      rw [y, m, hc, hL]
      simp
    · rw [qa_vn y]; rfl
theorem qc_unbase {D : qd_T} {G : Nat → Prop} {c : qc_T} {b : Nat} (W : qd_W D) (I : qc_I D G c) (hc : qd_oc D (32 + b) = 1) (hL : c.1 (32 + b) = false) : qa_v (qc_un D (qc_l D c (32 + b) b)) (64 + 2 * b) false = qc_un D c := by
  rw [← qc_base W I hc hL]
  funext o
  by_cases z : o = 64 + 2 * b
  · subst z
    rw [qa_vs]
    unfold qc_un
    rw [show (64 + 2 * b) / 2 = 32 + b by omega, hL, Bool.false_and]
  · rw [qa_vn z, qa_vn z]
/-- the home array -/
def qc_h (c : qc_T) : Nat → Int32 := fun t => if c.1 t = true then nI (c.2.2 t) else if t < 56 then -1 else 0
theorem qc_h_l {D : qd_T} {c : qc_T} {t b : Nat} : upd (qc_h c) t (nI b) = qc_h (qc_l D c t b) := by
  funext s
  show (if s = t then nI b else qc_h c s) = (if qa_v c.1 t true s = true then nI (qa_u c.2.2 t b s) else if s < 56 then -1 else 0)
  by_cases z : s = t
  · subst z; rw [if_pos rfl, qa_vs, qa_us]; rfl
  · rw [if_neg z, qa_vn z, qa_un z]; rfl
theorem qc_h_u {D : qd_T} {c : qc_T} {t b : Nat} (ht : t < 56) (h : c.1 t = false) : upd (qc_h (qc_l D c t b)) t (-1) = qc_h c := by
  rw [← qc_h_l]
  funext s
  show (if s = t then -1 else (if s = t then nI b else qc_h c s)) = qc_h c s
  by_cases z : s = t
  · subst z; rw [if_pos rfl]; unfold qc_h; rw [h, if_neg (by decide), if_pos ht]
  · rw [if_neg z, if_neg z]
end
section
/-! the sum of what is unspent never grows by more than 50 a block: no overflow -/
def qu_U (D : qd_T) (u : Nat → Bool) : Int := qa_S (fun o => if u o = true then (qd_am D o).toInt else 0) 112
theorem qu_0 {D : qd_T} {u : Nat → Bool} (W : qd_W D) : 0 ≤ qu_U D u := qa_S0 fun i _ => by
  have := W.2.2.2.2.1 i
  show 0 ≤ (if u i = true then (qd_am D i).toInt else 0)
  split <;> omega
theorem qu_f {D : qd_T} {u : Nat → Bool} {a : Nat} (ha : a < 112) (h : u a = true) : qu_U D (qa_v u a false) = qu_U D u - (qd_am D a).toInt := by
  have := qa_S1 (f := fun o => if u o = true then (qd_am D o).toInt else 0) (g := fun o => if qa_v u a false o = true then (qd_am D o).toInt else 0) ha (fun i _ hn => by rw [qa_vn hn])
  rw [qa_vs, h] at this
  simp at this
  unfold qu_U
  omega
theorem qu_t {D : qd_T} {u : Nat → Bool} {a : Nat} (ha : a < 112) (h : u a = false) : qu_U D (qa_v u a true) = qu_U D u + (qd_am D a).toInt := by
  have := qa_S1 (f := fun o => if u o = true then (qd_am D o).toInt else 0) (g := fun o => if qa_v u a true o = true then (qd_am D o).toInt else 0) ha (fun i _ hn => by rw [qa_vn hn])
  rw [qa_vs, h] at this
  simp at this
  unfold qu_U
  omega
theorem qu_wf {D : qd_T} {u : Nat → Bool} {g : Nat → Nat} : ∀ {n : Nat}, (∀ i, i < n → g i < 112 ∧ u (g i) = true) → (∀ i j, i < j → j < n → g i ≠ g j) → qu_U D (qc_w g false u n) = qu_U D u - qa_S (fun i => (qd_am D (g i)).toInt) n
  | 0, _, _ => by show qu_U D u = qu_U D u - 0; omega
  | n + 1, h, d => by
    have ih := qu_wf (D := D) (u := u) (g := g) (n := n) (fun i hi => h i (by omega)) (fun i j hi hj => d i j hi (by omega))
    have a : qc_w g false u n (g n) = true := by
      rw [qc_w_eq, if_neg, (h n (by omega)).2]
      intro q
      obtain ⟨i, hi, e⟩ := qc_n_iff.mp q
      exact d i n hi (by omega) e
    show qu_U D (qa_v (qc_w g false u n) (g n) false) = qu_U D u - (qa_S (fun i => (qd_am D (g i)).toInt) n + (qd_am D (g n)).toInt)
    rw [qu_f (h n (by omega)).1 a, ih]
    omega
theorem qu_wt {D : qd_T} {u : Nat → Bool} {g : Nat → Nat} : ∀ {n : Nat}, (∀ i, i < n → g i < 112 ∧ u (g i) = false) → (∀ i j, i < j → j < n → g i ≠ g j) → qu_U D (qc_w g true u n) = qu_U D u + qa_S (fun i => (qd_am D (g i)).toInt) n
  | 0, _, _ => by show qu_U D u = qu_U D u + 0; omega
  | n + 1, h, d => by
    have ih := qu_wt (D := D) (u := u) (g := g) (n := n) (fun i hi => h i (by omega)) (fun i j hi hj => d i j hi (by omega))
    have a : qc_w g true u n (g n) = false := by
      rw [qc_w_eq, if_neg, (h n (by omega)).2]
      intro q
      obtain ⟨i, hi, e⟩ := qc_n_iff.mp q
      exact d i n hi (by omega) e
    show qu_U D (qa_v (qc_w g true u n) (g n) true) = qu_U D u + (qa_S (fun i => (qd_am D (g i)).toInt) n + (qd_am D (g n)).toInt)
    rw [qu_t (h n (by omega)).1 a, ih]
    omega
theorem qu_dis {D : qd_T} {t : Nat} (W : qd_W D) (d : qc_du D t = false) : ∀ i j, i < j → j < qd_ic D t → qd_fr D (2 * t + i) ≠ qd_fr D (2 * t + j) := by
  intro i j hi hj e
  have := W.1 t
  have i0 : i = 0 := by omega
  have j1 : j = 1 := by omega
  subst i0 j1
  unfold qc_du at d
  rw [decide_eq_true (show qd_ic D t = 2 by omega), decide_eq_true (show qd_fr D (2 * t) = qd_fr D (2 * t + 1) from e)] at d
  cases d
/-- the inputs' sum, without overflow -/
theorem qu_sp {D : qd_T} {c : qc_T} {t h : Nat} (W : qd_W D) (o : qc_oks D (qc_un D c) h t (qd_ic D t) = true) (d : qc_du D t = false) (B : qu_U D (qc_un D c) ≤ 2000) : (qc_sp D t).toInt = qa_S (fun i => (qd_am D (qd_fr D (2 * t + i))).toInt) (qd_ic D t) ∧ 0 ≤ (qc_sp D t).toInt ∧ (qc_sp D t).toInt ≤ qu_U D (qc_un D c) ∧ qu_U D (qc_w (fun i => qd_fr D (2 * t + i)) false (qc_un D c) (qd_ic D t)) = qu_U D (qc_un D c) - (qc_sp D t).toInt := by
  have a : ∀ i, i < qd_ic D t → qd_fr D (2 * t + i) < 112 ∧ qc_un D c (qd_fr D (2 * t + i)) = true := fun i hi => ⟨W.2.2.2.1 _, by
    have := qc_oks_iff.mp o i hi
    rw [qc_ok, Bool.and_eq_true] at this
    exact this.1⟩
  have w := qu_wf (D := D) (u := qc_un D c) (g := fun i => qd_fr D (2 * t + i)) a (qu_dis W d)
  have n0 := qu_0 (D := D) (u := qc_w (fun i => qd_fr D (2 * t + i)) false (qc_un D c) (qd_ic D t)) W
  have s0 := qa_S0 (f := fun i => (qd_am D (qd_fr D (2 * t + i))).toInt) (n := qd_ic D t) (fun i _ => W.2.2.2.2.1 _)
  have e : (qc_sp D t).toInt = qa_S (fun i => (qd_am D (qd_fr D (2 * t + i))).toInt) (qd_ic D t) := qa_st (fun i _ => W.2.2.2.2.1 _) (by omega)
  exact ⟨e, by omega, by omega, by omega⟩
theorem qu_gv {D : qd_T} {t : Nat} (W : qd_W D) (ht : t < 32) : (qc_gv D t).toInt = qa_S (fun i => (qd_am D (2 * t + i)).toInt) (qd_oc D t) ∧ 0 ≤ (qc_gv D t).toInt ∧ (qc_gv D t).toInt ≤ 2000 := by
  have s0 := qa_S0 (f := fun i => (qd_am D (2 * t + i)).toInt) (n := qd_oc D t) (fun i _ => W.2.2.2.2.1 _)
  have s1 : qa_S (fun i => (qd_am D (2 * t + i)).toInt) (qd_oc D t) ≤ qa_S (fun _ => 1000) (qd_oc D t) := qa_Sle fun i hi => W.2.2.2.2.2.1 _ (by have := W.2.2.1 t; omega)
  have s2 : qa_S (fun _ => 1000) (qd_oc D t) ≤ 2000 := by
    have := W.2.2.1 t
    have z : qd_oc D t = 0 ∨ qd_oc D t = 1 ∨ qd_oc D t = 2 := by omega
    rcases z with z | z | z <;> rw [z] <;> decide
  have e : (qc_gv D t).toInt = qa_S (fun i => (qd_am D (2 * t + i)).toInt) (qd_oc D t) := qa_st (fun i _ => W.2.2.2.2.1 _) (by omega)
  exact ⟨e, by omega, by omega⟩
theorem qu_sub {x y : Int32} (hx : 0 ≤ x.toInt) (hx2 : x.toInt ≤ 2000) (hy : 0 ≤ y.toInt) (hy2 : y.toInt ≤ 2000) : (x - y).toInt = x.toInt - y.toInt := by
  rw [Int32.toInt_sub]
  exact Int.bmod_eq_of_le (by omega) (by omega)
/-- X asks for the sign of the fee, Y compares the sums -/
theorem qu_sign {D : qd_T} {c : qc_T} {t h : Nat} (W : qd_W D) (ht : t < 32) (B : qu_U D (qc_un D c) ≤ 2000) (o : qc_oks D (qc_un D c) h t (qd_ic D t) = true) (d : qc_du D t = false) : qc_sp D t - qc_gv D t < 0 ↔ ¬ qc_gv D t ≤ qc_sp D t := by
  obtain ⟨_, a0, a1, _⟩ := qu_sp W o d B
  obtain ⟨_, b0, b1⟩ := qu_gv W ht
  rw [Int32.lt_iff_toInt_lt, Int32.le_iff_toInt_le, qu_sub a0 (by omega) b0 b1, show (0 : Int32).toInt = 0 from by decide]
  omega
theorem qu_list {D : qd_T} {G : Nat → Prop} {c : qc_T} {t h b : Nat} (W : qd_W D) (I : qc_I D G c) (ht : t < 32) (B : qu_U D (qc_un D c) ≤ 2000) (f : qc_fit D c t h = true) : 0 ≤ (qc_sp D t - qc_gv D t).toInt ∧ qu_U D (qc_un D (qc_l D c t b)) = qu_U D (qc_un D c) - (qc_sp D t - qc_gv D t).toInt := by
  obtain ⟨hL, _, _, _, d, o, le⟩ := qc_fit_iff.mp f
  obtain ⟨e1, a0, a1, w⟩ := qu_sp W o d B
  obtain ⟨e2, b0, b1⟩ := qu_gv W ht
  rw [Int32.le_iff_toInt_le] at le
  have fr : ∀ i, i < qd_oc D t → 2 * t + i < 112 ∧ qc_w (fun i => qd_fr D (2 * t + i)) false (qc_un D c) (qd_ic D t) (2 * t + i) = false := by
    intro i hi
    have := W.2.2.1 t
    refine ⟨by omega, ?_⟩
    rw [qc_w_eq]
    have z : qc_un D c (2 * t + i) = false := by
      unfold qc_un
      rw [show (2 * t + i) / 2 = t by omega, hL, Bool.false_and]
    rw [z]
    split <;> rfl
  have w2 := qu_wt (D := D) (u := qc_w (fun i => qd_fr D (2 * t + i)) false (qc_un D c) (qd_ic D t)) (g := fun i => 2 * t + i) (n := qd_oc D t) fr (fun i j hi _ => by omega)
  rw [qc_apply (b := b) W I f] at w2
  rw [qu_sub a0 (by omega) b0 b1]
  exact ⟨by omega, by omega⟩
theorem qu_add {x y : Int32} (hx : 0 ≤ x.toInt) (hy : 0 ≤ y.toInt) (h : x.toInt + y.toInt ≤ 5000) : (x + y).toInt = x.toInt + y.toInt := by
  rw [Int32.toInt_add]
  exact Int.bmod_eq_of_le (by omega) (by omega)
theorem qu_r {D : qd_T} {G : Nat → Prop} {c : qc_T} {g : Nat → Nat} {h b : Nat} (W : qd_W D) (I : qc_I D G c) (B : qu_U D (qc_un D c) ≤ 2000) : ∀ {n : Nat} {c' : qc_T}, (∀ i, i < n → g i < 32) → qc_r D g h b c n = some c' → qc_I D G c' ∧ 0 ≤ (qc_fe D g n).toInt ∧ qu_U D (qc_un D c') = qu_U D (qc_un D c) - (qc_fe D g n).toInt
  | 0, c', _, e => by
    cases e
    have z : (qc_fe D g 0).toInt = 0 := by show (0 : Int32).toInt = 0; decide
    rw [z]
    exact ⟨I, by omega, by omega⟩
  | n + 1, c', hg, e => by
    obtain ⟨c1, e1, f, rfl⟩ := qc_r_inv e
    obtain ⟨I1, f0, u1⟩ := qu_r W I B (n := n) (fun i hi => hg i (by omega)) e1
    have B1 : qu_U D (qc_un D c1) ≤ 2000 := by omega
    obtain ⟨p0, p1⟩ := qu_list (b := b) W I1 (hg n (by omega)) B1 f
    have u0 := qu_0 (D := D) (u := qc_un D (qc_l D c1 (g n) b)) W
    have z : (qc_fe D g (n + 1)).toInt = (qc_fe D g n).toInt + (qc_sp D (g n) - qc_gv D (g n)).toInt := qu_add f0 p0 (by omega)
    rw [z]
    exact ⟨qc_I_l I1 f (hg n (by omega)), by omega, by omega⟩
theorem qc_g_lt {D : qd_T} {b i : Nat} (W : qd_W D) : qc_g D b i < 32 := W.2.2.2.2.2.2.2.1 _
/-- heights of what is listed -/
def qc_H (D : qd_T) (h : Nat) (c : qc_T) : Prop := (∀ b, c.1 (32 + b) = true → qd_ht D b ≤ h) ∧ (∀ t, c.1 t = true → c.2.2 t < 24)
theorem qc_H_l {D : qd_T} {h t b : Nat} {c : qc_T} (H : qc_H D h c) (ht : t < 32) (hb : b < 24) : qc_H D h (qc_l D c t b) := by
  refine ⟨fun b' e => ?_, fun s e => ?_⟩
  · have : (qc_l D c t b).1 (32 + b') = c.1 (32 + b') := qa_vn (by omega)
    rw [this] at e
    exact H.1 b' e
  · show qa_u c.2.2 t b s < 24
    by_cases z : s = t
    · subst z; rw [qa_us]; exact hb
    · have : (qc_l D c t b).1 s = c.1 s := qa_vn z
      rw [this] at e
      rw [qa_un z]; exact H.2 s e
theorem qc_H_r {D : qd_T} {g : Nat → Nat} {k h b : Nat} {c : qc_T} (hb : b < 24) (H : qc_H D h c) : ∀ {n : Nat} {c' : qc_T}, (∀ i, i < n → g i < 32) → qc_r D g k b c n = some c' → qc_H D h c'
  | 0, c', _, e => by cases e; exact H
  | n + 1, c', hg, e => by
    obtain ⟨c1, e1, f, rfl⟩ := qc_r_inv e
    exact qc_H_l (qc_H_r hb H (n := n) (fun i hi => hg i (by omega)) e1) (hg n (by omega)) hb
theorem qc_H_b {D : qd_T} {h b : Nat} {c : qc_T} (H : qc_H D h c) (hb : b < 24) : qc_H D (max h (qd_ht D b)) (qc_l D c (32 + b) b) := by
  refine ⟨fun b' e => ?_, fun s e => ?_⟩
  · by_cases z : b' = b
    · subst z; omega
    · have : (qc_l D c (32 + b) b).1 (32 + b') = c.1 (32 + b') := qa_vn (by omega)
      rw [this] at e
      have := H.1 b' e
      omega
  · show qa_u c.2.2 (32 + b) b s < 24
    by_cases z : s = 32 + b
    · subst z; rw [qa_us]; exact hb
    · have : (qc_l D c (32 + b) b).1 s = c.1 s := qa_vn z
      rw [this] at e
      rw [qa_un z]; exact H.2 s e
/-- a block's own coinbase isn't listed ahead of it, nor by its transactions -/
theorem qc_r_L {D : qd_T} {g : Nat → Nat} {h b t : Nat} {c : qc_T} (ht : 32 ≤ t) : ∀ {n : Nat} {c' : qc_T}, (∀ i, i < n → g i < 32) → qc_r D g h b c n = some c' → c'.1 t = c.1 t
  | 0, c', _, e => by cases e; rfl
  | n + 1, c', hg, e => by
    obtain ⟨c1, e1, f, rfl⟩ := qc_r_inv e
    have := hg n (by omega)
    rw [← qc_r_L ht (n := n) (fun i hi => hg i (by omega)) e1]
    exact qa_vn (by omega)
theorem qu_bl {D : qd_T} {G : Nat → Prop} {c c' : qc_T} {b : Nat} (W : qd_W D) (V : qd_G D G) (hb : G b) (I : qc_I D G c) (B : qu_U D (qc_un D c) ≤ 2000) (hL : c.1 (32 + b) = false) (e : qc_bl D c b = some c') : qc_I D G c' ∧ qu_U D (qc_un D c') ≤ qu_U D (qc_un D c) + 50 := by
  obtain ⟨c1, e1, le, rfl⟩ := qc_bl_inv e
  obtain ⟨I1, f0, u1⟩ := qu_r W I B (fun i _ => qc_g_lt W) e1
  have hL1 : c1.1 (32 + b) = false := by rw [qc_r_L (by omega) (fun i _ => qc_g_lt W) e1]; exact hL
  refine ⟨qc_I_b I1 hb (W.2.1 _ (by omega)), ?_⟩
  have hb24 := V.1 b hb
  have u0 := qu_0 (D := D) (u := qc_un D c1) W
  have z : qc_un D c1 (64 + 2 * b) = false := by
    unfold qc_un
    rw [show (64 + 2 * b) / 2 = 32 + b by omega, hL1, Bool.false_and]
  rw [← qc_base W I1 (V.2.2.2.2.1 b hb) hL1, qu_t (by omega) z]
  rw [Int32.le_iff_toInt_le, qu_add (x := 50) (by decide) f0 (by rw [show (50 : Int32).toInt = 50 from by decide]; omega), show (50 : Int32).toInt = 50 from by decide] at le
  omega
theorem qc_I_e (D : qd_T) (G : Nat → Prop) : qc_I D G qc_e := ⟨fun _ h => (by cases h), fun _ h => (by cases h)⟩
theorem qu_e (D : qd_T) : qu_U D (qc_un D qc_e) = 0 := by
  have : qu_U D (qc_un D qc_e) = qa_S (fun _ => 0) 112 := qa_Sc fun i _ => rfl
  rw [this]; decide
/-- what holds of every good chain -/
theorem qc_main {D : qd_T} {G : Nat → Prop} (W : qd_W D) (V : qd_G D G) : ∀ (h b : Nat), G b → qd_ht D b = h → ∀ c, qc_rp D h b = some c → qc_I D G c ∧ qc_H D h c ∧ qu_U D (qc_un D c) ≤ 50 * (h + 1)
  | 0, b, hb, hh, c, e => by
    have e' : qc_bl D qc_e b = some c := e
    obtain ⟨a, u⟩ := qu_bl W V hb (qc_I_e D G) (by rw [qu_e]; decide) rfl e'
    rw [qu_e] at u
    refine ⟨a, ?_, by omega⟩
    obtain ⟨c1, e1, _, rfl⟩ := qc_bl_inv e'
    have H0 : qc_H D 0 qc_e := ⟨fun _ h => (by cases h), fun _ h => (by cases h)⟩
    have := qc_H_b (qc_H_r (V.1 b hb) H0 (fun i _ => qc_g_lt W) e1) (V.1 b hb)
    rw [hh] at this
    exact this
  | h + 1, b, hb, hh, c, e => by
    have b0 : b ≠ 0 := fun z => by subst z; rw [V.2.2.1.2] at hh; cases hh
    obtain ⟨hp, hq⟩ := V.2.1 b hb b0
    obtain ⟨c0, e0, e1⟩ := qc_rp_inv e
    obtain ⟨I, H, U⟩ := qc_main W V h (qd_pa D b) hp (by omega) c0 e0
    have hle := W.2.2.2.2.2.2.2.2.2 b
    have hL : c0.1 (32 + b) = false := by
      cases q : c0.1 (32 + b) with
      | false => rfl
      | true => have := H.1 b q; omega
    obtain ⟨a, u⟩ := qu_bl W V hb I (by omega) hL e1
    refine ⟨a, ?_, by omega⟩
    obtain ⟨c1, e2, _, rfl⟩ := qc_bl_inv e1
    have := qc_H_b (qc_H_r (V.1 b hb) H (fun i _ => qc_g_lt W) e2) (V.1 b hb)
    rw [hh, show max h (h + 1) = h + 1 by omega] at this
    exact this
theorem qc_mainR {D : qd_T} {G : Nat → Prop} (W : qd_W D) (V : qd_G D G) {b : Nat} (hb : G b) {c : qc_T} (e : qc_R D b = some c) : qc_I D G c ∧ qc_H D (qd_ht D b) c ∧ qu_U D (qc_un D c) ≤ 1200 := by
  obtain ⟨x, y, z⟩ := qc_main W V _ b hb rfl c e
  have := W.2.2.2.2.2.2.2.2.2 b
  exact ⟨x, y, by omega⟩
end
section
/-! the frame: what is sealed or connected stays as it is -/
def qf_A (D D' : qd_T) (G : Nat → Prop) : Prop := (∀ t, qd_se D t = true → qd_se D' t = true ∧ qd_ic D' t = qd_ic D t ∧ qd_oc D' t = qd_oc D t ∧ ∀ i, i < 2 → qd_fr D' (2 * t + i) = qd_fr D (2 * t + i) ∧ qd_wt D' (2 * t + i) = qd_wt D (2 * t + i) ∧ qd_am D' (2 * t + i) = qd_am D (2 * t + i) ∧ qd_lk D' (2 * t + i) = qd_lk D (2 * t + i)) ∧ (∀ b, G b → qd_ct D' b = qd_ct D b ∧ (∀ i, i < 3 → qd_tx D' (3 * b + i) = qd_tx D (3 * b + i)) ∧ qd_pa D' b = qd_pa D b ∧ qd_ht D' b = qd_ht D b ∧ qd_am D' (64 + 2 * b) = qd_am D (64 + 2 * b) ∧ qd_lk D' (64 + 2 * b) = qd_lk D (64 + 2 * b) ∧ qd_oc D' (32 + b) = qd_oc D (32 + b)) ∧ (∀ t, 32 ≤ t → qd_ic D' t = qd_ic D t)
section
variable {D D' : qd_T} {G : Nat → Prop}
theorem qf_un {c : qc_T} (A : qf_A D D' G) (I : qc_I D G c) : qc_un D' c = qc_un D c := by
  funext o
  unfold qc_un
  cases q : c.1 (o / 2) with
  | false => rfl
  | true =>
    rcases I.1 _ q with ⟨_, x⟩ | ⟨x, y⟩
    · rw [(A.1 _ x).2.2.1]
    · have e := (A.2.1 _ y).2.2.2.2.2.2
      rw [show 32 + (o / 2 - 32) = o / 2 by omega] at e
      rw [e]
theorem qf_ok {c : qc_T} {t h i : Nat} (V : qd_G D G) (A : qf_A D D' G) (I : qc_I D G c) (s : qd_se D t = true) (hi : i < 2) : qc_ok D' (qc_un D c) h (2 * t + i) = qc_ok D (qc_un D c) h (2 * t + i) := by
  obtain ⟨e1, e2, _, _⟩ := (A.1 t s).2.2.2 i hi
  unfold qc_ok
  rw [e1, e2]
  cases q : qc_un D c (qd_fr D (2 * t + i)) with
  | false => rfl
  | true =>
    obtain ⟨l, p, _⟩ := qc_un_iff.mp q
    generalize qd_fr D (2 * t + i) = o at *
    rcases I.1 _ l with ⟨x, y⟩ | ⟨x, y⟩
    · have := ((A.1 _ y).2.2.2 (o % 2) (by omega)).2.2.2
      rw [show 2 * (o / 2) + o % 2 = o by omega] at this
      rw [this, decide_eq_true (show o < 64 by omega)]
      rfl
    · have oc := V.2.2.2.2.1 _ y
      rw [show 32 + (o / 2 - 32) = o / 2 by omega] at oc
      have z := A.2.1 _ y
      have l2 := z.2.2.2.2.2.1
      rw [show 64 + 2 * (o / 2 - 32) = o by omega] at l2
      rw [l2, z.2.2.2.1]
theorem qf_oks {c : qc_T} {t h : Nat} (V : qd_G D G) (A : qf_A D D' G) (I : qc_I D G c) (s : qd_se D t = true) : ∀ {n : Nat}, n ≤ 2 → qc_oks D' (qc_un D c) h t n = qc_oks D (qc_un D c) h t n
  | 0, _ => rfl
  | n + 1, hn => by
    show (qc_oks D' (qc_un D c) h t n && _) = (qc_oks D (qc_un D c) h t n && _)
    rw [qf_oks V A I s (n := n) (by omega), qf_ok V A I s (by omega)]
theorem qf_gv {t : Nat} (W : qd_W D) (A : qf_A D D' G) (s : qd_se D t = true) : qc_gv D' t = qc_gv D t := by
  unfold qc_gv
  rw [(A.1 t s).2.2.1]
  exact qa_sc fun i hi => ((A.1 t s).2.2.2 i (by have := W.2.2.1 t; omega)).2.2.1
theorem qf_sp {c : qc_T} {t h : Nat} (W : qd_W D) (V : qd_G D G) (A : qf_A D D' G) (I : qc_I D G c) (s : qd_se D t = true) (k : qc_oks D (qc_un D c) h t (qd_ic D t) = true) : qc_sp D' t = qc_sp D t := by
  unfold qc_sp
  rw [(A.1 t s).2.1]
  refine qa_sc fun i hi => ?_
  rw [((A.1 t s).2.2.2 i (by have := W.1 t; omega)).1]
  have := qc_oks_iff.mp k i hi
  rw [qc_ok, Bool.and_eq_true] at this
  obtain ⟨l, p, _⟩ := qc_un_iff.mp this.1
  generalize qd_fr D (2 * t + i) = o at *
  rcases I.1 _ l with ⟨x, y⟩ | ⟨x, y⟩
  · have := ((A.1 _ y).2.2.2 (o % 2) (by omega)).2.2.1
    rwa [show 2 * (o / 2) + o % 2 = o by omega] at this
  · have oc := V.2.2.2.2.1 _ y
    rw [show 32 + (o / 2 - 32) = o / 2 by omega] at oc
    have z := (A.2.1 _ y).2.2.2.2.1
    rwa [show 64 + 2 * (o / 2 - 32) = o by omega] at z
theorem qf_fit {c : qc_T} {t h : Nat} (W : qd_W D) (V : qd_G D G) (A : qf_A D D' G) (I : qc_I D G c) (s : qd_se D t = true) : qc_fit D' c t h = qc_fit D c t h := by
  have w := W.1 t
  unfold qc_fit qc_gf
  rw [qf_un A I, (A.1 t s).1, s, (A.1 t s).2.1, (A.1 t s).2.2.1, qf_oks V A I s w]
  have du : qc_du D' t = qc_du D t := by
    unfold qc_du
    rw [(A.1 t s).2.1, ((A.1 t s).2.2.2 1 (by omega)).1]
    have := ((A.1 t s).2.2.2 0 (by omega)).1
    rw [Nat.add_zero] at this
    rw [this]
  rw [du, qf_gv W A s]
  cases q : qc_oks D (qc_un D c) h t (qd_ic D t) with
  | false => simp only [Bool.false_and, Bool.and_false]
  | true => rw [qf_sp W V A I s q]
theorem qf_n {t n : Nat} (A : qf_A D D' G) (s : qd_se D t = true) : ∀ {k : Nat}, k ≤ 2 → ∀ o, qc_n (fun i => qd_fr D' (2 * t + i)) k o = qc_n (fun i => qd_fr D (2 * t + i)) k o
  | 0, _, _ => rfl
  | k + 1, hk, o => by
    show (qc_n (fun i => qd_fr D' (2 * t + i)) k o || decide (qd_fr D' (2 * t + k) = o)) = (qc_n (fun i => qd_fr D (2 * t + i)) k o || decide (qd_fr D (2 * t + k) = o))
    rw [qf_n (n := n) A s (k := k) (by omega) o, ((A.1 t s).2.2.2 k (by omega)).1]
theorem qf_l {c : qc_T} {t b : Nat} (W : qd_W D) (A : qf_A D D' G) (s : qd_se D t = true) : qc_l D' c t b = qc_l D c t b := by
  unfold qc_l
  rw [(A.1 t s).2.1, funext (fun o => qf_n (n := 0) A s (W.1 t) o)]
theorem qf_lb {c : qc_T} {b : Nat} (W : qd_W D) (A : qf_A D D' G) : qc_l D' c (32 + b) b = qc_l D c (32 + b) b := by
  unfold qc_l
  rw [A.2.2 _ (by omega), W.2.1 _ (by omega)]
  rfl
theorem qf_r {c : qc_T} {g g' : Nat → Nat} {h b : Nat} (W : qd_W D) (V : qd_G D G) (A : qf_A D D' G) (I : qc_I D G c) : ∀ {n : Nat}, (∀ i, i < n → g' i = g i ∧ qd_se D (g i) = true ∧ g i < 32) → qc_r D' g' h b c n = qc_r D g h b c n ∧ (∀ c', qc_r D g h b c n = some c' → qc_I D G c' ∧ qc_fe D' g' n = qc_fe D g n)
  | 0, _ => ⟨rfl, fun c' e => by cases e; exact ⟨I, rfl⟩⟩
  | n + 1, hg => by
    obtain ⟨e, k⟩ := qf_r W V A I (n := n) (fun i hi => hg i (by omega))
    obtain ⟨gn, sn, ln⟩ := hg n (by omega)
    cases q : qc_r D g h b c n with
    | none =>
      rw [q] at e
      exact ⟨(qc_r_n e).trans (qc_r_n q).symm, fun c' z => by rw [qc_r_n q] at z; cases z⟩
    | some c1 =>
      rw [q] at e
      obtain ⟨I1, fe⟩ := k c1 q
      have ff := qf_fit (h := h) W V A I1 sn
      cases f : qc_fit D c1 (g n) h with
      | false =>
        rw [f, ← gn] at ff
        exact ⟨(qc_r_f e ff).trans (qc_r_f q f).symm, fun c' z => by rw [qc_r_f q f] at z; cases z⟩
      | true =>
        rw [f, ← gn] at ff
        refine ⟨(qc_r_s e ff).trans ?_, fun c' z => ?_⟩
        · rw [qc_r_s q f, gn, qf_l W A sn]
        · rw [qc_r_s q f] at z
          cases z
          refine ⟨qc_I_l I1 f ln, ?_⟩
          show qc_fe D' g' n + (qc_sp D' (g' n) - qc_gv D' (g' n)) = qc_fe D g n + (qc_sp D (g n) - qc_gv D (g n))
          rw [fe, gn, qf_gv W A sn, qf_sp W V A I1 sn (qc_fit_iff.mp f).2.2.2.2.2.1]
theorem qf_bl {c : qc_T} {b : Nat} (W : qd_W D) (V : qd_G D G) (A : qf_A D D' G) (I : qc_I D G c) (hb : G b) : qc_bl D' c b = qc_bl D c b := by
  have a := A.2.1 b hb
  have w := W.2.2.2.2.2.2.1 b
  obtain ⟨e, k⟩ := qf_r (c := c) (g := qc_g D b) (g' := qc_g D' b) (h := qd_ht D b) (b := b) W V A I (n := qd_ct D b) (fun i hi => ⟨a.2.1 i (by omega), V.2.2.2.1 b hb i hi, qc_g_lt W⟩)
  have e' : qc_r D' (qc_g D' b) (qd_ht D' b) b c (qd_ct D' b) = qc_r D (qc_g D b) (qd_ht D b) b c (qd_ct D b) := by rw [a.1, a.2.2.2.1]; exact e
  cases q : qc_r D (qc_g D b) (qd_ht D b) b c (qd_ct D b) with
  | none => rw [q] at e'; rw [qc_bl_n e', qc_bl_n q]
  | some c1 =>
    rw [q] at e'
    have fe := (k c1 q).2
    have fe' : qd_am D' (64 + 2 * b) ≤ 50 + qc_fe D' (qc_g D' b) (qd_ct D' b) ↔ qd_am D (64 + 2 * b) ≤ 50 + qc_fe D (qc_g D b) (qd_ct D b) := by rw [a.1, fe, a.2.2.2.2.1]
    by_cases z : qd_am D (64 + 2 * b) ≤ 50 + qc_fe D (qc_g D b) (qd_ct D b)
    · rw [qc_bl_s e' (fe'.mpr z), qc_bl_s q z, qf_lb W A]
    · rw [qc_bl_f e' (fun y => z (fe'.mp y)), qc_bl_f q z]
theorem qf_rp (W : qd_W D) (V : qd_G D G) (A : qf_A D D' G) : ∀ (h b : Nat), G b → qd_ht D b = h → qc_rp D' h b = qc_rp D h b
  | 0, b, hb, hh => qf_bl W V A (qc_I_e D G) hb
  | h + 1, b, hb, hh => by
    have b0 : b ≠ 0 := fun z => by subst z; rw [V.2.2.1.2] at hh; cases hh
    obtain ⟨hp, hq⟩ := V.2.1 b hb b0
    have ih := qf_rp W V A h (qd_pa D b) hp (by omega)
    have ep := (A.2.1 b hb).2.2.1
    cases q : qc_rp D h (qd_pa D b) with
    | none => rw [q, ← ep] at ih; rw [qc_rp_n ih, qc_rp_n q]
    | some c =>
      rw [q, ← ep] at ih
      rw [qc_rp_s ih, qc_rp_s q]
      exact qf_bl W V A (qc_main W V h _ hp (by omega) c q).1 hb
theorem qf_R (W : qd_W D) (V : qd_G D G) (A : qf_A D D' G) {b : Nat} (hb : G b) : qc_R D' b = qc_R D b := by
  unfold qc_R
  rw [(A.2.1 b hb).2.2.2.1]
  exact qf_rp W V A _ b hb rfl
theorem qf_I {c : qc_T} (A : qf_A D D' G) (I : qc_I D G c) : qc_I D' G c := ⟨fun t h => (I.1 t h).elim (fun x => Or.inl ⟨x.1, (A.1 t x.2).1⟩) Or.inr, I.2⟩
end
end
section
/-! Y: sums, fits, list -/
section
variable {f_submitted f_length f_weight f_pooledCount f_tipBlock : Int32} {a_inputs a_inFrom a_inPlace a_witness a_outputs a_amount a_lock a_sealed a_state a_parent a_work a_count a_tx a_order a_path a_listed a_spent a_heightOf a_stack a_pool a_oldPool a_oldPath : Nat → Int32}
variable {D : qd_T} {c : qc_T}
theorem qh_yi {A B : Prop} {t i : Nat} (W : qd_W D) (ht : t < 32) (hi : i ≤ qd_ic D t) (f : i = qd_ic D t → A) (g : i < qd_ic D t → B) : vp_in (nI t) 32 ∧ ((2 * nI t + qa_i (qd_ic D) (nI t).toNatClampNeg ≤ nI (2 * t + i) → A) ∧ (¬ 2 * nI t + qa_i (qd_ic D) (nI t).toNatClampNeg ≤ nI (2 * t + i) → B)) := by
  have w := W.1 t
  rw [qa_at _ (show t < 2 ^ 31 by omega), qa_2', nI_leI (by omega) (by omega)]
  exact ⟨vp_in_nI ht (by decide), fun h => f (by omega), fun h => g (by omega)⟩
theorem qh_yo {A B : Prop} {t i : Nat} (W : qd_W D) (ht : t < 32) (hi : i ≤ qd_oc D t) (f : i = qd_oc D t → A) (g : i < qd_oc D t → B) : vp_in (nI t) 56 ∧ ((2 * nI t + qa_i (qd_oc D) (nI t).toNatClampNeg ≤ nI (2 * t + i) → A) ∧ (¬ 2 * nI t + qa_i (qd_oc D) (nI t).toNatClampNeg ≤ nI (2 * t + i) → B)) := by
  have w := W.2.2.1 t
  rw [qa_at _ (show t < 2 ^ 31 by omega), qa_2', nI_leI (by omega) (by omega)]
  exact ⟨vp_in_nI (by omega) (by decide), fun h => f (by omega), fun h => g (by omega)⟩
theorem qh_yt {A B : Prop} {b i : Nat} (W : qd_W D) (hb : b < 24) (hi : i ≤ qd_ct D b) (f : i = qd_ct D b → A) (g : i < qd_ct D b → B) : vp_in (nI b) 24 ∧ ((3 * nI b + qa_i (qd_ct D) (nI b).toNatClampNeg ≤ nI (3 * b + i) → A) ∧ (¬ 3 * nI b + qa_i (qd_ct D) (nI b).toNatClampNeg ≤ nI (3 * b + i) → B)) := by
  have w := W.2.2.2.2.2.2.1 b
  rw [qa_at _ (show b < 2 ^ 31 by omega), qa_3', nI_leI (by omega) (by omega)]
  exact ⟨vp_in_nI hb (by decide), fun h => f (by omega), fun h => g (by omega)⟩
theorem qh_yf {k : Nat} (hk : k < 2 ^ 31) : 2 * qa_i (fun k => qd_fr D k / 2) (nI k).toNatClampNeg + qa_i (fun k => qd_fr D k % 2) (nI k).toNatClampNeg = nI (qd_fr D k) := by
  rw [qa_at _ hk, qa_at _ hk, qa_2']
  exact congrArg nI (by omega)
theorem qy_spends_l {post : Int32 → Prop} {t : Nat} (W : qd_W D) (ht : t < 32) (hp : post (qc_sp D t)) : ∀ d i, i + d = qd_ic D t → ∀ n, d < n → wY_spends_6 post (nI t) f_submitted f_length f_weight f_pooledCount f_tipBlock (qa_i (qd_ic D)) (qa_i (fun k => qd_fr D k / 2)) (qa_i (fun k => qd_fr D k % 2)) (qd_wt D) (qa_i (qd_oc D)) (qd_am D) (qd_lk D) (qa_b (qd_se D)) a_state (qa_i (qd_pa D)) a_work (qa_i (qd_ct D)) (qa_i (qd_tx D)) a_order a_path a_listed a_spent a_heightOf a_stack a_pool a_oldPool a_oldPath n (qa_s (fun i => qd_am D (qd_fr D (2 * t + i))) i) (nI (2 * t + i)) := by
  intro d
  induction d with
  | zero =>
    intro i hi n hn
    obtain ⟨n, rfl⟩ : ∃ q, n = q + 1 := ⟨n - 1, by omega⟩
    rw [wY_spends_6]
    refine qh_yi W ht (by omega) (fun e => ?_) (fun hlt => by omega)
    rw [e]; exact hp
  | succ d ih =>
    intro i hi n hn
    obtain ⟨n, rfl⟩ : ∃ q, n = q + 1 := ⟨n - 1, by omega⟩
    have w := W.1 t
    have w2 := W.2.2.2.1 (2 * t + i)
    rw [wY_spends_6]
    refine qh_yi W ht (by omega) (fun e => by omega) (fun hlt => ?_)
    rw [qh_yf (by omega), nI_clamp (by omega)]
    refine ⟨vp_in_nI (by omega) (by decide), vp_in_nI (by omega) (by decide), vp_in_nI w2 (by decide), fun y ey z ez => ?_⟩
    rw [nI_1] at ez
    subst ey ez
    exact ih (i + 1) (by omega) n (by omega)
theorem qy_spends {post : Int32 → Prop} {t : Nat} (W : qd_W D) (ht : t < 32) (hp : post (qc_sp D t)) : wpY_spends post (f_submitted, f_length, f_weight, f_pooledCount, f_tipBlock, (qa_i (qd_ic D)), (qa_i (fun k => qd_fr D k / 2)), (qa_i (fun k => qd_fr D k % 2)), (qd_wt D), (qa_i (qd_oc D)), (qd_am D), (qd_lk D), (qa_b (qd_se D)), a_state, (qa_i (qd_pa D)), a_work, (qa_i (qd_ct D)), (qa_i (qd_tx D)), a_order, a_path, a_listed, a_spent, a_heightOf, a_stack, a_pool, a_oldPool, a_oldPath) (nI t) := by
  unfold wpY_spends
  dsimp only
  rw [qa_20']
  intro x ex
  subst ex
  exact ⟨_, qy_spends_l W ht hp (qd_ic D t) 0 (by omega) _ (Nat.lt_succ_self _)⟩
theorem qy_gives_l {post : Int32 → Prop} {t : Nat} (W : qd_W D) (ht : t < 32) (hp : post (qc_gv D t)) : ∀ d i, i + d = qd_oc D t → ∀ n, d < n → wY_gives_6 post (nI t) f_submitted f_length f_weight f_pooledCount f_tipBlock (qa_i (qd_ic D)) (qa_i (fun k => qd_fr D k / 2)) (qa_i (fun k => qd_fr D k % 2)) (qd_wt D) (qa_i (qd_oc D)) (qd_am D) (qd_lk D) (qa_b (qd_se D)) a_state (qa_i (qd_pa D)) a_work (qa_i (qd_ct D)) (qa_i (qd_tx D)) a_order a_path a_listed a_spent a_heightOf a_stack a_pool a_oldPool a_oldPath n (qa_s (fun i => qd_am D (2 * t + i)) i) (nI (2 * t + i)) := by
  intro d
  induction d with
  | zero =>
    intro i hi n hn
    obtain ⟨n, rfl⟩ : ∃ q, n = q + 1 := ⟨n - 1, by omega⟩
    rw [wY_gives_6]
    refine qh_yo W ht (by omega) (fun e => ?_) (fun hlt => by omega)
    rw [e]; exact hp
  | succ d ih =>
    intro i hi n hn
    obtain ⟨n, rfl⟩ : ∃ q, n = q + 1 := ⟨n - 1, by omega⟩
    have w := W.2.2.1 t
    rw [wY_gives_6]
    refine qh_yo W ht (by omega) (fun e => by omega) (fun hlt => ?_)
    rw [nI_clamp (by omega)]
    refine ⟨vp_in_nI (by omega) (by decide), fun y ey z ez => ?_⟩
    rw [nI_1] at ez
    subst ey ez
    exact ih (i + 1) (by omega) n (by omega)
theorem qy_gives {post : Int32 → Prop} {t : Nat} (W : qd_W D) (ht : t < 32) (hp : post (qc_gv D t)) : wpY_gives post (f_submitted, f_length, f_weight, f_pooledCount, f_tipBlock, (qa_i (qd_ic D)), (qa_i (fun k => qd_fr D k / 2)), (qa_i (fun k => qd_fr D k % 2)), (qd_wt D), (qa_i (qd_oc D)), (qd_am D), (qd_lk D), (qa_b (qd_se D)), a_state, (qa_i (qd_pa D)), a_work, (qa_i (qd_ct D)), (qa_i (qd_tx D)), a_order, a_path, a_listed, a_spent, a_heightOf, a_stack, a_pool, a_oldPool, a_oldPath) (nI t) := by
  unfold wpY_gives
  dsimp only
  rw [qa_20']
  intro x ex
  subst ex
  exact ⟨_, qy_gives_l W ht hp (qd_oc D t) 0 (by omega) _ (Nat.lt_succ_self _)⟩
theorem qc_oks_f {a : Nat → Bool} {h t i n : Nat} (hi : i < n) (e : qc_ok D a h (2 * t + i) = false) : qc_oks D a h t n = false := by
  cases q : qc_oks D a h t n with
  | false => rfl
  | true => rw [qc_oks_iff.mp q i hi] at e; cases e
/-- heights that the reference has noted -/
def qy_H (D : qd_T) (c : qc_T) (hO : Nat → Int32) : Prop := (∀ b, c.1 (32 + b) = true → hO (32 + b) = nI (qd_ht D b)) ∧ (∀ t, c.1 t = true → c.2.2 t < 24 → hO t = nI (qd_ht D (c.2.2 t)))
theorem qy_fits_l {post : Int32 → SY → Prop} {t h : Nat} (W : qd_W D) (ht : t < 32) (hh : h < 1000) (HR : qy_H D c a_heightOf) (H : ∀ stk' : Nat → Int32, post (qa_B (qc_oks D (qc_un D c) h t (qd_ic D t) && decide (qc_gv D t ≤ qc_sp D t))) (f_submitted, f_length, f_weight, f_pooledCount, f_tipBlock, (qa_i (qd_ic D)), (qa_i (fun k => qd_fr D k / 2)), (qa_i (fun k => qd_fr D k % 2)), (qd_wt D), (qa_i (qd_oc D)), (qd_am D), (qd_lk D), (qa_b (qd_se D)), a_state, (qa_i (qd_pa D)), a_work, (qa_i (qd_ct D)), (qa_i (qd_tx D)), a_order, a_path, (qa_b c.1), (qa_b c.2.1), a_heightOf, stk', a_pool, a_oldPool, a_oldPath)) : ∀ d i stk, i + d = qd_ic D t → qc_oks D (qc_un D c) h t i = true → ∀ n, d < n → wY_fits_96 post (nI t) (nI h) n (nI (2 * t + i)) f_submitted f_length f_weight f_pooledCount f_tipBlock (qa_i (qd_ic D)) (qa_i (fun k => qd_fr D k / 2)) (qa_i (fun k => qd_fr D k % 2)) (qd_wt D) (qa_i (qd_oc D)) (qd_am D) (qd_lk D) (qa_b (qd_se D)) a_state (qa_i (qd_pa D)) a_work (qa_i (qd_ct D)) (qa_i (qd_tx D)) a_order a_path (qa_b c.1) (qa_b c.2.1) a_heightOf stk a_pool a_oldPool a_oldPath := by
  intro d
  induction d with
  | zero =>
    intro i stk hi ho n hn
    obtain ⟨n, rfl⟩ : ∃ q, n = q + 1 := ⟨n - 1, by omega⟩
    rw [wY_fits_96]
    refine qh_yi W ht (by omega) (fun e => ?_) (fun hlt => by omega)
    refine qy_spends W ht (qy_gives W ht ?_)
    have := H stk
    rw [← e, ho] at this
    refine br_c (fun q => ?_) (fun q => ?_)
    · rw [decide_eq_false (Int32.not_le.mpr q)] at this; exact this
    · rw [decide_eq_true (Int32.not_lt.mp q)] at this; exact this
  | succ d ih =>
    intro i stk hi ho n hn
    obtain ⟨n, rfl⟩ : ∃ q, n = q + 1 := ⟨n - 1, by omega⟩
    have w := W.1 t
    have w2 := W.2.2.2.1 (2 * t + i)
    have hw := W.2.2.2.2.2.2.2.2.2 (qd_fr D (2 * t + i) / 2 - 32)
    have F : qc_ok D (qc_un D c) h (2 * t + i) = false → ∀ stk' : Nat → Int32, post 0 (f_submitted, f_length, f_weight, f_pooledCount, f_tipBlock, (qa_i (qd_ic D)), (qa_i (fun k => qd_fr D k / 2)), (qa_i (fun k => qd_fr D k % 2)), (qd_wt D), (qa_i (qd_oc D)), (qd_am D), (qd_lk D), (qa_b (qd_se D)), a_state, (qa_i (qd_pa D)), a_work, (qa_i (qd_ct D)), (qa_i (qd_tx D)), a_order, a_path, (qa_b c.1), (qa_b c.2.1), a_heightOf, stk', a_pool, a_oldPool, a_oldPath) := by
      intro e s
      have := H s
      rw [qc_oks_f (i := i) (by omega) e] at this
      exact this
    rw [wY_fits_96]
    refine qh_yi W ht (by omega) (fun e => by omega) (fun hlt => ?_)
    rw [qa_at _ (show 2 * t + i < 2 ^ 31 by omega), qa_at _ (show 2 * t + i < 2 ^ 31 by omega)]
    refine ⟨vp_in_nI (by omega) (by decide), fun x4 e4 => ⟨vp_in_nI (by omega) (by decide), fun x5 e5 => ?_⟩⟩
    have e5' : x5 = nI (qd_fr D (2 * t + i)) := by rw [e5, e4, qa_2']; exact congrArg nI (by omega)
    clear e5
    subst e4 e5'
    have K : qc_un D c (qd_fr D (2 * t + i)) = true → (qd_fr D (2 * t + i) < 64 ∨ qd_ht D (qd_fr D (2 * t + i) / 2 - 32) + 2 ≤ h) → wY_fits_191 post (wY_fits_96 post (nI t) (nI h) n) (nI t) (nI h) (nI (2 * t + i)) (nI (qd_fr D (2 * t + i))) f_submitted f_length f_weight f_pooledCount f_tipBlock (qa_i (qd_ic D)) (qa_i (fun k => qd_fr D k / 2)) (qa_i (fun k => qd_fr D k % 2)) (qd_wt D) (qa_i (qd_oc D)) (qd_am D) (qd_lk D) (qa_b (qd_se D)) a_state (qa_i (qd_pa D)) a_work (qa_i (qd_ct D)) (qa_i (qd_tx D)) a_order a_path (qa_b c.1) (qa_b c.2.1) a_heightOf stk a_pool a_oldPool a_oldPath := by
      intro k1 k2
      have k2' : (decide (qd_fr D (2 * t + i) < 64) || decide (qd_ht D (qd_fr D (2 * t + i) / 2 - 32) + 2 ≤ h)) = true := by
        rw [Bool.or_eq_true, decide_eq_true_eq, decide_eq_true_eq]; exact k2
      unfold wY_fits_191
      rw [nI_clamp (by omega), nI_clamp (by omega)]
      refine ⟨vp_in_nI w2 (by decide), vp_in_nI (by omega) (by decide), qy_opens fun stk' => ?_⟩
      refine br_c (fun q => F ?_ _) (fun q => ?_)
      · unfold qc_ok; rw [k1, k2', qa_Bz.mp q]; rfl
      · rw [nI_1]
        intro y ey
        subst ey
        refine ih (i + 1) stk' (by omega) ?_ n (by omega)
        show (qc_oks D (qc_un D c) h t i && qc_ok D (qc_un D c) h (2 * t + i)) = true
        unfold qc_ok
        rw [ho, k1, k2', qa_Bn.mp q]; rfl
    have F2 : qc_un D c (qd_fr D (2 * t + i)) = false → ∀ stk' : Nat → Int32, post 0 (f_submitted, f_length, f_weight, f_pooledCount, f_tipBlock, (qa_i (qd_ic D)), (qa_i (fun k => qd_fr D k / 2)), (qa_i (fun k => qd_fr D k % 2)), (qd_wt D), (qa_i (qd_oc D)), (qd_am D), (qd_lk D), (qa_b (qd_se D)), a_state, (qa_i (qd_pa D)), a_work, (qa_i (qd_ct D)), (qa_i (qd_tx D)), a_order, a_path, (qa_b c.1), (qa_b c.2.1), a_heightOf, stk', a_pool, a_oldPool, a_oldPath) := fun e => F (by unfold qc_ok; rw [e]; rfl)
    have F3 : qc_un D c (qd_fr D (2 * t + i)) = true → 32 ≤ qd_fr D (2 * t + i) / 2 → ¬ qd_ht D (qd_fr D (2 * t + i) / 2 - 32) + 2 ≤ h → ∀ stk' : Nat → Int32, post 0 (f_submitted, f_length, f_weight, f_pooledCount, f_tipBlock, (qa_i (qd_ic D)), (qa_i (fun k => qd_fr D k / 2)), (qa_i (fun k => qd_fr D k % 2)), (qd_wt D), (qa_i (qd_oc D)), (qd_am D), (qd_lk D), (qa_b (qd_se D)), a_state, (qa_i (qd_pa D)), a_work, (qa_i (qd_ct D)), (qa_i (qd_tx D)), a_order, a_path, (qa_b c.1), (qa_b c.2.1), a_heightOf, stk', a_pool, a_oldPool, a_oldPath) := fun _ e1 e2 => F (by unfold qc_ok; rw [decide_eq_false (show ¬ qd_fr D (2 * t + i) < 64 by omega), decide_eq_false e2]; simp)
    clear H ih F
    generalize qd_fr D (2 * t + i) = o at *
    have o2 : o / 2 < 56 := by omega
    rw [qa_bt _ (show o / 2 < 2 ^ 31 by omega), qa_at _ (show o / 2 < 2 ^ 31 by omega), qa_bt _ (show o < 2 ^ 31 by omega), nI_clamp (show o / 2 < 2 ^ 31 by omega)]
    have w3 := W.2.2.1 (o / 2)
    refine ⟨vp_in_nI o2 (by decide), br_c (fun q => F2 (by unfold qc_un; rw [qa_Bz.mp q]; rfl) _) (fun q1 => ⟨vp_in_nI (by omega) (by decide), vp_in_nI o2 (by decide), br_c (fun q => F2 ?_ _) (fun q2 => ⟨vp_in_nI w2 (by decide), br_c (fun q3 => ?_) (fun q => F2 ?_ _)⟩)⟩)⟩
    · rw [nI_leI (by omega) (by omega)] at q
      unfold qc_un; rw [decide_eq_false (show ¬ o % 2 < qd_oc D (o / 2) by omega)]; simp
    · rw [nI_leI (by omega) (by omega)] at q2
      have u : qc_un D c o = true := qc_un_iff.mpr ⟨qa_Bn.mp q1, by omega, qa_Bz.mp q3⟩
      refine br_c (fun q => K u (Or.inl ?_)) (fun q => ⟨vp_in_nI o2 (by decide), ?_⟩)
      · have := (nI_ltI (a := o / 2) (b := 32) (by omega) (by decide)).mp q; omega
      · have q' : ¬ o / 2 < 32 := fun z => q ((nI_ltI (a := o / 2) (b := 32) (by omega) (by decide)).mpr z)
        have e := HR.1 (o / 2 - 32) (by rw [show 32 + (o / 2 - 32) = o / 2 by omega]; exact qa_Bn.mp q1)
        rw [show 32 + (o / 2 - 32) = o / 2 by omega] at e
        rw [e]
        have e2 : nI (qd_ht D (o / 2 - 32)) + 2 = nI (qd_ht D (o / 2 - 32) + 2) := nI_add _ 2
        rw [e2, nI_leI (by omega) (by omega)]
        refine br_c (fun z => K u (Or.inr z)) (fun z => ?_)
        exact F3 u (by omega) z _
    · unfold qc_un; rw [qa_Bn.mp q]; simp
theorem qy_fits {post : Int32 → SY → Prop} {t h : Nat} (W : qd_W D) (ht : t < 32) (hh : h < 1000) (HR : qy_H D c a_heightOf) (H : ∀ stk' : Nat → Int32, post (qa_B (qc_fit D c t h)) (f_submitted, f_length, f_weight, f_pooledCount, f_tipBlock, (qa_i (qd_ic D)), (qa_i (fun k => qd_fr D k / 2)), (qa_i (fun k => qd_fr D k % 2)), (qd_wt D), (qa_i (qd_oc D)), (qd_am D), (qd_lk D), (qa_b (qd_se D)), a_state, (qa_i (qd_pa D)), a_work, (qa_i (qd_ct D)), (qa_i (qd_tx D)), a_order, a_path, (qa_b c.1), (qa_b c.2.1), a_heightOf, stk', a_pool, a_oldPool, a_oldPath)) : wpY_fits post (f_submitted, f_length, f_weight, f_pooledCount, f_tipBlock, (qa_i (qd_ic D)), (qa_i (fun k => qd_fr D k / 2)), (qa_i (fun k => qd_fr D k % 2)), (qd_wt D), (qa_i (qd_oc D)), (qd_am D), (qd_lk D), (qa_b (qd_se D)), a_state, (qa_i (qd_pa D)), a_work, (qa_i (qd_ct D)), (qa_i (qd_tx D)), a_order, a_path, (qa_b c.1), (qa_b c.2.1), a_heightOf, a_stack, a_pool, a_oldPool, a_oldPath) (nI t) (nI h) := by
  have F : qc_fit D c t h = false → post 0 (f_submitted, f_length, f_weight, f_pooledCount, f_tipBlock, (qa_i (qd_ic D)), (qa_i (fun k => qd_fr D k / 2)), (qa_i (fun k => qd_fr D k % 2)), (qd_wt D), (qa_i (qd_oc D)), (qd_am D), (qd_lk D), (qa_b (qd_se D)), a_state, (qa_i (qd_pa D)), a_work, (qa_i (qd_ct D)), (qa_i (qd_tx D)), a_order, a_path, (qa_b c.1), (qa_b c.2.1), a_heightOf, a_stack, a_pool, a_oldPool, a_oldPath) := by
    intro e
    have := H a_stack
    rw [e] at this
    exact this
  have w := W.1 t
  have wo := W.2.2.1 t
  have a1 := W.2.2.2.1 (2 * t)
  have a2 := W.2.2.2.1 (2 * t + 1)
  unfold wpY_fits
  dsimp only
  have i1 : 2 * nI t + 1 = nI (2 * t + 1) := qa_2' t 1
  rw [qa_bt _ (show t < 2 ^ 31 by omega), qa_at _ (show t < 2 ^ 31 by omega), qa_at _ (show t < 2 ^ 31 by omega), qa_bt _ (show t < 2 ^ 31 by omega), i1, qa_20', qa_at _ (show 2 * t < 2 ^ 31 by omega), qa_at _ (show 2 * t + 1 < 2 ^ 31 by omega), qa_at _ (show 2 * t < 2 ^ 31 by omega), qa_at _ (show 2 * t + 1 < 2 ^ 31 by omega)]
  refine ⟨vp_in_nI ht (by decide), br_c (fun q => F ?_) (fun q1 => ⟨vp_in_nI ht (by decide), br_c (fun q => F ?_) (fun q2 => ⟨vp_in_nI (by omega) (by decide), br_c (fun q => F ?_) (fun q3 => ⟨vp_in_nI (by omega) (by decide), br_c (fun q4 => ⟨vp_in_nI ht (by decide), ?_⟩) (fun q => F ?_)⟩)⟩)⟩)⟩
  · unfold qc_fit qc_gf; rw [qa_Bz.mp q]; simp
  · rw [← nI_0, nI_eq (by omega) (by decide)] at q
    unfold qc_fit qc_gf; rw [q]; simp
  · rw [← nI_0, nI_eq (by omega) (by decide)] at q
    unfold qc_fit qc_gf; rw [q]; simp
  · rw [← nI_0, nI_eq (by omega) (by decide)] at q2 q3
    have G : qc_du D t = false → ∀ x3 : Int32, x3 = nI (2 * t) → ∃ n96 : Nat, wY_fits_96 post (nI t) (nI h) n96 x3 f_submitted f_length f_weight f_pooledCount f_tipBlock (qa_i (qd_ic D)) (qa_i (fun k => qd_fr D k / 2)) (qa_i (fun k => qd_fr D k % 2)) (qd_wt D) (qa_i (qd_oc D)) (qd_am D) (qd_lk D) (qa_b (qd_se D)) a_state (qa_i (qd_pa D)) a_work (qa_i (qd_ct D)) (qa_i (qd_tx D)) a_order a_path (qa_b c.1) (qa_b c.2.1) a_heightOf a_stack a_pool a_oldPool a_oldPath := by
      intro du x3 e3
      subst e3
      refine ⟨_, qy_fits_l W ht hh HR ?_ (qd_ic D t) 0 a_stack (by omega) rfl _ (Nat.lt_succ_self _)⟩
      intro s
      have := H s
      have e : qc_fit D c t h = (qc_oks D (qc_un D c) h t (qd_ic D t) && decide (qc_gv D t ≤ qc_sp D t)) := by
        unfold qc_fit qc_gf
        rw [qa_Bz.mp q4, qa_Bn.mp q1, decide_eq_false q2, decide_eq_false q3, du]
        rfl
      rw [e] at this
      exact this
    have e2 : nI (qd_ic D t) = 2 ↔ qd_ic D t = 2 := nI_eq (b := 2) (by omega) (by decide)
    refine br_c (fun q => ⟨vp_in_nI (by omega) (by decide), vp_in_nI (by omega) (by decide), ?_⟩) (fun q => G ?_)
    · refine br_c (fun p1 => ⟨vp_in_nI (by omega) (by decide), vp_in_nI (by omega) (by decide), br_c (fun p2 => F ?_) (fun p2 => G ?_)⟩) (fun p1 => G ?_)
      · rw [nI_eq (by omega) (by omega)] at p1 p2
        have : qc_du D t = true := by
          unfold qc_du
          rw [decide_eq_true (e2.mp q), decide_eq_true (show qd_fr D (2 * t) = qd_fr D (2 * t + 1) by omega)]
          rfl
        unfold qc_fit qc_gf; rw [this]; simp
      · rw [nI_eq (by omega) (by omega)] at p2
        unfold qc_du
        rw [decide_eq_false (show ¬ qd_fr D (2 * t) = qd_fr D (2 * t + 1) by omega)]; simp
      · rw [nI_eq (by omega) (by omega)] at p1
        unfold qc_du
        rw [decide_eq_false (show ¬ qd_fr D (2 * t) = qd_fr D (2 * t + 1) by omega)]; simp
    · unfold qc_du
      rw [decide_eq_false (fun z => q (e2.mpr z))]; simp
  · unfold qc_fit; rw [qa_Bn.mp q]; simp
end
end
section
/-! Y: list, replayBlock, replay -/
section
variable {f_submitted f_length f_weight f_pooledCount f_tipBlock : Int32} {a_inputs a_inFrom a_inPlace a_witness a_outputs a_amount a_lock a_sealed a_state a_parent a_work a_count a_tx a_order a_path a_listed a_spent a_heightOf a_stack a_pool a_oldPool a_oldPath : Nat → Int32}
variable {D : qd_T} {c : qc_T}
theorem qc_n_s {S : Nat → Bool} {g : Nat → Nat} {i : Nat} : qa_v (fun o => S o || qc_n g i o) (g i) true = (fun o => S o || qc_n g (i + 1) o) := by
  funext o
  by_cases z : o = g i
  · subst z
    rw [qa_vs]
    show true = (S (g i) || (qc_n g i (g i) || decide (g i = g i)))
    rw [decide_eq_true rfl]; simp
  · rw [qa_vn z]
    show (S o || qc_n g i o) = (S o || (qc_n g i o || decide (g i = o)))
    rw [decide_eq_false (fun e => z e.symm)]; simp
theorem qy_list_l {post : SY → Prop} {t b : Nat} {hO lis : Nat → Int32} (W : qd_W D) (ht : t < 32) (K : post (f_submitted, f_length, f_weight, f_pooledCount, f_tipBlock, (qa_i (qd_ic D)), (qa_i (fun k => qd_fr D k / 2)), (qa_i (fun k => qd_fr D k % 2)), (qd_wt D), (qa_i (qd_oc D)), (qd_am D), (qd_lk D), (qa_b (qd_se D)), a_state, (qa_i (qd_pa D)), a_work, (qa_i (qd_ct D)), (qa_i (qd_tx D)), a_order, a_path, lis, (qa_b (qc_l D c t b).2.1), hO, a_stack, a_pool, a_oldPool, a_oldPath)) : ∀ d i, i + d = qd_ic D t → ∀ n, d < n → wY_list_18 post (nI t) f_submitted f_length f_weight f_pooledCount f_tipBlock n (nI (2 * t + i)) (qa_i (qd_ic D)) (qa_i (fun k => qd_fr D k / 2)) (qa_i (fun k => qd_fr D k % 2)) (qd_wt D) (qa_i (qd_oc D)) (qd_am D) (qd_lk D) (qa_b (qd_se D)) a_state (qa_i (qd_pa D)) a_work (qa_i (qd_ct D)) (qa_i (qd_tx D)) a_order a_path lis (qa_b (fun o => c.2.1 o || qc_n (fun i => qd_fr D (2 * t + i)) i o)) hO a_stack a_pool a_oldPool a_oldPath := by
  intro d
  induction d with
  | zero =>
    intro i hi n hn
    obtain ⟨n, rfl⟩ : ∃ q, n = q + 1 := ⟨n - 1, by omega⟩
    rw [wY_list_18]
    refine br_f (nI_ge (b := 32) ht (by decide)) (qh_yi W ht (by omega) (fun e => ?_) (fun hlt => by omega))
    rw [e]; exact K
  | succ d ih =>
    intro i hi n hn
    obtain ⟨n, rfl⟩ : ∃ q, n = q + 1 := ⟨n - 1, by omega⟩
    have w := W.1 t
    have w2 := W.2.2.2.1 (2 * t + i)
    rw [wY_list_18]
    refine br_f (nI_ge (b := 32) ht (by decide)) (qh_yi W ht (by omega) (fun e => by omega) (fun hlt => ?_))
    rw [qh_yf (by omega), nI_clamp (by omega), qa_bo1, qa_bu, qc_n_s (g := fun i => qd_fr D (2 * t + i)), nI_1]
    refine ⟨vp_in_nI (by omega) (by decide), vp_in_nI (by omega) (by decide), vp_in_nI w2 (by decide), fun y ey z ez => ?_⟩
    subst ey ez
    exact ih (i + 1) (by omega) n (by omega)
theorem qy_list {post : SY → Prop} {t b : Nat} {x : Int32} (W : qd_W D) (ht : t < 56) (K : post (f_submitted, f_length, f_weight, f_pooledCount, f_tipBlock, (qa_i (qd_ic D)), (qa_i (fun k => qd_fr D k / 2)), (qa_i (fun k => qd_fr D k % 2)), (qd_wt D), (qa_i (qd_oc D)), (qd_am D), (qd_lk D), (qa_b (qd_se D)), a_state, (qa_i (qd_pa D)), a_work, (qa_i (qd_ct D)), (qa_i (qd_tx D)), a_order, a_path, (qa_b (qc_l D c t b).1), (qa_b (qc_l D c t b).2.1), (upd a_heightOf t x), a_stack, a_pool, a_oldPool, a_oldPath)) : wpY_list post (f_submitted, f_length, f_weight, f_pooledCount, f_tipBlock, (qa_i (qd_ic D)), (qa_i (fun k => qd_fr D k / 2)), (qa_i (fun k => qd_fr D k % 2)), (qd_wt D), (qa_i (qd_oc D)), (qd_am D), (qd_lk D), (qa_b (qd_se D)), a_state, (qa_i (qd_pa D)), a_work, (qa_i (qd_ct D)), (qa_i (qd_tx D)), a_order, a_path, (qa_b c.1), (qa_b c.2.1), a_heightOf, a_stack, a_pool, a_oldPool, a_oldPath) (nI t) x := by
  unfold wpY_list
  dsimp only
  rw [nI_clamp (by omega), qa_bo1, qa_bu, qa_20']
  refine ⟨vp_in_nI ht (by decide), fun l el => ⟨vp_in_nI ht (by decide), fun hO eh x3 e3 => ?_⟩⟩
  subst el eh e3
  by_cases z : t < 32
  · have e0 : c.2.1 = (fun o => c.2.1 o || qc_n (fun i => qd_fr D (2 * t + i)) 0 o) := by funext o; simp [qc_n]
    refine ⟨qd_ic D t + 1, ?_⟩
    have := qy_list_l (post := post) (c := c) (b := b) (lis := qa_b (qa_v c.1 t true)) (hO := upd a_heightOf t x) W z K (qd_ic D t) 0 (by omega) (qd_ic D t + 1) (Nat.lt_succ_self _)
    rw [← e0] at this
    exact this
  · refine ⟨1, ?_⟩
    rw [wY_list_18]
    refine br_t (nI_le (a := 32) (by omega) (by omega)) ?_
    have e0 : c.2.1 = (qc_l D c t b).2.1 := by
      funext o
      show c.2.1 o = (c.2.1 o || qc_n (fun i => qd_fr D (2 * t + i)) (qd_ic D t) o)
      rw [W.2.1 t (by omega)]; simp [qc_n]
    rw [← e0] at K
    exact K
theorem qy_H_l {hO : Nat → Int32} {t b h : Nat} (H : qy_H D c hO) (ht : t < 32) (hb : b < 24 → h = qd_ht D b) : qy_H D (qc_l D c t b) (upd hO t (nI h)) := by
  refine ⟨fun b' e => ?_, fun s e k => ?_⟩
  · have : (qc_l D c t b).1 (32 + b') = c.1 (32 + b') := qa_vn (by omega)
    rw [this] at e
    rw [pk_un (by omega)]
    exact H.1 b' e
  · by_cases z : s = t
    · subst z
      have u : (qc_l D c s b).2.2 s = b := qa_us
      rw [u] at k ⊢
      rw [pk_us, hb k]
    · have u : (qc_l D c t b).2.2 s = c.2.2 s := qa_un z
      have v : (qc_l D c t b).1 s = c.1 s := qa_vn z
      rw [u] at k ⊢
      rw [v] at e
      rw [pk_un z]
      exact H.2 s e k
theorem qy_H_b {hO : Nat → Int32} {b : Nat} (H : qy_H D c hO) : qy_H D (qc_l D c (32 + b) b) (upd hO (32 + b) (nI (qd_ht D b))) := by
  refine ⟨fun b' e => ?_, fun s e k => ?_⟩
  · by_cases z : b' = b
    · subst z; rw [pk_us]
    · have : (qc_l D c (32 + b) b).1 (32 + b') = c.1 (32 + b') := qa_vn (by omega)
      rw [this] at e
      rw [pk_un (by omega)]
      exact H.1 b' e
  · by_cases z : s = 32 + b
    · subst z
      have u : (qc_l D c (32 + b) b).2.2 (32 + b) = b := qa_us
      rw [u, pk_us]
    · have u : (qc_l D c (32 + b) b).2.2 s = c.2.2 s := qa_un z
      have v : (qc_l D c (32 + b) b).1 s = c.1 s := qa_vn z
      rw [u] at k ⊢
      rw [v] at e
      rw [pk_un z]
      exact H.2 s e k
/-- nothing is noted beyond the arrays' ends -/
def qy_T (lis spe : Nat → Bool) : Prop := (∀ k, 56 ≤ k → lis k = false) ∧ (∀ k, 112 ≤ k → spe k = false)
theorem qy_T_I {G : Nat → Prop} (V : qd_G D G) (I : qc_I D G c) : qy_T c.1 c.2.1 := by
  have a : ∀ k, 56 ≤ k → c.1 k = false := by
    intro k hk
    cases q : c.1 k with
    | false => rfl
    | true =>
      rcases I.1 k q with ⟨x, _⟩ | ⟨x, y⟩
      · omega
      · have := V.1 _ y; omega
  refine ⟨a, fun k hk => ?_⟩
  cases q : c.2.1 k with
  | false => rfl
  | true => have := I.2 k q; rw [a (k / 2) (by omega)] at this; cases this
theorem qy_rb_l {G : Nat → Prop} {post : Int32 → SY → Prop} {b : Nat} (W : qd_W D) (V : qd_G D G) (hb : b < 24) (I : qc_I D G c) (B : qu_U D (qc_un D c) ≤ 2000)
    (K1 : ∀ (c' : qc_T) (hO stk : Nat → Int32), qc_bl D c b = some c' → qy_H D c' hO → post 1 (f_submitted, f_length, f_weight, f_pooledCount, f_tipBlock, (qa_i (qd_ic D)), (qa_i (fun k => qd_fr D k / 2)), (qa_i (fun k => qd_fr D k % 2)), (qd_wt D), (qa_i (qd_oc D)), (qd_am D), (qd_lk D), (qa_b (qd_se D)), a_state, (qa_i (qd_pa D)), a_work, (qa_i (qd_ct D)), (qa_i (qd_tx D)), a_order, a_path, (qa_b c'.1), (qa_b c'.2.1), hO, stk, a_pool, a_oldPool, a_oldPath))
    (K2 : qc_bl D c b = none → ∀ (lis spe : Nat → Bool) (hO stk : Nat → Int32), qy_T lis spe → post 0 (f_submitted, f_length, f_weight, f_pooledCount, f_tipBlock, (qa_i (qd_ic D)), (qa_i (fun k => qd_fr D k / 2)), (qa_i (fun k => qd_fr D k % 2)), (qd_wt D), (qa_i (qd_oc D)), (qd_am D), (qd_lk D), (qa_b (qd_se D)), a_state, (qa_i (qd_pa D)), a_work, (qa_i (qd_ct D)), (qa_i (qd_tx D)), a_order, a_path, (qa_b lis), (qa_b spe), hO, stk, a_pool, a_oldPool, a_oldPath)) :
    ∀ d i (c1 : qc_T) (hO stk : Nat → Int32), i + d = qd_ct D b → qc_r D (qc_g D b) (qd_ht D b) b c i = some c1 → qy_H D c1 hO → ∀ n, d < n → wY_replayBlock_8 post (nI b) (nI (qd_ht D b)) n (50 + qc_fe D (qc_g D b) i) (nI (3 * b + i)) f_submitted f_length f_weight f_pooledCount f_tipBlock (qa_i (qd_ic D)) (qa_i (fun k => qd_fr D k / 2)) (qa_i (fun k => qd_fr D k % 2)) (qd_wt D) (qa_i (qd_oc D)) (qd_am D) (qd_lk D) (qa_b (qd_se D)) a_state (qa_i (qd_pa D)) a_work (qa_i (qd_ct D)) (qa_i (qd_tx D)) a_order a_path (qa_b c1.1) (qa_b c1.2.1) hO stk a_pool a_oldPool a_oldPath := by
  have hw := W.2.2.2.2.2.2.2.2.2 b
  have hc := W.2.2.2.2.2.2.1 b
  intro d
  induction d with
  | zero =>
    intro i c1 hO stk hi e H n hn
    obtain ⟨n, rfl⟩ : ∃ q, n = q + 1 := ⟨n - 1, by omega⟩
    have hi' : i = qd_ct D b := by omega
    subst hi'
    rw [wY_replayBlock_8]
    refine qh_yt W hb (by omega) (fun _ => ?_) (fun hlt => by omega)
    rw [qa_64', nI_clamp (by omega)]
    refine ⟨vp_in_nI (by omega) (by decide), br_c (fun q => ?_) (fun q => ?_)⟩
    · rw [qa_32]
      refine qy_list (b := b) W (by omega) ?_
      exact K1 _ _ stk (qc_bl_s e q) (qy_H_b H)
    · exact K2 (qc_bl_f e q) _ _ _ _ (qy_T_I V (qu_r W I B (fun i _ => qc_g_lt W) e).1)
  | succ d ih =>
    intro i c1 hO stk hi e H n hn
    obtain ⟨n, rfl⟩ : ∃ q, n = q + 1 := ⟨n - 1, by omega⟩
    have ht : qd_tx D (3 * b + i) < 32 := W.2.2.2.2.2.2.2.1 _
    have I1 := (qu_r W I B (fun i _ => qc_g_lt W) e).1
    rw [wY_replayBlock_8]
    refine qh_yt W hb (by omega) (fun _ => by omega) (fun hlt => ?_)
    rw [qa_at _ (show 3 * b + i < 2 ^ 31 by omega), nI_1]
    refine ⟨vp_in_nI (by omega) (by decide), fun x5 e5 => ?_⟩
    subst e5
    refine qy_fits W ht (by omega) H (fun stk' => ?_)
    refine br_c (fun q => ?_) (fun q => ?_)
    · have f : qc_fit D c1 (qc_g D b i) (qd_ht D b) = false := qa_Bz.mp q
      have n0 := qc_r_none (qc_r_f e f) d
      rw [show i + 1 + d = qd_ct D b by omega] at n0
      exact K2 (qc_bl_n n0) _ _ _ _ (qy_T_I V I1)
    · have f : qc_fit D c1 (qc_g D b i) (qd_ht D b) = true := qa_Bn.mp q
      refine qy_spends W ht (qy_gives W ht ?_)
      intro y ey
      have ey' : y = 50 + qc_fe D (qc_g D b) (i + 1) := by rw [ey, Int32.add_assoc]; rfl
      subst ey'
      refine qy_list (b := b) W (by omega) ?_
      intro z ez
      subst ez
      exact ih (i + 1) (qc_l D c1 (qc_g D b i) b) _ stk' (by omega) (qc_r_s e f) (qy_H_l H ht (fun _ => rfl)) n (by omega)
theorem qy_rb {G : Nat → Prop} {post : Int32 → SY → Prop} {b h : Nat} (eh : h = qd_ht D b) (W : qd_W D) (V : qd_G D G) (hb : b < 24) (I : qc_I D G c) (B : qu_U D (qc_un D c) ≤ 2000) (H : qy_H D c a_heightOf)
    (K1 : ∀ (c' : qc_T) (hO stk : Nat → Int32), qc_bl D c b = some c' → qy_H D c' hO → post 1 (f_submitted, f_length, f_weight, f_pooledCount, f_tipBlock, (qa_i (qd_ic D)), (qa_i (fun k => qd_fr D k / 2)), (qa_i (fun k => qd_fr D k % 2)), (qd_wt D), (qa_i (qd_oc D)), (qd_am D), (qd_lk D), (qa_b (qd_se D)), a_state, (qa_i (qd_pa D)), a_work, (qa_i (qd_ct D)), (qa_i (qd_tx D)), a_order, a_path, (qa_b c'.1), (qa_b c'.2.1), hO, stk, a_pool, a_oldPool, a_oldPath))
    (K2 : qc_bl D c b = none → ∀ (lis spe : Nat → Bool) (hO stk : Nat → Int32), qy_T lis spe → post 0 (f_submitted, f_length, f_weight, f_pooledCount, f_tipBlock, (qa_i (qd_ic D)), (qa_i (fun k => qd_fr D k / 2)), (qa_i (fun k => qd_fr D k % 2)), (qd_wt D), (qa_i (qd_oc D)), (qd_am D), (qd_lk D), (qa_b (qd_se D)), a_state, (qa_i (qd_pa D)), a_work, (qa_i (qd_ct D)), (qa_i (qd_tx D)), a_order, a_path, (qa_b lis), (qa_b spe), hO, stk, a_pool, a_oldPool, a_oldPath)) : wpY_replayBlock post (f_submitted, f_length, f_weight, f_pooledCount, f_tipBlock, (qa_i (qd_ic D)), (qa_i (fun k => qd_fr D k / 2)), (qa_i (fun k => qd_fr D k % 2)), (qd_wt D), (qa_i (qd_oc D)), (qd_am D), (qd_lk D), (qa_b (qd_se D)), a_state, (qa_i (qd_pa D)), a_work, (qa_i (qd_ct D)), (qa_i (qd_tx D)), a_order, a_path, (qa_b c.1), (qa_b c.2.1), a_heightOf, a_stack, a_pool, a_oldPool, a_oldPath) (nI b) (nI h) := by
  subst eh
  unfold wpY_replayBlock
  dsimp only
  rw [qa_30']
  intro x ex
  subst ex
  refine ⟨qd_ct D b + 1, ?_⟩
  have := qy_rb_l W V hb I B K1 K2 (qd_ct D b) 0 c a_heightOf a_stack (by omega) rfl H (qd_ct D b + 1) (Nat.lt_succ_self _)
  have e : (50 : Int32) + qc_fe D (qc_g D b) 0 = 50 := Int32.add_zero _
  rw [e] at this
  exact this
/-- the chain down from a block -/
def qp_a (pa : Nat → Nat) : Nat → Nat → Nat
  | 0, b => b
  | k + 1, b => pa (qp_a pa k b)
theorem qp_s {G : Nat → Prop} (V : qd_G D G) {b : Nat} (hb : G b) : ∀ k, k ≤ qd_ht D b → G (qp_a (qd_pa D) k b) ∧ qd_ht D (qp_a (qd_pa D) k b) + k = qd_ht D b
  | 0, _ => ⟨hb, rfl⟩
  | k + 1, hk => by
    obtain ⟨x, y⟩ := qp_s V hb k (by omega)
    have z : qp_a (qd_pa D) k b ≠ 0 := fun e => by rw [e, V.2.2.1.2] at y; omega
    obtain ⟨p, q⟩ := V.2.1 _ x z
    exact ⟨p, by show qd_ht D (qd_pa D (qp_a (qd_pa D) k b)) + (k + 1) = _; omega⟩
theorem qp_0 {G : Nat → Prop} (V : qd_G D G) {b : Nat} (hb : G b) (h : qd_ht D b = 0) : b = 0 := by
  by_cases z : b = 0
  · exact z
  · have := (V.2.1 b hb z).2; omega
/-- the block of the chain at a height -/
def qp_p (D : qd_T) (b i : Nat) : Nat := qp_a (qd_pa D) (qd_ht D b - i) b
theorem qp_p_pa {b i : Nat} (h : i < qd_ht D b) : qd_pa D (qp_p D b (i + 1)) = qp_p D b i := by
  unfold qp_p
  rw [show qd_ht D b - i = (qd_ht D b - (i + 1)) + 1 by omega]
  rfl
theorem qp_p_top {b : Nat} : qp_p D b (qd_ht D b) = b := by unfold qp_p; rw [Nat.sub_self]; rfl
theorem qp_p_G {G : Nat → Prop} (V : qd_G D G) {b i : Nat} (hb : G b) (hi : i ≤ qd_ht D b) : G (qp_p D b i) ∧ qd_ht D (qp_p D b i) = i := by
  obtain ⟨x, y⟩ := qp_s V hb (qd_ht D b - i) (by omega)
  exact ⟨x, by unfold qp_p; omega⟩
theorem qp_p_0 {G : Nat → Prop} (V : qd_G D G) {b : Nat} (hb : G b) : qp_p D b 0 = 0 := by
  obtain ⟨x, y⟩ := qp_p_G V hb (Nat.zero_le _)
  exact qp_0 V x y
/-- the state after i blocks of the chain -/
def qp_q (D : qd_T) (b : Nat) : Nat → Option qc_T
  | 0 => some qc_e
  | i + 1 => qc_rp D i (qp_p D b i)
theorem qp_q_s {b i : Nat} {c : qc_T} (hi : i ≤ qd_ht D b) (e : qp_q D b i = some c) : qp_q D b (i + 1) = qc_bl D c (qp_p D b i) := by
  cases i with
  | zero => cases e; rfl
  | succ i =>
    have e' : qc_rp D i (qp_p D b i) = some c := e
    rw [← qp_p_pa (by omega)] at e'
    exact qc_rp_s e'
theorem qp_q_n {b i : Nat} (e : qp_q D b i = none) : ∀ d, i + d ≤ qd_ht D b + 1 → qp_q D b (i + d) = none
  | 0, _ => e
  | d + 1, h => by
    have ih := qp_q_n e d (by omega)
    obtain ⟨k, hk⟩ : ∃ k, i + d = k + 1 := by
      cases q : i + d with
      | zero => rw [q] at ih; cases ih
      | succ k => exact ⟨k, rfl⟩
    rw [hk] at ih
    rw [show i + (d + 1) = k + 1 + 1 by omega]
    have e' : qc_rp D k (qp_p D b k) = none := ih
    rw [← qp_p_pa (by omega)] at e'
    exact qc_rp_n e'
theorem qp_q_I {G : Nat → Prop} (W : qd_W D) (V : qd_G D G) {b i : Nat} (hb : G b) (hi : i ≤ qd_ht D b + 1) (e : qp_q D b i = some c) : qc_I D G c ∧ qu_U D (qc_un D c) ≤ 2000 := by
  cases i with
  | zero => cases e; exact ⟨qc_I_e D G, by rw [qu_e]; decide⟩
  | succ i =>
    obtain ⟨x, y⟩ := qp_p_G V hb (show i ≤ qd_ht D b by omega)
    obtain ⟨p, _, q⟩ := qc_main W V i _ x y c e
    have := W.2.2.2.2.2.2.2.2.2 b
    exact ⟨p, by omega⟩
theorem qy_rep_l {G : Nat → Prop} {post : Int32 → SY → Prop} {b : Nat} (W : qd_W D) (V : qd_G D G) (hb : G b) (P : ∀ i, i ≤ qd_ht D b → a_path i = nI (qp_p D b i))
    (K1 : ∀ (c' : qc_T) (hO stk : Nat → Int32), qc_R D b = some c' → qy_H D c' hO → post 1 (f_submitted, nI (qd_ht D b + 1), f_weight, f_pooledCount, f_tipBlock, (qa_i (qd_ic D)), (qa_i (fun k => qd_fr D k / 2)), (qa_i (fun k => qd_fr D k % 2)), (qd_wt D), (qa_i (qd_oc D)), (qd_am D), (qd_lk D), (qa_b (qd_se D)), a_state, (qa_i (qd_pa D)), a_work, (qa_i (qd_ct D)), (qa_i (qd_tx D)), a_order, a_path, (qa_b c'.1), (qa_b c'.2.1), hO, stk, a_pool, a_oldPool, a_oldPath))
    (K2 : qc_R D b = none → ∀ (lis spe : Nat → Bool) (hO stk : Nat → Int32), qy_T lis spe → post 0 (f_submitted, nI (qd_ht D b + 1), f_weight, f_pooledCount, f_tipBlock, (qa_i (qd_ic D)), (qa_i (fun k => qd_fr D k / 2)), (qa_i (fun k => qd_fr D k % 2)), (qd_wt D), (qa_i (qd_oc D)), (qd_am D), (qd_lk D), (qa_b (qd_se D)), a_state, (qa_i (qd_pa D)), a_work, (qa_i (qd_ct D)), (qa_i (qd_tx D)), a_order, a_path, (qa_b lis), (qa_b spe), hO, stk, a_pool, a_oldPool, a_oldPath)) :
    ∀ d i (c1 : qc_T) (hO stk : Nat → Int32), i + d = qd_ht D b + 1 → qp_q D b i = some c1 → qy_H D c1 hO → ∀ n, d < n → wY_replay_44 post n (nI i) f_submitted (nI (qd_ht D b + 1)) f_weight f_pooledCount f_tipBlock (qa_i (qd_ic D)) (qa_i (fun k => qd_fr D k / 2)) (qa_i (fun k => qd_fr D k % 2)) (qd_wt D) (qa_i (qd_oc D)) (qd_am D) (qd_lk D) (qa_b (qd_se D)) a_state (qa_i (qd_pa D)) a_work (qa_i (qd_ct D)) (qa_i (qd_tx D)) a_order a_path (qa_b c1.1) (qa_b c1.2.1) hO stk a_pool a_oldPool a_oldPath := by
  have hw := W.2.2.2.2.2.2.2.2.2 b
  have eR : qp_q D b (qd_ht D b + 1) = qc_R D b := by show qc_rp D (qd_ht D b) (qp_p D b (qd_ht D b)) = _; rw [qp_p_top]; rfl
  intro d
  induction d with
  | zero =>
    intro i c1 hO stk hi e H n hn
    obtain ⟨n, rfl⟩ : ∃ q, n = q + 1 := ⟨n - 1, by omega⟩
    have hi' : i = qd_ht D b + 1 := by omega
    subst hi'
    rw [wY_replay_44]
    exact br_t (nI_le (by omega) (by omega)) (K1 c1 hO stk (eR.symm.trans e) H)
  | succ d ih =>
    intro i c1 hO stk hi e H n hn
    obtain ⟨n, rfl⟩ : ∃ q, n = q + 1 := ⟨n - 1, by omega⟩
    obtain ⟨I, B⟩ := qp_q_I W V hb (by omega) e
    obtain ⟨g1, g2⟩ := qp_p_G V hb (show i ≤ qd_ht D b by omega)
    rw [wY_replay_44]
    refine br_f (nI_ge (by omega) (by omega)) ?_
    rw [nI_clamp (by omega), P i (by omega), nI_1]
    refine ⟨vp_in_nI (by omega) (by decide), ?_⟩
    have key := qp_q_s (show i ≤ qd_ht D b by omega) e
    refine qy_rb g2.symm W V (V.1 _ g1) I B H (fun c' hO' stk' e' H' => ?_) (fun e' lis spe hO' stk' T => ?_)
    · refine br_f (by decide) ?_
      intro y ey
      subst ey
      exact ih (i + 1) c' hO' stk' (by omega) (key.trans e') H' n (by omega)
    · refine br_t rfl (K2 ?_ _ _ _ _ T)
      rw [← eR]
      have := qp_q_n (key.trans e') d (by omega)
      rwa [show i + 1 + d = qd_ht D b + 1 by omega] at this
theorem qa_clr {p : Nat → Bool} {i : Nat} : qa_v (fun k => if k < i then false else p k) i false = (fun k => if k < i + 1 then false else p k) := by
  funext k
  by_cases z : k = i
  · subst z; rw [qa_vs, if_pos (by omega)]
  · rw [qa_vn z]
    by_cases y : k < i
    · rw [if_pos y, if_pos (by omega)]
    · rw [if_neg y, if_neg (by omega)]
theorem qa_clr0 {p : Nat → Bool} {n : Nat} (h : ∀ k, n ≤ k → p k = false) : (fun k => if k < n then false else p k) = (fun _ => false) := by
  funext k
  by_cases y : k < n
  · rw [if_pos y]
  · rw [if_neg y, h k (by omega)]
theorem qa_clr00 {p : Nat → Bool} : (fun k => if k < 0 then false else p k) = p := by
  funext k
  rw [if_neg (by omega)]
theorem qy_rep23 {post : Int32 → SY → Prop} {lis : Nat → Int32} {spe : Nat → Bool} (T : ∀ k, 112 ≤ k → spe k = false) (K : ∃ n, wY_replay_44 post n 0 f_submitted f_length f_weight f_pooledCount f_tipBlock a_inputs a_inFrom a_inPlace a_witness a_outputs a_amount a_lock a_sealed a_state a_parent a_work a_count a_tx a_order a_path lis (qa_b (fun _ => false)) a_heightOf a_stack a_pool a_oldPool a_oldPath) : ∀ d i, i + d = 112 → ∀ n, d < n → wY_replay_23 post f_submitted f_length f_weight f_pooledCount f_tipBlock n (nI i) a_inputs a_inFrom a_inPlace a_witness a_outputs a_amount a_lock a_sealed a_state a_parent a_work a_count a_tx a_order a_path lis (qa_b (fun k => if k < i then false else spe k)) a_heightOf a_stack a_pool a_oldPool a_oldPath := by
  intro d
  induction d with
  | zero =>
    intro i hi n hn
    obtain ⟨n, rfl⟩ : ∃ q, n = q + 1 := ⟨n - 1, by omega⟩
    have hi' : i = 112 := by omega
    subst hi'
    rw [wY_replay_23]
    dsimp only
    rw [qa_clr0 T]
    exact br_t (by decide) K
  | succ d ih =>
    intro i hi n hn
    obtain ⟨n, rfl⟩ : ∃ q, n = q + 1 := ⟨n - 1, by omega⟩
    rw [wY_replay_23]
    refine br_f (nI_ge (b := 112) (by omega) (by decide)) ?_
    rw [nI_clamp (by omega), qa_bo0, qa_bu, qa_clr, nI_1]
    refine ⟨vp_in_nI (by omega) (by decide), fun y ey z ez => ?_⟩
    subst ey ez
    exact ih (i + 1) (by omega) n (by omega)
theorem qy_rep2 {post : Int32 → SY → Prop} {lis spe : Nat → Bool} (T : qy_T lis spe) (K : ∃ n, wY_replay_44 post n 0 f_submitted f_length f_weight f_pooledCount f_tipBlock a_inputs a_inFrom a_inPlace a_witness a_outputs a_amount a_lock a_sealed a_state a_parent a_work a_count a_tx a_order a_path (qa_b (fun _ => false)) (qa_b (fun _ => false)) a_heightOf a_stack a_pool a_oldPool a_oldPath) : ∀ d i, i + d = 56 → ∀ n, d < n → wY_replay_2 post f_submitted f_length f_weight f_pooledCount f_tipBlock n (nI i) a_inputs a_inFrom a_inPlace a_witness a_outputs a_amount a_lock a_sealed a_state a_parent a_work a_count a_tx a_order a_path (qa_b (fun k => if k < i then false else lis k)) (qa_b spe) a_heightOf a_stack a_pool a_oldPool a_oldPath := by
  intro d
  induction d with
  | zero =>
    intro i hi n hn
    obtain ⟨n, rfl⟩ : ∃ q, n = q + 1 := ⟨n - 1, by omega⟩
    have hi' : i = 56 := by omega
    subst hi'
    rw [wY_replay_2]
    dsimp only
    rw [qa_clr0 T.1]
    refine br_t (by decide) ⟨113, ?_⟩
    have := qy_rep23 (post := post) (lis := qa_b (fun _ => false)) T.2 K 112 0 rfl 113 (by decide)
    rw [qa_clr00] at this
    exact this
  | succ d ih =>
    intro i hi n hn
    obtain ⟨n, rfl⟩ : ∃ q, n = q + 1 := ⟨n - 1, by omega⟩
    rw [wY_replay_2]
    refine br_f (nI_ge (b := 56) (by omega) (by decide)) ?_
    rw [nI_clamp (by omega), qa_bo0, qa_bu, qa_clr, nI_1]
    refine ⟨vp_in_nI (by omega) (by decide), fun y ey z ez => ?_⟩
    subst ey ez
    exact ih (i + 1) (by omega) n (by omega)
theorem qy_replay {G : Nat → Prop} {post : Int32 → SY → Prop} {b : Nat} {lis spe : Nat → Bool} (W : qd_W D) (V : qd_G D G) (hb : G b) (T : qy_T lis spe) (P : ∀ i, i ≤ qd_ht D b → a_path i = nI (qp_p D b i))
    (K1 : ∀ (c' : qc_T) (hO stk : Nat → Int32), qc_R D b = some c' → qy_H D c' hO → post 1 (f_submitted, nI (qd_ht D b + 1), f_weight, f_pooledCount, f_tipBlock, (qa_i (qd_ic D)), (qa_i (fun k => qd_fr D k / 2)), (qa_i (fun k => qd_fr D k % 2)), (qd_wt D), (qa_i (qd_oc D)), (qd_am D), (qd_lk D), (qa_b (qd_se D)), a_state, (qa_i (qd_pa D)), a_work, (qa_i (qd_ct D)), (qa_i (qd_tx D)), a_order, a_path, (qa_b c'.1), (qa_b c'.2.1), hO, stk, a_pool, a_oldPool, a_oldPath))
    (K2 : qc_R D b = none → ∀ (lis spe : Nat → Bool) (hO stk : Nat → Int32), qy_T lis spe → post 0 (f_submitted, nI (qd_ht D b + 1), f_weight, f_pooledCount, f_tipBlock, (qa_i (qd_ic D)), (qa_i (fun k => qd_fr D k / 2)), (qa_i (fun k => qd_fr D k % 2)), (qd_wt D), (qa_i (qd_oc D)), (qd_am D), (qd_lk D), (qa_b (qd_se D)), a_state, (qa_i (qd_pa D)), a_work, (qa_i (qd_ct D)), (qa_i (qd_tx D)), a_order, a_path, (qa_b lis), (qa_b spe), hO, stk, a_pool, a_oldPool, a_oldPath)) : wpY_replay post (f_submitted, nI (qd_ht D b + 1), f_weight, f_pooledCount, f_tipBlock, (qa_i (qd_ic D)), (qa_i (fun k => qd_fr D k / 2)), (qa_i (fun k => qd_fr D k % 2)), (qd_wt D), (qa_i (qd_oc D)), (qd_am D), (qd_lk D), (qa_b (qd_se D)), a_state, (qa_i (qd_pa D)), a_work, (qa_i (qd_ct D)), (qa_i (qd_tx D)), a_order, a_path, (qa_b lis), (qa_b spe), a_heightOf, a_stack, a_pool, a_oldPool, a_oldPath) := by
  unfold wpY_replay
  dsimp only
  refine ⟨57, ?_⟩
  have := qy_rep2 (f_submitted := f_submitted) (f_length := nI (qd_ht D b + 1)) (f_weight := f_weight) (f_pooledCount := f_pooledCount) (f_tipBlock := f_tipBlock) (post := post) (lis := lis) (spe := spe) T ⟨_, qy_rep_l W V hb P K1 K2 (qd_ht D b + 1) 0 qc_e a_heightOf a_stack (by omega) rfl ⟨fun _ h => (by cases h), fun _ h => (by cases h)⟩ _ (Nat.lt_succ_self _)⟩ 56 0 rfl 57 (by decide)
  rw [qa_clr00] at this
  exact this
end
end
section
/-! Y: chain, replayTip, onChain -/
/-- the tree of blocks as the reference sees it -/
def qt_T (D : qd_T) (ys wk wg : Nat → Nat) (G : Nat → Prop) : Prop := (∀ b, G b → ys b = 2) ∧ (∀ b, b < 24 → ¬ G b → ys b = 2 → b ≠ 0 ∧ ¬ G (qd_pa D b)) ∧ (∀ b, G b → b ≠ 0 → wg b = wg (qd_pa D b) + wk b) ∧ (wg 0 = 0 ∧ wk 0 = 0) ∧ (∀ b, wg b ≤ 345) ∧ (∀ b, ys b ≤ 2)
section
variable {f_submitted f_length f_weight f_pooledCount f_tipBlock : Int32} {a_inputs a_inFrom a_inPlace a_witness a_outputs a_amount a_lock a_sealed a_state a_parent a_work a_count a_tx a_order a_path a_listed a_spent a_heightOf a_stack a_pool a_oldPool a_oldPath : Nat → Int32}
variable {D : qd_T} {c : qc_T} {ys wk wg od : Nat → Nat} {G : Nat → Prop}
theorem qy_ch92 {post : Int32 → SY → Prop} {N : Nat} {q : Nat → Nat} (hN : N ≤ 24) (h0 : 0 < N) (K : ∀ pth : Nat → Int32, (∀ j, j < N → pth j = nI (q (N - 1 - j))) → post 1 (f_submitted, f_length, f_weight, f_pooledCount, f_tipBlock, a_inputs, a_inFrom, a_inPlace, a_witness, a_outputs, a_amount, a_lock, a_sealed, a_state, a_parent, a_work, a_count, a_tx, a_order, pth, a_listed, a_spent, a_heightOf, a_stack, a_pool, a_oldPool, a_oldPath)) : ∀ d i (pth : Nat → Int32), i + d = N / 2 → (∀ j, j < N → pth j = if j < i ∨ N - 1 - j < i then nI (q (N - 1 - j)) else nI (q j)) → ∀ n, d < n → wY_chain_92 post (nI N) f_submitted f_length f_weight f_pooledCount f_tipBlock n (nI i) a_inputs a_inFrom a_inPlace a_witness a_outputs a_amount a_lock a_sealed a_state a_parent a_work a_count a_tx a_order pth a_listed a_spent a_heightOf a_stack a_pool a_oldPool a_oldPath := by
  have e2 : nI N / 2 = nI (N / 2) := pk_div (d := 2) (by omega) (by decide) (by decide)
  have e1 : nI N - 1 = nI (N - 1) := pk_sub (b := 1) h0
  intro d
  induction d with
  | zero =>
    intro i pth hi P n hn
    obtain ⟨n, rfl⟩ : ∃ q, n = q + 1 := ⟨n - 1, by omega⟩
    rw [wY_chain_92]
    dsimp only
    rw [e2]
    refine ⟨by decide, br_t (nI_le (by omega) (by omega)) (K pth fun j hj => ?_)⟩
    rw [P j hj]
    by_cases z : j < i ∨ N - 1 - j < i
    · rw [if_pos z]
    · rw [if_neg z, show N - 1 - j = j by omega]
  | succ d ih =>
    intro i pth hi P n hn
    obtain ⟨n, rfl⟩ : ∃ q, n = q + 1 := ⟨n - 1, by omega⟩
    have e3 : nI (N - 1) - nI i = nI (N - 1 - i) := pk_sub (by omega)
    rw [wY_chain_92]
    dsimp only
    rw [e2, e1, e3, nI_clamp (by omega), nI_clamp (by omega), nI_1]
    refine ⟨by decide, br_f (nI_ge (by omega) (by omega)) ⟨vp_in_nI (by omega) (by decide), fun x ex => ⟨vp_in_nI (by omega) (by decide), vp_in_nI (by omega) (by decide), fun p1 ep1 => ⟨vp_in_nI (by omega) (by decide), fun p2 ep2 z ez => ?_⟩⟩⟩⟩
    subst ez
    refine ih (i + 1) p2 (by omega) ?_ n (by omega)
    intro j hj
    have a1 : pth i = nI (q i) := by rw [P i (by omega), if_neg (by omega)]
    have a2 : pth (N - 1 - i) = nI (q (N - 1 - i)) := by rw [P (N - 1 - i) (by omega), if_neg (by omega)]
    rw [ep2, ep1, ex, a1, a2]
    by_cases z1 : j = N - 1 - i
    · subst z1
      rw [pk_us, if_pos (by omega), show N - 1 - (N - 1 - i) = i by omega]
    · rw [pk_un z1]
      by_cases z2 : j = i
      · subst z2
        rw [pk_us, if_pos (by omega)]
      · rw [pk_un z2, P j hj]
        by_cases z3 : j < i ∨ N - 1 - j < i
        · rw [if_pos z3, if_pos (by omega)]
        · rw [if_neg z3, if_neg (by omega)]
theorem qy_ch_l {post : Int32 → SY → Prop} {b : Nat} (W : qd_W D) (V : qd_G D G) (T : qt_T D ys wk wg G) (hb : G b) (K : ∀ pth : Nat → Int32, (∀ i, i ≤ qd_ht D b → pth i = nI (qp_p D b i)) → post 1 (f_submitted, nI (qd_ht D b + 1), nI (wg b), f_pooledCount, f_tipBlock, (qa_i (qd_ic D)), (qa_i (fun k => qd_fr D k / 2)), (qa_i (fun k => qd_fr D k % 2)), (qd_wt D), (qa_i (qd_oc D)), (qd_am D), (qd_lk D), (qa_b (qd_se D)), (qa_i ys), (qa_i (qd_pa D)), (qa_i wk), (qa_i (qd_ct D)), (qa_i (qd_tx D)), (qa_i od), pth, a_listed, a_spent, a_heightOf, a_stack, a_pool, a_oldPool, a_oldPath)) : ∀ d k (pth : Nat → Int32), k + d = qd_ht D b → wg (qp_a (qd_pa D) k b) ≤ wg b → (∀ j, j < k → pth j = nI (qp_a (qd_pa D) j b)) → ∀ n, d < n → wY_chain_9 post f_submitted f_length f_pooledCount f_tipBlock n (nI (qp_a (qd_pa D) k b)) (nI k) (nI (wg b - wg (qp_a (qd_pa D) k b))) (qa_i (qd_ic D)) (qa_i (fun k => qd_fr D k / 2)) (qa_i (fun k => qd_fr D k % 2)) (qd_wt D) (qa_i (qd_oc D)) (qd_am D) (qd_lk D) (qa_b (qd_se D)) (qa_i ys) (qa_i (qd_pa D)) (qa_i wk) (qa_i (qd_ct D)) (qa_i (qd_tx D)) (qa_i od) pth a_listed a_spent a_heightOf a_stack a_pool a_oldPool a_oldPath := by
  have hw := W.2.2.2.2.2.2.2.2.2 b
  intro d
  induction d with
  | zero =>
    intro k pth hk hg P n hn
    obtain ⟨n, rfl⟩ : ∃ q, n = q + 1 := ⟨n - 1, by omega⟩
    obtain ⟨gk, hk2⟩ := qp_s V hb k (by omega)
    have z := qp_0 V gk (by omega)
    have kk : k = qd_ht D b := by omega
    subst kk
    rw [z, T.2.2.2.1.1, Nat.sub_zero]
    rw [wY_chain_9]
    dsimp only
    rw [nI_clamp (show 0 < 2 ^ 31 by decide), nI_clamp (show qd_ht D b < 2 ^ 31 by omega), nI_1]
    have s0 : qa_i ys 0 = 2 := by
      show nI (ys 0) = nI 2
      rw [T.1 0 V.2.2.1.1]
    have w0 : qa_i wk 0 = 0 := by
      show nI (wk 0) = nI 0
      rw [T.2.2.2.1.2]
    refine br_f (nI_ge (b := 24) (by omega) (by decide)) ⟨vp_in_nI (n := 0) (by omega) (by decide), br_t s0 ⟨vp_in_nI (by omega) (by decide), fun p ep x3 e3 => ⟨vp_in_nI (n := 0) (by omega) (by decide), fun w ew => br_t rfl ?_⟩⟩⟩
    rw [w0, Int32.add_zero] at ew
    subst e3 ew
    have e1 : nI (qd_ht D b + 1) - 1 = nI (qd_ht D b) := nI_pred _
    unfold wY_chain_67
    rw [e1, nI_clamp (by omega)]
    have pz : p (qd_ht D b) = 0 := by rw [ep]; exact pk_us
    have PP : ∀ j, j < qd_ht D b + 1 → p j = nI (qp_a (qd_pa D) j b) := by
      intro j hj
      by_cases zj : j = qd_ht D b
      · subst zj; rw [pz, z]; rfl
      · rw [ep, pk_un zj, P j (by omega)]
    refine br_f (nI_ne0 (by omega) (by omega)) ⟨vp_in_nI (by omega) (by decide), br_t pz ⟨(qd_ht D b + 1) / 2 + 1, ?_⟩⟩
    refine qy_ch92 (N := qd_ht D b + 1) (q := fun j => qp_a (qd_pa D) j b) (by omega) (by omega) (fun pth' P' => K pth' fun i hi => ?_) ((qd_ht D b + 1) / 2) 0 p (by omega) (fun j hj => ?_) _ (Nat.lt_succ_self _)
    · rw [P' i (by omega)]
      unfold qp_p
      rw [show qd_ht D b + 1 - 1 - i = qd_ht D b - i by omega]
    · rw [if_neg (by omega)]; exact PP j hj
  | succ d ih =>
    intro k pth hk hg P n hn
    obtain ⟨n, rfl⟩ : ∃ q, n = q + 1 := ⟨n - 1, by omega⟩
    obtain ⟨gk, hk2⟩ := qp_s V hb k (by omega)
    have ih' := ih (k + 1) (upd pth k (nI (qp_a (qd_pa D) k b))) (by omega)
    have es : qp_a (qd_pa D) (k + 1) b = qd_pa D (qp_a (qd_pa D) k b) := rfl
    rw [es] at ih'
    have P' : ∀ j, j < k + 1 → upd pth k (nI (qp_a (qd_pa D) k b)) j = nI (qp_a (qd_pa D) j b) := by
      intro j hj
      by_cases zj : j = k
      · subst zj; exact pk_us
      · rw [pk_un zj, P j (by omega)]
    generalize qp_a (qd_pa D) k b = x at *
    have x24 := V.1 x gk
    have x0 : x ≠ 0 := fun e => by rw [e, V.2.2.1.2] at hk2; omega
    have wx := T.2.2.1 x gk x0
    have wb := T.2.2.2.2.1 b
    rw [wY_chain_9]
    dsimp only
    rw [nI_clamp (by omega), nI_clamp (by omega), nI_1]
    have sx : qa_i ys x = 2 := by
      show nI (ys x) = nI 2
      rw [T.1 x gk]
    have ex : qa_i wk x = nI (wk x) := rfl
    have ep : qa_i (qd_pa D) x = nI (qd_pa D x) := rfl
    rw [ex, ep, nI_add]
    refine br_f (nI_ge (b := 24) (by omega) (by decide)) ⟨vp_in_nI (by omega) (by decide), br_t sx ⟨vp_in_nI (by omega) (by decide), fun p e1 x3 e3 => ⟨vp_in_nI (by omega) (by decide), fun w ew => br_f (nI_ne0 (by omega) (by omega)) ⟨vp_in_nI (by omega) (by decide), fun x2 e2 => ?_⟩⟩⟩⟩
    have ew' : w = nI (wg b - wg (qd_pa D x)) := ew.trans (congrArg nI (by omega))
    subst e1 e3 e2 ew'
    exact ih' (by omega) P' n (by omega)
theorem qy_chain {post : Int32 → SY → Prop} {b : Nat} (W : qd_W D) (V : qd_G D G) (T : qt_T D ys wk wg G) (hb : G b) (K : ∀ pth : Nat → Int32, (∀ i, i ≤ qd_ht D b → pth i = nI (qp_p D b i)) → post 1 (f_submitted, nI (qd_ht D b + 1), nI (wg b), f_pooledCount, f_tipBlock, (qa_i (qd_ic D)), (qa_i (fun k => qd_fr D k / 2)), (qa_i (fun k => qd_fr D k % 2)), (qd_wt D), (qa_i (qd_oc D)), (qd_am D), (qd_lk D), (qa_b (qd_se D)), (qa_i ys), (qa_i (qd_pa D)), (qa_i wk), (qa_i (qd_ct D)), (qa_i (qd_tx D)), (qa_i od), pth, a_listed, a_spent, a_heightOf, a_stack, a_pool, a_oldPool, a_oldPath)) : wpY_chain post (f_submitted, f_length, f_weight, f_pooledCount, f_tipBlock, (qa_i (qd_ic D)), (qa_i (fun k => qd_fr D k / 2)), (qa_i (fun k => qd_fr D k % 2)), (qd_wt D), (qa_i (qd_oc D)), (qd_am D), (qd_lk D), (qa_b (qd_se D)), (qa_i ys), (qa_i (qd_pa D)), (qa_i wk), (qa_i (qd_ct D)), (qa_i (qd_tx D)), (qa_i od), a_path, a_listed, a_spent, a_heightOf, a_stack, a_pool, a_oldPool, a_oldPath) (nI b) := by
  unfold wpY_chain
  dsimp only
  refine ⟨qd_ht D b + 1, ?_⟩
  have := qy_ch_l (f_length := f_length) W V T hb K (qd_ht D b) 0 a_path (by omega) (Nat.le_refl _) (fun j hj => by omega) _ (Nat.lt_succ_self _)
  rw [show qp_a (qd_pa D) 0 b = b from rfl, Nat.sub_self] at this
  exact this
theorem qy_chn67 {post : Int32 → SY → Prop} {k : Nat} (hk : k ≤ 24) (K : ∀ len : Int32, post 0 (f_submitted, len, f_weight, f_pooledCount, f_tipBlock, a_inputs, a_inFrom, a_inPlace, a_witness, a_outputs, a_amount, a_lock, a_sealed, a_state, a_parent, a_work, a_count, a_tx, a_order, a_path, a_listed, a_spent, a_heightOf, a_stack, a_pool, a_oldPool, a_oldPath)) (P : k = 0 ∨ ∃ z, a_path (k - 1) = nI z ∧ z ≠ 0 ∧ z < 24) : wY_chain_67 post (nI k) f_submitted f_length f_weight f_pooledCount f_tipBlock a_inputs a_inFrom a_inPlace a_witness a_outputs a_amount a_lock a_sealed a_state a_parent a_work a_count a_tx a_order a_path a_listed a_spent a_heightOf a_stack a_pool a_oldPool a_oldPath := by
  unfold wY_chain_67
  by_cases z : k = 0
  · subst z; exact br_t rfl (K _)
  · rcases P with h | ⟨y, e, y0, y1⟩
    · exact absurd h z
    · have e1 : nI k - 1 = nI (k - 1) := pk_sub (b := 1) (by omega)
      rw [e1, nI_clamp (by omega), e]
      exact br_f (nI_ne0 (by omega) (by omega)) ⟨vp_in_nI (by omega) (by decide), br_f (nI_ne0 (by omega) (by omega)) (K _)⟩
theorem qy_chn_l {post : Int32 → SY → Prop} (W : qd_W D) (T : qt_T D ys wk wg G) (K : ∀ (len w : Int32) (pth : Nat → Int32), post 0 (f_submitted, len, w, f_pooledCount, f_tipBlock, (qa_i (qd_ic D)), (qa_i (fun k => qd_fr D k / 2)), (qa_i (fun k => qd_fr D k % 2)), (qd_wt D), (qa_i (qd_oc D)), (qd_am D), (qd_lk D), (qa_b (qd_se D)), (qa_i ys), (qa_i (qd_pa D)), (qa_i wk), (qa_i (qd_ct D)), (qa_i (qd_tx D)), (qa_i od), pth, a_listed, a_spent, a_heightOf, a_stack, a_pool, a_oldPool, a_oldPath)) : ∀ d k x (pth : Nat → Int32) (w : Int32), k + d = 24 → x < 24 → ¬ G x → (k = 0 ∨ ∃ z, pth (k - 1) = nI z ∧ z ≠ 0 ∧ z < 24) → ∀ n, d < n → wY_chain_9 post f_submitted f_length f_pooledCount f_tipBlock n (nI x) (nI k) w (qa_i (qd_ic D)) (qa_i (fun k => qd_fr D k / 2)) (qa_i (fun k => qd_fr D k % 2)) (qd_wt D) (qa_i (qd_oc D)) (qd_am D) (qd_lk D) (qa_b (qd_se D)) (qa_i ys) (qa_i (qd_pa D)) (qa_i wk) (qa_i (qd_ct D)) (qa_i (qd_tx D)) (qa_i od) pth a_listed a_spent a_heightOf a_stack a_pool a_oldPool a_oldPath := by
  intro d
  induction d with
  | zero =>
    intro k x pth w hk hx gx P n hn
    obtain ⟨n, rfl⟩ : ∃ q, n = q + 1 := ⟨n - 1, by omega⟩
    rw [wY_chain_9]
    exact br_t (nI_le (a := 24) (by omega) (by omega)) (qy_chn67 (by omega) (fun len => K len _ _) P)
  | succ d ih =>
    intro k x pth w hk hx gx P n hn
    obtain ⟨n, rfl⟩ : ∃ q, n = q + 1 := ⟨n - 1, by omega⟩
    rw [wY_chain_9]
    dsimp only
    rw [nI_clamp (by omega), nI_clamp (by omega), nI_1]
    have yx := T.2.2.2.2.2 x
    refine br_f (nI_ge (b := 24) (by omega) (by decide)) ⟨vp_in_nI (by omega) (by decide), br_c (fun q => ?_) (fun q => qy_chn67 (by omega) (fun len => K len _ _) P)⟩
    have q' : ys x = 2 := (nI_eq (a := ys x) (b := 2) (by omega) (by decide)).mp q
    obtain ⟨x0, gp⟩ := T.2.1 x hx gx q'
    have wp := W.2.2.2.2.2.2.2.2.1 x
    refine ⟨vp_in_nI (by omega) (by decide), fun p e1 x3 e3 => ⟨vp_in_nI hx (by decide), fun w' ew => br_f (nI_ne0 (by omega) (by omega)) ⟨vp_in_nI hx (by decide), fun x2 e2 => ?_⟩⟩⟩
    have e2' : x2 = nI (qd_pa D x) := e2
    subst e1 e3 e2'
    exact ih (k + 1) (qd_pa D x) _ w' (by omega) wp gp (Or.inr ⟨x, by rw [Nat.add_sub_cancel]; exact pk_us, x0, hx⟩) n (by omega)
theorem qy_chain0 {post : Int32 → SY → Prop} {b : Nat} (W : qd_W D) (T : qt_T D ys wk wg G) (hb : b < 24) (gb : ¬ G b) (K : ∀ (len w : Int32) (pth : Nat → Int32), post 0 (f_submitted, len, w, f_pooledCount, f_tipBlock, (qa_i (qd_ic D)), (qa_i (fun k => qd_fr D k / 2)), (qa_i (fun k => qd_fr D k % 2)), (qd_wt D), (qa_i (qd_oc D)), (qd_am D), (qd_lk D), (qa_b (qd_se D)), (qa_i ys), (qa_i (qd_pa D)), (qa_i wk), (qa_i (qd_ct D)), (qa_i (qd_tx D)), (qa_i od), pth, a_listed, a_spent, a_heightOf, a_stack, a_pool, a_oldPool, a_oldPath)) : wpY_chain post (f_submitted, f_length, f_weight, f_pooledCount, f_tipBlock, (qa_i (qd_ic D)), (qa_i (fun k => qd_fr D k / 2)), (qa_i (fun k => qd_fr D k % 2)), (qd_wt D), (qa_i (qd_oc D)), (qd_am D), (qd_lk D), (qa_b (qd_se D)), (qa_i ys), (qa_i (qd_pa D)), (qa_i wk), (qa_i (qd_ct D)), (qa_i (qd_tx D)), (qa_i od), a_path, a_listed, a_spent, a_heightOf, a_stack, a_pool, a_oldPool, a_oldPath) (nI b) := by
  unfold wpY_chain
  dsimp only
  exact ⟨25, qy_chn_l W T K 24 0 b a_path 0 rfl hb gb (Or.inl rfl) 25 (by decide)⟩
theorem qc_r_c {g g' : Nat → Nat} {h b : Nat} : ∀ {n : Nat}, (∀ i, i < n → g i = g' i) → qc_r D g h b c n = qc_r D g' h b c n
  | 0, _ => rfl
  | n + 1, e => by
    have ih := qc_r_c (g := g) (g' := g') (h := h) (b := b) (n := n) (fun i hi => e i (by omega))
    cases q : qc_r D g h b c n with
    | none => rw [q] at ih; rw [qc_r_n q, qc_r_n ih.symm]
    | some c1 =>
      rw [q] at ih
      cases f : qc_fit D c1 (g n) h with
      | false => rw [qc_r_f q f, qc_r_f ih.symm (by rw [← e n (by omega)]; exact f)]
      | true => rw [qc_r_s q f, qc_r_s ih.symm (by rw [← e n (by omega)]; exact f), e n (by omega)]
theorem qy_rt16 {post : SY → Prop} {h ps : Nat} {pl : Nat → Nat} {c0 cp : qc_T} (W : qd_W D) (hps : ps ≤ 8) (hpl : ∀ i, pl i < 32) (hr : qc_r D pl h 24 c0 ps = some cp) (K : ∀ hO : Nat → Int32, qy_H D cp hO → post (f_submitted, nI h, f_weight, nI ps, f_tipBlock, (qa_i (qd_ic D)), (qa_i (fun k => qd_fr D k / 2)), (qa_i (fun k => qd_fr D k % 2)), (qd_wt D), (qa_i (qd_oc D)), (qd_am D), (qd_lk D), (qa_b (qd_se D)), a_state, (qa_i (qd_pa D)), a_work, (qa_i (qd_ct D)), (qa_i (qd_tx D)), a_order, a_path, (qa_b cp.1), (qa_b cp.2.1), hO, a_stack, (qa_i pl), a_oldPool, a_oldPath)) : ∀ d i (c1 : qc_T) (hO : Nat → Int32), i + d = ps → qc_r D pl h 24 c0 i = some c1 → qy_H D c1 hO → ∀ n, d < n → wY_replayTip_16 post 1 n (nI i) f_submitted (nI h) f_weight (nI ps) f_tipBlock (qa_i (qd_ic D)) (qa_i (fun k => qd_fr D k / 2)) (qa_i (fun k => qd_fr D k % 2)) (qd_wt D) (qa_i (qd_oc D)) (qd_am D) (qd_lk D) (qa_b (qd_se D)) a_state (qa_i (qd_pa D)) a_work (qa_i (qd_ct D)) (qa_i (qd_tx D)) a_order a_path (qa_b c1.1) (qa_b c1.2.1) hO a_stack (qa_i pl) a_oldPool a_oldPath := by
  intro d
  induction d with
  | zero =>
    intro i c1 hO hi e H n hn
    obtain ⟨n, rfl⟩ : ∃ q, n = q + 1 := ⟨n - 1, by omega⟩
    have hi' : i = ps := by omega
    subst hi'
    rw [hr] at e
    cases e
    rw [wY_replayTip_16]
    exact br_f (by decide) (br_t (nI_le (by omega) (by omega)) (K hO H))
  | succ d ih =>
    intro i c1 hO hi e H n hn
    obtain ⟨n, rfl⟩ : ∃ q, n = q + 1 := ⟨n - 1, by omega⟩
    obtain ⟨c2, e2⟩ := qc_r_pre hr (show i + 1 ≤ ps by omega)
    obtain ⟨c3, e3, f, rfl⟩ := qc_r_inv e2
    rw [e] at e3
    cases e3
    rw [wY_replayTip_16]
    dsimp only
    rw [qa_at _ (show i < 2 ^ 31 by omega), nI_1]
    refine br_f (by decide) (br_f (nI_ge (by omega) (by omega)) ⟨vp_in_nI (by omega) (by decide), qy_list (b := 24) W (by have := hpl i; omega) ?_⟩)
    intro y ey
    subst ey
    exact ih (i + 1) _ _ (by omega) e2 (qy_H_l H (hpl i) (fun z => absurd z (by decide))) n (by omega)
theorem qy_rt1 {post : SY → Prop} {b ps : Nat} {pl : Nat → Nat} {c0 cp : qc_T} {lis spe : Nat → Bool} (W : qd_W D) (V : qd_G D G) (T : qt_T D ys wk wg G) (hb : G b) (TT : qy_T lis spe) (hR : qc_R D b = some c0) (hps : ps ≤ 8) (hpl : ∀ i, pl i < 32) (hr : qc_r D pl (qd_ht D b + 1) 24 c0 ps = some cp) (K : ∀ (w : Int32) (pth hO stk : Nat → Int32), qy_H D cp hO → post (f_submitted, nI (qd_ht D b + 1), w, nI ps, nI b, (qa_i (qd_ic D)), (qa_i (fun k => qd_fr D k / 2)), (qa_i (fun k => qd_fr D k % 2)), (qd_wt D), (qa_i (qd_oc D)), (qd_am D), (qd_lk D), (qa_b (qd_se D)), (qa_i ys), (qa_i (qd_pa D)), (qa_i wk), (qa_i (qd_ct D)), (qa_i (qd_tx D)), (qa_i od), pth, (qa_b cp.1), (qa_b cp.2.1), hO, stk, (qa_i pl), a_oldPool, a_oldPath)) : wpY_replayTip post (f_submitted, f_length, f_weight, nI ps, nI b, (qa_i (qd_ic D)), (qa_i (fun k => qd_fr D k / 2)), (qa_i (fun k => qd_fr D k % 2)), (qd_wt D), (qa_i (qd_oc D)), (qd_am D), (qd_lk D), (qa_b (qd_se D)), (qa_i ys), (qa_i (qd_pa D)), (qa_i wk), (qa_i (qd_ct D)), (qa_i (qd_tx D)), (qa_i od), a_path, (qa_b lis), (qa_b spe), a_heightOf, a_stack, (qa_i pl), a_oldPool, a_oldPath) 1 := by
  unfold wpY_replayTip
  dsimp only
  refine qy_chain W V T hb (fun pth P => ?_)
  refine qy_replay W V hb TT P (fun c' hO stk e H => ?_) (fun e => by rw [hR] at e; cases e)
  rw [hR] at e
  cases e
  exact ⟨ps + 1, qy_rt16 W hps hpl hr (fun hO' H' => K _ _ hO' _ H') ps 0 c0 hO (by omega) rfl H _ (Nat.lt_succ_self _)⟩
theorem qy_rt0 {post : SY → Prop} {b : Nat} {c0 : qc_T} {lis spe : Nat → Bool} (W : qd_W D) (V : qd_G D G) (T : qt_T D ys wk wg G) (hb : G b) (TT : qy_T lis spe) (hR : qc_R D b = some c0) (K : ∀ (pth hO stk : Nat → Int32), qy_H D c0 hO → post (f_submitted, nI (qd_ht D b + 1), nI (wg b), f_pooledCount, nI b, (qa_i (qd_ic D)), (qa_i (fun k => qd_fr D k / 2)), (qa_i (fun k => qd_fr D k % 2)), (qd_wt D), (qa_i (qd_oc D)), (qd_am D), (qd_lk D), (qa_b (qd_se D)), (qa_i ys), (qa_i (qd_pa D)), (qa_i wk), (qa_i (qd_ct D)), (qa_i (qd_tx D)), (qa_i od), pth, (qa_b c0.1), (qa_b c0.2.1), hO, stk, a_pool, a_oldPool, a_oldPath)) : wpY_replayTip post (f_submitted, f_length, f_weight, f_pooledCount, nI b, (qa_i (qd_ic D)), (qa_i (fun k => qd_fr D k / 2)), (qa_i (fun k => qd_fr D k % 2)), (qd_wt D), (qa_i (qd_oc D)), (qd_am D), (qd_lk D), (qa_b (qd_se D)), (qa_i ys), (qa_i (qd_pa D)), (qa_i wk), (qa_i (qd_ct D)), (qa_i (qd_tx D)), (qa_i od), a_path, (qa_b lis), (qa_b spe), a_heightOf, a_stack, a_pool, a_oldPool, a_oldPath) 0 := by
  unfold wpY_replayTip
  dsimp only
  refine qy_chain W V T hb (fun pth P => ?_)
  refine qy_replay W V hb TT P (fun c' hO stk e H => ?_) (fun e => by rw [hR] at e; cases e)
  rw [hR] at e
  cases e
  refine ⟨1, ?_⟩
  rw [wY_replayTip_16]
  exact br_t rfl (K _ _ _ H)
/-- whether a block is on the chain of another -/
def qp_on (D : qd_T) (b x : Nat) : Bool := decide (qd_ht D x ≤ qd_ht D b) && decide (qp_p D b (qd_ht D x) = x)
theorem qy_on_l {post : Int32 → Prop} {b x : Nat} (W : qd_W D) (V : qd_G D G) (hb : G b) (hx : x < 24) (P : ∀ i, i ≤ qd_ht D b → a_path i = nI (qp_p D b i)) (K : post (qa_B (qp_on D b x))) : ∀ d i, i + d = qd_ht D b + 1 → (∀ j, j < i → qp_p D b j ≠ x) → ∀ n, d < n → wY_onChain_2 post (nI x) f_submitted (nI (qd_ht D b + 1)) f_weight f_pooledCount f_tipBlock a_inputs a_inFrom a_inPlace a_witness a_outputs a_amount a_lock a_sealed a_state a_parent a_work a_count a_tx a_order a_path a_listed a_spent a_heightOf a_stack a_pool a_oldPool a_oldPath n (nI i) := by
  have hw := W.2.2.2.2.2.2.2.2.2 b
  intro d
  induction d with
  | zero =>
    intro i hi N n hn
    obtain ⟨n, rfl⟩ : ∃ q, n = q + 1 := ⟨n - 1, by omega⟩
    rw [wY_onChain_2]
    refine br_t (nI_le (by omega) (by omega)) ?_
    have : qp_on D b x = false := by
      unfold qp_on
      by_cases z : qd_ht D x ≤ qd_ht D b
      · rw [decide_eq_false (N _ (by omega))]; simp
      · rw [decide_eq_false z]; rfl
    rw [this] at K
    exact K
  | succ d ih =>
    intro i hi N n hn
    obtain ⟨n, rfl⟩ : ∃ q, n = q + 1 := ⟨n - 1, by omega⟩
    obtain ⟨g1, g2⟩ := qp_p_G V hb (show i ≤ qd_ht D b by omega)
    have p24 := V.1 _ g1
    rw [wY_onChain_2]
    dsimp only
    rw [nI_clamp (by omega), P i (by omega), nI_1, nI_eq (by omega) (by omega)]
    refine br_f (nI_ge (by omega) (by omega)) ⟨vp_in_nI (by omega) (by decide), br_c (fun q => ?_) (fun q => ?_)⟩
    · have : qp_on D b x = true := by
        unfold qp_on
        rw [← q, g2, decide_eq_true (show i ≤ qd_ht D b by omega), decide_eq_true rfl]; rfl
      rw [this] at K
      exact K
    · intro y ey
      subst ey
      refine ih (i + 1) (by omega) (fun j hj => ?_) n (by omega)
      by_cases z : j = i
      · subst z; exact q
      · exact N j (by omega)
theorem qy_on {post : Int32 → Prop} {b x : Nat} (W : qd_W D) (V : qd_G D G) (hb : G b) (hx : x < 24) (P : ∀ i, i ≤ qd_ht D b → a_path i = nI (qp_p D b i)) (K : post (qa_B (qp_on D b x))) : wpY_onChain post (f_submitted, nI (qd_ht D b + 1), f_weight, f_pooledCount, f_tipBlock, a_inputs, a_inFrom, a_inPlace, a_witness, a_outputs, a_amount, a_lock, a_sealed, a_state, a_parent, a_work, a_count, a_tx, a_order, a_path, a_listed, a_spent, a_heightOf, a_stack, a_pool, a_oldPool, a_oldPath) (nI x) := by
  unfold wpY_onChain
  dsimp only
  exact ⟨_, qy_on_l W V hb hx P K (qd_ht D b + 1) 0 (by omega) (fun j hj => by omega) _ (Nat.lt_succ_self _)⟩
end
end
section
/-! Y: findTip -/
def qb_gt (wg od : Nat → Nat) (b a : Nat) : Prop := wg a < wg b ∨ (wg b = wg a ∧ od b < od a)
def qb_B (D : qd_T) (wg od : Nat → Nat) (G : Nat → Prop) (x : Nat) : Prop := G x ∧ qc_R D x ≠ none ∧ ∀ b, G b → qc_R D b ≠ none → ¬ qb_gt wg od b x
section
variable {f_submitted f_length f_weight f_pooledCount f_tipBlock : Int32} {a_inputs a_inFrom a_inPlace a_witness a_outputs a_amount a_lock a_sealed a_state a_parent a_work a_count a_tx a_order a_path a_listed a_spent a_heightOf a_stack a_pool a_oldPool a_oldPath : Nat → Int32}
variable {D : qd_T} {c : qc_T} {ys wk wg od : Nat → Nat} {G : Nat → Prop}
theorem qc_R0 (W : qd_W D) (V : qd_G D G) : qc_R D 0 ≠ none := by
  unfold qc_R
  rw [V.2.2.1.2]
  show qc_bl D qc_e 0 ≠ none
  have e : qc_r D (qc_g D 0) (qd_ht D 0) 0 qc_e (qd_ct D 0) = some qc_e := by rw [V.2.2.2.2.2.1]; rfl
  have h : qd_am D (64 + 2 * 0) ≤ 50 + qc_fe D (qc_g D 0) (qd_ct D 0) := by
    rw [V.2.2.2.2.2.1]
    show qd_am D 64 ≤ 50 + 0
    rw [V.2.2.2.2.2.2]
    decide
  rw [qc_bl_s e h]
  exact fun z => by cases z
theorem qy_ft_l {post : SY → Prop} (W : qd_W D) (V : qd_G D G) (T : qt_T D ys wk wg G) (O : ∀ b, od b ≤ 23)
    (K : ∀ (tip : Nat) (len w : Int32) (pth : Nat → Int32) (lis spe : Nat → Bool) (hO stk : Nat → Int32), qy_T lis spe → qb_B D wg od G tip → post (f_submitted, len, w, f_pooledCount, nI tip, (qa_i (qd_ic D)), (qa_i (fun k => qd_fr D k / 2)), (qa_i (fun k => qd_fr D k % 2)), (qd_wt D), (qa_i (qd_oc D)), (qd_am D), (qd_lk D), (qa_b (qd_se D)), (qa_i ys), (qa_i (qd_pa D)), (qa_i wk), (qa_i (qd_ct D)), (qa_i (qd_tx D)), (qa_i od), pth, (qa_b lis), (qa_b spe), hO, stk, a_pool, a_oldPool, a_oldPath)) :
    ∀ d i x (len w : Int32) (pth : Nat → Int32) (lis spe : Nat → Bool) (hO stk : Nat → Int32), i + d = 24 → G x → qc_R D x ≠ none → (∀ b, b < i → G b → qc_R D b ≠ none → ¬ qb_gt wg od b x) → qy_T lis spe → ∀ n, d < n → wY_findTip_6 post n (nI x) (nI (wg x)) (nI i) f_submitted len w f_pooledCount f_tipBlock (qa_i (qd_ic D)) (qa_i (fun k => qd_fr D k / 2)) (qa_i (fun k => qd_fr D k % 2)) (qd_wt D) (qa_i (qd_oc D)) (qd_am D) (qd_lk D) (qa_b (qd_se D)) (qa_i ys) (qa_i (qd_pa D)) (qa_i wk) (qa_i (qd_ct D)) (qa_i (qd_tx D)) (qa_i od) pth (qa_b lis) (qa_b spe) hO stk a_pool a_oldPool a_oldPath := by
  intro d
  induction d with
  | zero =>
    intro i x len w pth lis spe hO stk hi gx rx B TT n hn
    obtain ⟨n, rfl⟩ : ∃ q, n = q + 1 := ⟨n - 1, by omega⟩
    rw [wY_findTip_6]
    exact br_t (nI_le (a := 24) (by omega) (by omega)) (K x _ _ _ _ _ _ _ TT ⟨gx, rx, fun b gb rb => B b (by have := V.1 b gb; omega) gb rb⟩)
  | succ d ih =>
    intro i x len w pth lis spe hO stk hi gx rx B TT n hn
    obtain ⟨n, rfl⟩ : ∃ q, n = q + 1 := ⟨n - 1, by omega⟩
    have x24 := V.1 x gx
    have yi := T.2.2.2.2.2 i
    have w1 := T.2.2.2.2.1 i
    have w2 := T.2.2.2.2.1 x
    have o1 := O i
    have o2 := O x
    have B1 : ¬ (G i ∧ qc_R D i ≠ none ∧ qb_gt wg od i x) → ∀ b, b < i + 1 → G b → qc_R D b ≠ none → ¬ qb_gt wg od b x := by
      intro h b hb gb rb z
      by_cases e : b = i
      · subst e; exact h ⟨gb, rb, z⟩
      · exact B b (by omega) gb rb z
    have B2 : qb_gt wg od i x → ∀ b, b < i + 1 → G b → qc_R D b ≠ none → ¬ qb_gt wg od b i := by
      intro h b hb gb rb z
      by_cases e : b = i
      · subst e; unfold qb_gt at z; omega
      · have := B b (by omega) gb rb
        unfold qb_gt at *
        omega
    rw [wY_findTip_6]
    dsimp only
    rw [qa_at _ (show i < 2 ^ 31 by omega), nI_1]
    refine br_f (nI_ge (b := 24) (by omega) (by decide)) ⟨vp_in_nI (by omega) (by decide), br_c (fun q => ?_) (fun q => ?_)⟩
    · by_cases g : G i
      · refine qy_chain W V T g (fun pth P => br_f (by decide) ?_)
        refine qy_replay W V g TT P (fun c' hO stk e H => br_f (by decide) ?_) (fun e lis spe hO stk T' => br_t rfl ?_)
        · have TT' : qy_T c'.1 c'.2.1 := qy_T_I V (qc_mainR W V g e).1
          have ri : qc_R D i ≠ none := fun z => by rw [e] at z; cases z
          dsimp only
          rw [nI_ltI (by omega) (by omega), nI_eq (by omega) (by omega)]
          refine br_c (fun p1 => nm_e (ih (i + 1) i _ _ _ _ _ _ _ (by omega) g ri (B2 (Or.inl p1)) TT' n (by omega))) (fun p1 => br_c (fun p2 => ?_) (fun p2 => ?_))
          · rw [qa_at _ (show x < 2 ^ 31 by omega), qa_at _ (show i < 2 ^ 31 by omega), nI_leI (by omega) (by omega)]
            refine ⟨vp_in_nI (by omega) (by decide), vp_in_nI x24 (by decide), br_c (fun p3 => ?_) (fun p3 => ?_)⟩
            · exact nm_e (ih (i + 1) x _ _ _ _ _ _ _ (by omega) gx rx (B1 fun z => by have z := z.2.2; unfold qb_gt at z; omega) TT' n (by omega))
            · exact nm_e (ih (i + 1) i _ _ _ _ _ _ _ (by omega) g ri (B2 (Or.inr ⟨p2, by omega⟩)) TT' n (by omega))
          · exact nm_e (ih (i + 1) x _ _ _ _ _ _ _ (by omega) gx rx (B1 fun z => by have z := z.2.2; unfold qb_gt at z; omega) TT' n (by omega))
        · exact nm_e (ih (i + 1) x _ _ _ _ _ _ _ (by omega) gx rx (B1 fun z => z.2.1 e) T' n (by omega))
      · refine qy_chain0 W T (by omega) g (fun len w pth => br_t rfl ?_)
        exact nm_e (ih (i + 1) x _ _ _ _ _ _ _ (by omega) gx rx (B1 fun z => g z.1) TT n (by omega))
    · have g : ¬ G i := fun z => q (by rw [T.1 i z]; rfl)
      exact nm_e (ih (i + 1) x _ _ _ _ _ _ _ (by omega) gx rx (B1 fun z => g z.1) TT n (by omega))
theorem qy_ft {post : SY → Prop} {lis spe : Nat → Bool} (W : qd_W D) (V : qd_G D G) (T : qt_T D ys wk wg G) (O : ∀ b, od b ≤ 23) (TT : qy_T lis spe)
    (K : ∀ (tip : Nat) (len w : Int32) (pth : Nat → Int32) (lis spe : Nat → Bool) (hO stk : Nat → Int32), qy_T lis spe → qb_B D wg od G tip → post (f_submitted, len, w, f_pooledCount, nI tip, (qa_i (qd_ic D)), (qa_i (fun k => qd_fr D k / 2)), (qa_i (fun k => qd_fr D k % 2)), (qd_wt D), (qa_i (qd_oc D)), (qd_am D), (qd_lk D), (qa_b (qd_se D)), (qa_i ys), (qa_i (qd_pa D)), (qa_i wk), (qa_i (qd_ct D)), (qa_i (qd_tx D)), (qa_i od), pth, (qa_b lis), (qa_b spe), hO, stk, a_pool, a_oldPool, a_oldPath)) : wpY_findTip post (f_submitted, f_length, f_weight, f_pooledCount, f_tipBlock, (qa_i (qd_ic D)), (qa_i (fun k => qd_fr D k / 2)), (qa_i (fun k => qd_fr D k % 2)), (qd_wt D), (qa_i (qd_oc D)), (qd_am D), (qd_lk D), (qa_b (qd_se D)), (qa_i ys), (qa_i (qd_pa D)), (qa_i wk), (qa_i (qd_ct D)), (qa_i (qd_tx D)), (qa_i od), a_path, (qa_b lis), (qa_b spe), a_heightOf, a_stack, a_pool, a_oldPool, a_oldPath) := by
  unfold wpY_findTip
  dsimp only
  refine ⟨24, ?_⟩
  have B0 : ∀ b, b < 1 → G b → qc_R D b ≠ none → ¬ qb_gt wg od b 0 := by
    intro b hb _ _ z
    have e : b = 0 := by omega
    subst e
    unfold qb_gt at z
    omega
  have := qy_ft_l (f_tipBlock := f_tipBlock) W V T O K 23 1 0 f_length f_weight a_path lis spe a_heightOf a_stack rfl V.2.2.1.1 (qc_R0 W V) B0 TT 24 (by decide)
  rw [T.2.2.2.1.1] at this
  exact this
end
end
section
/-! the pool, purely; Y: offer, advance -/
abbrev qe_T : Type := Nat × (Nat → Nat) × qc_T
def qe_ok (D : qd_T) (h : Nat) (P : qe_T) (t : Nat) : Bool := !decide (P.1 = 8) && qc_fit D P.2.2 t h
def qe_n (D : qd_T) (h : Nat) (P : qe_T) (t : Nat) : qe_T := if qe_ok D h P t = true then (P.1 + 1, qa_u P.2.1 P.1 t, qc_l D P.2.2 t 24) else P
theorem qe_n_t {D : qd_T} {h : Nat} {P : qe_T} {t : Nat} (e : qe_ok D h P t = true) : qe_n D h P t = (P.1 + 1, qa_u P.2.1 P.1 t, qc_l D P.2.2 t 24) := if_pos e
theorem qe_n_f {D : qd_T} {h : Nat} {P : qe_T} {t : Nat} (e : qe_ok D h P t = false) : qe_n D h P t = P := if_neg (by rw [e]; decide)
def qe_V (D : qd_T) (h : Nat) (c : qc_T) (P : qe_T) : Prop := qc_r D P.2.1 h 24 c P.1 = some P.2.2 ∧ P.1 ≤ 8 ∧ ∀ i, P.2.1 i < 32
theorem qe_V_n {D : qd_T} {h t : Nat} {c : qc_T} {P : qe_T} (V : qe_V D h c P) (ht : t < 32) : qe_V D h c (qe_n D h P t) := by
  cases e : qe_ok D h P t with
  | false => rw [qe_n_f e]; exact V
  | true =>
    rw [qe_n_t e]
    unfold qe_ok at e
    rw [Bool.and_eq_true, Bool.not_eq_true', decide_eq_false_iff_not] at e
    refine ⟨?_, ?_, fun i => ?_⟩
    · have a : qc_r D (qa_u P.2.1 P.1 t) h 24 c P.1 = some P.2.2 := by
        rw [← V.1]
        exact qc_r_c fun i hi => qa_un (by omega)
      have b := qc_r_s (D := D) (g := qa_u P.2.1 P.1 t) (h := h) (b := 24) a (by rw [qa_us]; exact e.2)
      rw [qa_us] at b
      exact b
    · have := V.2.1
      show P.1 + 1 ≤ 8
      omega
    · show qa_u P.2.1 P.1 t i < 32
      by_cases z : i = P.1
      · subst z; rw [qa_us]; exact ht
      · rw [qa_un z]; exact V.2.2 i
def qe_N (D : qd_T) (h : Nat) (g : Nat → Nat) (P : qe_T) : Nat → qe_T
  | 0 => P
  | n + 1 => qe_n D h (qe_N D h g P n) (g n)
theorem qe_V_N {D : qd_T} {h : Nat} {g : Nat → Nat} {c : qc_T} {P : qe_T} (V : qe_V D h c P) : ∀ {n : Nat}, (∀ i, i < n → g i < 32) → qe_V D h c (qe_N D h g P n)
  | 0, _ => V
  | n + 1, hg => qe_V_n (qe_V_N V (n := n) (fun i hi => hg i (by omega))) (hg n (by omega))
/-- what the blocks that left the chain of old offer to the chain of b -/
def qe_C (D : qd_T) (b old : Nat) (P : qe_T) : Nat → qe_T
  | 0 => P
  | k + 1 => if qp_on D b (qp_p D old k) = true then qe_C D b old P k else qe_N D (qd_ht D b + 1) (qc_g D (qp_p D old k)) (qe_C D b old P k) (qd_ct D (qp_p D old k))
theorem qe_V_C {D : qd_T} {b old : Nat} {c : qc_T} {P : qe_T} (W : qd_W D) (V : qe_V D (qd_ht D b + 1) c P) : ∀ {n : Nat}, qe_V D (qd_ht D b + 1) c (qe_C D b old P n)
  | 0 => V
  | n + 1 => by
    unfold qe_C
    by_cases z : qp_on D b (qp_p D old n) = true
    · rw [if_pos z]; exact qe_V_C W V
    · rw [if_neg z]; exact qe_V_N (qe_V_C W V) (fun i _ => qc_g_lt W)
def qe_F (D : qd_T) (b old : Nat) (c : qc_T) (ps : Nat) (pl : Nat → Nat) : qe_T := qe_N D (qd_ht D b + 1) pl (qe_C D b old (0, pl, c) (qd_ht D old + 1)) ps
theorem qe_V_F {D : qd_T} {b old ps : Nat} {pl : Nat → Nat} {c : qc_T} (W : qd_W D) (h : ∀ i, pl i < 32) : qe_V D (qd_ht D b + 1) c (qe_F D b old c ps pl) :=
  qe_V_N (qe_V_C W ⟨rfl, Nat.zero_le 8, h⟩) (fun i _ => h i)
section
variable {f_submitted f_length f_weight f_pooledCount f_tipBlock : Int32} {a_inputs a_inFrom a_inPlace a_witness a_outputs a_amount a_lock a_sealed a_state a_parent a_work a_count a_tx a_order a_path a_listed a_spent a_heightOf a_stack a_pool a_oldPool a_oldPath : Nat → Int32}
variable {D : qd_T} {c : qc_T} {ys wk wg od : Nat → Nat} {G : Nat → Prop}
theorem qy_out0 {post : Int32 → Prop} {t lo hi : Nat} (h1 : lo ≤ t) (h2 : t ≤ hi) (h3 : hi < 2 ^ 31) (K : post 0) : wpY_out post (nI t) (nI lo) (nI hi) := by
  unfold wpY_out
  exact br_f (nI_nlt h1 (by omega)) (br_t (nI_le h2 h3) K)
theorem qy_offer {post : Int32 → SY → Prop} {b t : Nat} {c0 : qc_T} {P : qe_T} {lis spe : Nat → Bool} (W : qd_W D) (V : qd_G D G) (T : qt_T D ys wk wg G) (hb : G b) (TT : qy_T lis spe) (hR : qc_R D b = some c0) (hP : qe_V D (qd_ht D b + 1) c0 P) (ht : t < 32)
    (K : ∀ (len w : Int32) (pth : Nat → Int32) (lis spe : Nat → Bool) (hO stk : Nat → Int32), qy_T lis spe → post (qa_B (qe_ok D (qd_ht D b + 1) P t)) (f_submitted, len, w, nI (qe_n D (qd_ht D b + 1) P t).1, nI b, (qa_i (qd_ic D)), (qa_i (fun k => qd_fr D k / 2)), (qa_i (fun k => qd_fr D k % 2)), (qd_wt D), (qa_i (qd_oc D)), (qd_am D), (qd_lk D), (qa_b (qd_se D)), (qa_i ys), (qa_i (qd_pa D)), (qa_i wk), (qa_i (qd_ct D)), (qa_i (qd_tx D)), (qa_i od), pth, (qa_b lis), (qa_b spe), hO, stk, (qa_i (qe_n D (qd_ht D b + 1) P t).2.1), a_oldPool, a_oldPath)) : wpY_offer post (f_submitted, f_length, f_weight, nI P.1, nI b, (qa_i (qd_ic D)), (qa_i (fun k => qd_fr D k / 2)), (qa_i (fun k => qd_fr D k % 2)), (qd_wt D), (qa_i (qd_oc D)), (qd_am D), (qd_lk D), (qa_b (qd_se D)), (qa_i ys), (qa_i (qd_pa D)), (qa_i wk), (qa_i (qd_ct D)), (qa_i (qd_tx D)), (qa_i od), a_path, (qa_b lis), (qa_b spe), a_heightOf, a_stack, (qa_i P.2.1), a_oldPool, a_oldPath) (nI t) := by
  have hw := W.2.2.2.2.2.2.2.2.2 b
  have h8 := hP.2.1
  unfold wpY_offer
  dsimp only
  refine qy_out0 (lo := 0) (hi := 31) (by omega) (by omega) (by decide) (br_t rfl ?_)
  have e8 : nI P.1 = 8 ↔ P.1 = 8 := nI_eq (b := 8) (by omega) (by decide)
  refine br_c (fun q => ?_) (fun q => ?_)
  · have o : qe_ok D (qd_ht D b + 1) P t = false := by unfold qe_ok; rw [decide_eq_true (e8.mp q)]; rfl
    have := K f_length f_weight a_path lis spe a_heightOf a_stack TT
    rw [qe_n_f o, o] at this
    exact this
  · have q' : ¬ P.1 = 8 := fun z => q (e8.mpr z)
    have o : qe_ok D (qd_ht D b + 1) P t = qc_fit D P.2.2 t (qd_ht D b + 1) := by unfold qe_ok; rw [decide_eq_false q']; rfl
    have M := qc_mainR W V hb hR
    have I1 := (qu_r W M.1 (by omega) (fun i _ => hP.2.2 i) hP.1).1
    refine qy_rt1 W V T hb TT hR h8 hP.2.2 hP.1 (fun w pth hO stk H => ?_)
    refine qy_fits W ht (by omega) H (fun stk' => ?_)
    have KK := K (nI (qd_ht D b + 1)) w pth P.2.2.1 P.2.2.2.1 hO stk' (qy_T_I V I1)
    refine br_c (fun z => ?_) (fun z => ⟨vp_in_nI (by omega) (by decide), ?_⟩)
    · have z' := qa_Bz.mp z
      rw [← o] at z'
      rw [qe_n_f z', z'] at KK
      exact KK
    · have z' := qa_Bn.mp z
      rw [← o] at z'
      rw [qe_n_t z', z'] at KK
      rw [nI_clamp (by omega), qa_iu, nI_1]
      intro y ey u eu
      subst ey eu
      exact KK
theorem qy_ob_l {post : SY → Prop} {b x : Nat} {c0 : qc_T} {P : qe_T} (W : qd_W D) (V : qd_G D G) (T : qt_T D ys wk wg G) (hb : G b) (hR : qc_R D b = some c0) (hP : qe_V D (qd_ht D b + 1) c0 P) (hx : x < 24)
    (K : ∀ (len w : Int32) (pth : Nat → Int32) (lis spe : Nat → Bool) (hO stk : Nat → Int32), qy_T lis spe → post (f_submitted, len, w, nI (qe_N D (qd_ht D b + 1) (qc_g D x) P (qd_ct D x)).1, nI b, (qa_i (qd_ic D)), (qa_i (fun k => qd_fr D k / 2)), (qa_i (fun k => qd_fr D k % 2)), (qd_wt D), (qa_i (qd_oc D)), (qd_am D), (qd_lk D), (qa_b (qd_se D)), (qa_i ys), (qa_i (qd_pa D)), (qa_i wk), (qa_i (qd_ct D)), (qa_i (qd_tx D)), (qa_i od), pth, (qa_b lis), (qa_b spe), hO, stk, (qa_i (qe_N D (qd_ht D b + 1) (qc_g D x) P (qd_ct D x)).2.1), a_oldPool, a_oldPath)) :
    ∀ d i (len w : Int32) (pth : Nat → Int32) (lis spe : Nat → Bool) (hO stk : Nat → Int32), i + d = qd_ct D x → qy_T lis spe → ∀ n, d < n → wY_offerBlock_4 post (nI x) n (nI (3 * x + i)) f_submitted len w (nI (qe_N D (qd_ht D b + 1) (qc_g D x) P i).1) (nI b) (qa_i (qd_ic D)) (qa_i (fun k => qd_fr D k / 2)) (qa_i (fun k => qd_fr D k % 2)) (qd_wt D) (qa_i (qd_oc D)) (qd_am D) (qd_lk D) (qa_b (qd_se D)) (qa_i ys) (qa_i (qd_pa D)) (qa_i wk) (qa_i (qd_ct D)) (qa_i (qd_tx D)) (qa_i od) pth (qa_b lis) (qa_b spe) hO stk (qa_i (qe_N D (qd_ht D b + 1) (qc_g D x) P i).2.1) a_oldPool a_oldPath := by
  have hc := W.2.2.2.2.2.2.1 x
  intro d
  induction d with
  | zero =>
    intro i len w pth lis spe hO stk hi TT n hn
    obtain ⟨n, rfl⟩ : ∃ q, n = q + 1 := ⟨n - 1, by omega⟩
    rw [wY_offerBlock_4]
    refine qh_yt W hx (by omega) (fun e => ?_) (fun h => by omega)
    rw [e]
    exact K _ _ _ _ _ _ _ TT
  | succ d ih =>
    intro i len w pth lis spe hO stk hi TT n hn
    obtain ⟨n, rfl⟩ : ∃ q, n = q + 1 := ⟨n - 1, by omega⟩
    rw [wY_offerBlock_4]
    refine qh_yt W hx (by omega) (fun e => by omega) (fun h => ?_)
    rw [qa_at _ (show 3 * x + i < 2 ^ 31 by omega), nI_1]
    refine ⟨vp_in_nI (by omega) (by decide), ?_⟩
    refine qy_offer W V T hb TT hR (qe_V_N hP (n := i) (fun i _ => qc_g_lt W)) (W.2.2.2.2.2.2.2.1 _) (fun len w pth lis spe hO stk TT' => nm_e ?_)
    exact ih (i + 1) len w pth lis spe hO stk (by omega) TT' n (by omega)
theorem qy_ob {post : SY → Prop} {b x : Nat} {c0 : qc_T} {P : qe_T} {lis spe : Nat → Bool} (W : qd_W D) (V : qd_G D G) (T : qt_T D ys wk wg G) (hb : G b) (TT : qy_T lis spe) (hR : qc_R D b = some c0) (hP : qe_V D (qd_ht D b + 1) c0 P) (hx : x < 24)
    (K : ∀ (len w : Int32) (pth : Nat → Int32) (lis spe : Nat → Bool) (hO stk : Nat → Int32), qy_T lis spe → post (f_submitted, len, w, nI (qe_N D (qd_ht D b + 1) (qc_g D x) P (qd_ct D x)).1, nI b, (qa_i (qd_ic D)), (qa_i (fun k => qd_fr D k / 2)), (qa_i (fun k => qd_fr D k % 2)), (qd_wt D), (qa_i (qd_oc D)), (qd_am D), (qd_lk D), (qa_b (qd_se D)), (qa_i ys), (qa_i (qd_pa D)), (qa_i wk), (qa_i (qd_ct D)), (qa_i (qd_tx D)), (qa_i od), pth, (qa_b lis), (qa_b spe), hO, stk, (qa_i (qe_N D (qd_ht D b + 1) (qc_g D x) P (qd_ct D x)).2.1), a_oldPool, a_oldPath)) : wpY_offerBlock post (f_submitted, f_length, f_weight, nI P.1, nI b, (qa_i (qd_ic D)), (qa_i (fun k => qd_fr D k / 2)), (qa_i (fun k => qd_fr D k % 2)), (qd_wt D), (qa_i (qd_oc D)), (qd_am D), (qd_lk D), (qa_b (qd_se D)), (qa_i ys), (qa_i (qd_pa D)), (qa_i wk), (qa_i (qd_ct D)), (qa_i (qd_tx D)), (qa_i od), a_path, (qa_b lis), (qa_b spe), a_heightOf, a_stack, (qa_i P.2.1), a_oldPool, a_oldPath) (nI x) := by
  unfold wpY_offerBlock
  dsimp only
  rw [qa_30']
  refine nm_e ⟨qd_ct D x + 1, ?_⟩
  exact qy_ob_l W V T hb hR hP hx K (qd_ct D x) 0 _ _ _ _ _ _ _ (by omega) TT _ (Nat.lt_succ_self _)
theorem qy_148 {post : Int32 → SY → Prop} {b ps : Nat} {pl : Nat → Nat} {c0 : qc_T} {P : qe_T} (W : qd_W D) (V : qd_G D G) (T : qt_T D ys wk wg G) (hb : G b) (hR : qc_R D b = some c0) (hP : qe_V D (qd_ht D b + 1) c0 P) (hps : ps ≤ 8) (hpl : ∀ i, pl i < 32) (ho : ∀ i, i < 8 → a_oldPool i = nI (pl i))
    (K : ∀ (len w : Int32) (pth : Nat → Int32) (lis spe : Nat → Bool) (hO stk : Nat → Int32), qy_T lis spe → post 1 (f_submitted, len, w, nI (qe_N D (qd_ht D b + 1) pl P ps).1, nI b, (qa_i (qd_ic D)), (qa_i (fun k => qd_fr D k / 2)), (qa_i (fun k => qd_fr D k % 2)), (qd_wt D), (qa_i (qd_oc D)), (qd_am D), (qd_lk D), (qa_b (qd_se D)), (qa_i ys), (qa_i (qd_pa D)), (qa_i wk), (qa_i (qd_ct D)), (qa_i (qd_tx D)), (qa_i od), pth, (qa_b lis), (qa_b spe), hO, stk, (qa_i (qe_N D (qd_ht D b + 1) pl P ps).2.1), a_oldPool, a_oldPath)) :
    ∀ d i (len w : Int32) (pth : Nat → Int32) (lis spe : Nat → Bool) (hO stk : Nat → Int32), i + d = ps → qy_T lis spe → ∀ n, d < n → wY_advance_148 post (nI ps) n (nI i) f_submitted len w (nI (qe_N D (qd_ht D b + 1) pl P i).1) (nI b) (qa_i (qd_ic D)) (qa_i (fun k => qd_fr D k / 2)) (qa_i (fun k => qd_fr D k % 2)) (qd_wt D) (qa_i (qd_oc D)) (qd_am D) (qd_lk D) (qa_b (qd_se D)) (qa_i ys) (qa_i (qd_pa D)) (qa_i wk) (qa_i (qd_ct D)) (qa_i (qd_tx D)) (qa_i od) pth (qa_b lis) (qa_b spe) hO stk (qa_i (qe_N D (qd_ht D b + 1) pl P i).2.1) a_oldPool a_oldPath := by
  intro d
  induction d with
  | zero =>
    intro i len w pth lis spe hO stk hi TT n hn
    obtain ⟨n, rfl⟩ : ∃ q, n = q + 1 := ⟨n - 1, by omega⟩
    have hi' : i = ps := by omega
    subst hi'
    rw [wY_advance_148]
    exact br_t (nI_le (by omega) (by omega)) (K _ _ _ _ _ _ _ TT)
  | succ d ih =>
    intro i len w pth lis spe hO stk hi TT n hn
    obtain ⟨n, rfl⟩ : ∃ q, n = q + 1 := ⟨n - 1, by omega⟩
    rw [wY_advance_148]
    dsimp only
    rw [nI_clamp (show i < 2 ^ 31 by omega), ho i (by omega), nI_1]
    refine br_f (nI_ge (by omega) (by omega)) ⟨vp_in_nI (by omega) (by decide), ?_⟩
    refine qy_offer W V T hb TT hR (qe_V_N hP (n := i) (fun i _ => hpl i)) (hpl i) (fun len w pth lis spe hO stk TT' => nm_e ?_)
    exact ih (i + 1) len w pth lis spe hO stk (by omega) TT' n (by omega)
theorem qy_99 {post : Int32 → SY → Prop} {b old ps : Nat} {pl : Nat → Nat} {c0 : qc_T} (W : qd_W D) (V : qd_G D G) (T : qt_T D ys wk wg G) (hb : G b) (hold : G old) (hR : qc_R D b = some c0) (hps : ps ≤ 8) (hpl : ∀ i, pl i < 32) (ho : ∀ i, i < 8 → a_oldPool i = nI (pl i)) (hq : ∀ i, i ≤ qd_ht D old → a_oldPath i = nI (qp_p D old i))
    (K : ∀ (len w : Int32) (pth : Nat → Int32) (lis spe : Nat → Bool) (hO stk : Nat → Int32), qy_T lis spe → post 1 (f_submitted, len, w, nI (qe_F D b old c0 ps pl).1, nI b, (qa_i (qd_ic D)), (qa_i (fun k => qd_fr D k / 2)), (qa_i (fun k => qd_fr D k % 2)), (qd_wt D), (qa_i (qd_oc D)), (qd_am D), (qd_lk D), (qa_b (qd_se D)), (qa_i ys), (qa_i (qd_pa D)), (qa_i wk), (qa_i (qd_ct D)), (qa_i (qd_tx D)), (qa_i od), pth, (qa_b lis), (qa_b spe), hO, stk, (qa_i (qe_F D b old c0 ps pl).2.1), a_oldPool, a_oldPath)) :
    ∀ d i (len w : Int32) (pth : Nat → Int32) (lis spe : Nat → Bool) (hO stk : Nat → Int32), i + d = qd_ht D old + 1 → qy_T lis spe → ∀ n, d < n → wY_advance_99 post (nI (qd_ht D old + 1)) (nI ps) n (nI i) f_submitted len w (nI (qe_C D b old (0, pl, c0) i).1) (nI b) (qa_i (qd_ic D)) (qa_i (fun k => qd_fr D k / 2)) (qa_i (fun k => qd_fr D k % 2)) (qd_wt D) (qa_i (qd_oc D)) (qd_am D) (qd_lk D) (qa_b (qd_se D)) (qa_i ys) (qa_i (qd_pa D)) (qa_i wk) (qa_i (qd_ct D)) (qa_i (qd_tx D)) (qa_i od) pth (qa_b lis) (qa_b spe) hO stk (qa_i (qe_C D b old (0, pl, c0) i).2.1) a_oldPool a_oldPath := by
  have hw := W.2.2.2.2.2.2.2.2.2 old
  have h0 : qe_V D (qd_ht D b + 1) c0 (0, pl, c0) := ⟨rfl, Nat.zero_le 8, hpl⟩
  intro d
  induction d with
  | zero =>
    intro i len w pth lis spe hO stk hi TT n hn
    obtain ⟨n, rfl⟩ : ∃ q, n = q + 1 := ⟨n - 1, by omega⟩
    have hi' : i = qd_ht D old + 1 := by omega
    subst hi'
    rw [wY_advance_99]
    refine br_t (nI_le (by omega) (by omega)) ⟨ps + 1, ?_⟩
    exact qy_148 W V T hb hR (qe_V_C W h0) hps hpl ho K ps 0 _ _ _ _ _ _ _ (by omega) TT _ (Nat.lt_succ_self _)
  | succ d ih =>
    intro i len w pth lis spe hO stk hi TT n hn
    obtain ⟨n, rfl⟩ : ∃ q, n = q + 1 := ⟨n - 1, by omega⟩
    obtain ⟨g1, g2⟩ := qp_p_G V hold (show i ≤ qd_ht D old by omega)
    have x24 := V.1 _ g1
    have ih' := fun len w pth lis spe hO stk TT => ih (i + 1) len w pth lis spe hO stk (by omega) TT n (by omega)
    rw [wY_advance_99]
    dsimp only
    rw [nI_clamp (show i < 2 ^ 31 by omega), nI_1]
    refine br_f (nI_ge (by omega) (by omega)) ?_
    refine qy_chain W V T hb (fun pth P => ⟨vp_in_nI (by omega) (by decide), ?_⟩)
    dsimp only
    rw [hq i (by omega)]
    refine qy_on W V hb x24 P ?_
    refine br_c (fun z => ⟨vp_in_nI (by omega) (by decide), ?_⟩) (fun z => nm_e ?_)
    · have e : ¬ qp_on D b (qp_p D old i) = true := by rw [qa_Bz.mp z]; decide
      unfold qe_C at ih'
      rw [if_neg e] at ih'
      exact qy_ob W V T hb TT hR (qe_V_C W h0) x24 (fun len w pth lis spe hO stk TT' => nm_e (ih' len w pth lis spe hO stk TT'))
    · have e : qp_on D b (qp_p D old i) = true := qa_Bn.mp z
      unfold qe_C at ih'
      rw [if_pos e] at ih'
      exact ih' _ _ _ _ _ _ _ TT
theorem qy_50 {post : Int32 → SY → Prop} {old ps : Nat} {pl : Nat → Nat} {lis spe : Nat → Bool} (W : qd_W D) (V : qd_G D G) (T : qt_T D ys wk wg G) (O : ∀ b, od b ≤ 23) (hold : G old) (hps : ps ≤ 8) (hpl : ∀ i, pl i < 32) (TT : qy_T lis spe) (hq : ∀ i, i ≤ qd_ht D old → a_oldPath i = nI (qp_p D old i))
    (K0 : ∀ (len w : Int32) (pth : Nat → Int32) (lis spe : Nat → Bool) (hO stk opl : Nat → Int32), qy_T lis spe → qb_B D wg od G old → post 0 (f_submitted, len, w, nI ps, nI old, (qa_i (qd_ic D)), (qa_i (fun k => qd_fr D k / 2)), (qa_i (fun k => qd_fr D k % 2)), (qd_wt D), (qa_i (qd_oc D)), (qd_am D), (qd_lk D), (qa_b (qd_se D)), (qa_i ys), (qa_i (qd_pa D)), (qa_i wk), (qa_i (qd_ct D)), (qa_i (qd_tx D)), (qa_i od), pth, (qa_b lis), (qa_b spe), hO, stk, (qa_i pl), opl, a_oldPath))
    (K1 : ∀ (b : Nat) (c0 : qc_T) (len w : Int32) (pth : Nat → Int32) (lis spe : Nat → Bool) (hO stk opl : Nat → Int32), qy_T lis spe → qb_B D wg od G b → b ≠ old → qc_R D b = some c0 → post 1 (f_submitted, len, w, nI (qe_F D b old c0 ps pl).1, nI b, (qa_i (qd_ic D)), (qa_i (fun k => qd_fr D k / 2)), (qa_i (fun k => qd_fr D k % 2)), (qd_wt D), (qa_i (qd_oc D)), (qd_am D), (qd_lk D), (qa_b (qd_se D)), (qa_i ys), (qa_i (qd_pa D)), (qa_i wk), (qa_i (qd_ct D)), (qa_i (qd_tx D)), (qa_i od), pth, (qa_b lis), (qa_b spe), hO, stk, (qa_i (qe_F D b old c0 ps pl).2.1), opl, a_oldPath)) :
    ∀ d i (opl : Nat → Int32), i + d = 8 → (∀ j, j < i → opl j = nI (pl j)) → ∀ n, d < n → wY_advance_50 post (nI old) (nI (qd_ht D old + 1)) (nI ps) f_submitted f_length f_weight (nI ps) (nI old) n (nI i) (qa_i (qd_ic D)) (qa_i (fun k => qd_fr D k / 2)) (qa_i (fun k => qd_fr D k % 2)) (qd_wt D) (qa_i (qd_oc D)) (qd_am D) (qd_lk D) (qa_b (qd_se D)) (qa_i ys) (qa_i (qd_pa D)) (qa_i wk) (qa_i (qd_ct D)) (qa_i (qd_tx D)) (qa_i od) a_path (qa_b lis) (qa_b spe) a_heightOf a_stack (qa_i pl) opl a_oldPath := by
  intro d
  induction d with
  | zero =>
    intro i opl hi ho n hn
    obtain ⟨n, rfl⟩ : ∃ q, n = q + 1 := ⟨n - 1, by omega⟩
    have hi' : i = 8 := by omega
    subst hi'
    rw [wY_advance_50]
    refine br_t (by decide) (qy_ft W V T O TT (fun b len w pth lis spe hO stk TT' B => ?_))
    have b24 := V.1 b B.1
    have o24 := V.1 old hold
    have e := nI_eq (a := b) (b := old) (by omega) (by omega)
    refine br_c (fun q => ?_) (fun q => ?_)
    · have q' := e.mp q
      subst q'
      exact K0 _ _ _ _ _ _ _ _ TT' B
    · cases hR : qc_R D b with
      | none => exact absurd hR B.2.1
      | some c0 =>
        refine ⟨qd_ht D old + 2, ?_⟩
        exact qy_99 W V T B.1 hold hR hps hpl ho hq (fun len w pth lis spe hO stk TT'' => K1 b c0 _ _ _ _ _ _ _ _ TT'' B (fun z => q (e.mpr z)) hR) (qd_ht D old + 1) 0 _ _ _ _ _ _ _ (by omega) TT' _ (Nat.lt_succ_self _)
  | succ d ih =>
    intro i opl hi ho n hn
    obtain ⟨n, rfl⟩ : ∃ q, n = q + 1 := ⟨n - 1, by omega⟩
    rw [wY_advance_50]
    dsimp only
    rw [qa_at _ (show i < 2 ^ 31 by omega), nI_clamp (show i < 2 ^ 31 by omega), nI_1]
    refine br_f (nI_ge (b := 8) (by omega) (by decide)) ⟨vp_in_nI (by omega) (by decide), vp_in_nI (by omega) (by decide), fun y ey => nm_e ?_⟩
    refine ih (i + 1) y (by omega) (fun j hj => ?_) n (by omega)
    rw [ey]
    by_cases z : j = i
    · subst z; exact pk_us
    · rw [pk_un z]; exact ho j (by omega)
theorem qy_18 {post : Int32 → SY → Prop} {old ps : Nat} {pl : Nat → Nat} {lis spe : Nat → Bool} (W : qd_W D) (V : qd_G D G) (T : qt_T D ys wk wg G) (O : ∀ b, od b ≤ 23) (hold : G old) (hps : ps ≤ 8) (hpl : ∀ i, pl i < 32) (TT : qy_T lis spe) (hq : ∀ i, i ≤ qd_ht D old → a_path i = nI (qp_p D old i))
    (K0 : ∀ (len w : Int32) (pth : Nat → Int32) (lis spe : Nat → Bool) (hO stk opl opt : Nat → Int32), qy_T lis spe → qb_B D wg od G old → post 0 (f_submitted, len, w, nI ps, nI old, (qa_i (qd_ic D)), (qa_i (fun k => qd_fr D k / 2)), (qa_i (fun k => qd_fr D k % 2)), (qd_wt D), (qa_i (qd_oc D)), (qd_am D), (qd_lk D), (qa_b (qd_se D)), (qa_i ys), (qa_i (qd_pa D)), (qa_i wk), (qa_i (qd_ct D)), (qa_i (qd_tx D)), (qa_i od), pth, (qa_b lis), (qa_b spe), hO, stk, (qa_i pl), opl, opt))
    (K1 : ∀ (b : Nat) (c0 : qc_T) (len w : Int32) (pth : Nat → Int32) (lis spe : Nat → Bool) (hO stk opl opt : Nat → Int32), qy_T lis spe → qb_B D wg od G b → b ≠ old → qc_R D b = some c0 → post 1 (f_submitted, len, w, nI (qe_F D b old c0 ps pl).1, nI b, (qa_i (qd_ic D)), (qa_i (fun k => qd_fr D k / 2)), (qa_i (fun k => qd_fr D k % 2)), (qd_wt D), (qa_i (qd_oc D)), (qd_am D), (qd_lk D), (qa_b (qd_se D)), (qa_i ys), (qa_i (qd_pa D)), (qa_i wk), (qa_i (qd_ct D)), (qa_i (qd_tx D)), (qa_i od), pth, (qa_b lis), (qa_b spe), hO, stk, (qa_i (qe_F D b old c0 ps pl).2.1), opl, opt)) :
    ∀ d i (opt : Nat → Int32), i + d = 24 → (∀ j, j < i → opt j = a_path j) → ∀ n, d < n → wY_advance_18 post (nI old) (nI (qd_ht D old + 1)) f_submitted f_length f_weight (nI ps) (nI old) n (nI i) (qa_i (qd_ic D)) (qa_i (fun k => qd_fr D k / 2)) (qa_i (fun k => qd_fr D k % 2)) (qd_wt D) (qa_i (qd_oc D)) (qd_am D) (qd_lk D) (qa_b (qd_se D)) (qa_i ys) (qa_i (qd_pa D)) (qa_i wk) (qa_i (qd_ct D)) (qa_i (qd_tx D)) (qa_i od) a_path (qa_b lis) (qa_b spe) a_heightOf a_stack (qa_i pl) a_oldPool opt := by
  intro d
  induction d with
  | zero =>
    intro i opt hi ho n hn
    obtain ⟨n, rfl⟩ : ∃ q, n = q + 1 := ⟨n - 1, by omega⟩
    have hi' : i = 24 := by omega
    subst hi'
    have hw := W.2.2.2.2.2.2.2.2.2 old
    rw [wY_advance_18]
    refine br_t (by decide) ⟨9, ?_⟩
    exact qy_50 W V T O hold hps hpl TT (fun i hi => (ho i (by omega)).trans (hq i hi)) (fun len w pth lis spe hO stk opl TT' B => K0 _ _ _ _ _ _ _ _ _ TT' B) (fun b c0 len w pth lis spe hO stk opl TT' B n e => K1 b c0 _ _ _ _ _ _ _ _ _ TT' B n e) 8 0 _ rfl (fun j hj => by omega) 9 (by decide)
  | succ d ih =>
    intro i opt hi ho n hn
    obtain ⟨n, rfl⟩ : ∃ q, n = q + 1 := ⟨n - 1, by omega⟩
    rw [wY_advance_18]
    dsimp only
    rw [nI_clamp (show i < 2 ^ 31 by omega), nI_1]
    refine br_f (nI_ge (b := 24) (by omega) (by decide)) ⟨vp_in_nI (by omega) (by decide), vp_in_nI (by omega) (by decide), fun y ey => nm_e ?_⟩
    refine ih (i + 1) y (by omega) (fun j hj => ?_) n (by omega)
    rw [ey]
    by_cases z : j = i
    · subst z; exact pk_us
    · rw [pk_un z]; exact ho j (by omega)
theorem qy_adv {post : Int32 → SY → Prop} {old ps : Nat} {pl : Nat → Nat} {lis spe : Nat → Bool} (W : qd_W D) (V : qd_G D G) (T : qt_T D ys wk wg G) (O : ∀ b, od b ≤ 23) (hold : G old) (hps : ps ≤ 8) (hpl : ∀ i, pl i < 32) (TT : qy_T lis spe)
    (K0 : ∀ (len w : Int32) (pth : Nat → Int32) (lis spe : Nat → Bool) (hO stk opl opt : Nat → Int32), qy_T lis spe → qb_B D wg od G old → post 0 (f_submitted, len, w, nI ps, nI old, (qa_i (qd_ic D)), (qa_i (fun k => qd_fr D k / 2)), (qa_i (fun k => qd_fr D k % 2)), (qd_wt D), (qa_i (qd_oc D)), (qd_am D), (qd_lk D), (qa_b (qd_se D)), (qa_i ys), (qa_i (qd_pa D)), (qa_i wk), (qa_i (qd_ct D)), (qa_i (qd_tx D)), (qa_i od), pth, (qa_b lis), (qa_b spe), hO, stk, (qa_i pl), opl, opt))
    (K1 : ∀ (b : Nat) (c0 : qc_T) (len w : Int32) (pth : Nat → Int32) (lis spe : Nat → Bool) (hO stk opl opt : Nat → Int32), qy_T lis spe → qb_B D wg od G b → b ≠ old → qc_R D b = some c0 → post 1 (f_submitted, len, w, nI (qe_F D b old c0 ps pl).1, nI b, (qa_i (qd_ic D)), (qa_i (fun k => qd_fr D k / 2)), (qa_i (fun k => qd_fr D k % 2)), (qd_wt D), (qa_i (qd_oc D)), (qd_am D), (qd_lk D), (qa_b (qd_se D)), (qa_i ys), (qa_i (qd_pa D)), (qa_i wk), (qa_i (qd_ct D)), (qa_i (qd_tx D)), (qa_i od), pth, (qa_b lis), (qa_b spe), hO, stk, (qa_i (qe_F D b old c0 ps pl).2.1), opl, opt)) : wpY_advance post (f_submitted, f_length, f_weight, nI ps, nI old, (qa_i (qd_ic D)), (qa_i (fun k => qd_fr D k / 2)), (qa_i (fun k => qd_fr D k % 2)), (qd_wt D), (qa_i (qd_oc D)), (qd_am D), (qd_lk D), (qa_b (qd_se D)), (qa_i ys), (qa_i (qd_pa D)), (qa_i wk), (qa_i (qd_ct D)), (qa_i (qd_tx D)), (qa_i od), a_path, (qa_b lis), (qa_b spe), a_heightOf, a_stack, (qa_i pl), a_oldPool, a_oldPath) := by
  unfold wpY_advance
  dsimp only
  refine qy_chain W V T hold (fun pth P => ⟨25, ?_⟩)
  exact qy_18 W V T O hold hps hpl TT P K0 K1 24 0 _ rfl (fun j hj => by omega) 25 (by decide)
end
end
section
/-! X: opens with its cache, sums, fits -/
def qd_ox (D : qd_T) : Nat → Nat := fun t => if t < 32 then qd_oc D t else 0
theorem qd_ox_lt {D : qd_T} {t : Nat} (h : t < 32) : qd_ox D t = qd_oc D t := if_pos h
def qx_C (sl sw sn : Nat → Int32) : Prop := ∀ k, k < 16 → sn k = 0 ∨ (qs_timed (sl k) = false ∧ ((sn k = 1 ∧ ∀ h, qs_run (sl k) (sw k) h = false) ∨ (sn k = 2 ∧ ∀ h, qs_run (sl k) (sw k) h = true)))
section
variable {f_submitted f_tipHeight f_poolSize f_sp f_failed : Int32} {a_inCount a_outCount a_sealed a_inFrom a_inWitness a_amounts a_locks a_parent a_work a_state a_order a_txCount a_txs a_height a_weight a_main a_unspent a_home a_before a_path a_pool a_poolBefore a_inPool a_poolSpends a_stack a_seenLock a_seenWitness a_seen : Nat → Int32}
variable {D : qd_T} {c : qc_T}
theorem qx_101 {post : Int32 → SX → Prop} {k : Nat} {r : Bool} (hk : k < 16) (e : a_seen k = if r = true then 2 else 1) (K : post (qa_B r) (f_submitted, f_tipHeight, f_poolSize, f_sp, f_failed, a_inCount, a_outCount, a_sealed, a_inFrom, a_inWitness, a_amounts, a_locks, a_parent, a_work, a_state, a_order, a_txCount, a_txs, a_height, a_weight, a_main, a_unspent, a_home, a_before, a_path, a_pool, a_poolBefore, a_inPool, a_poolSpends, a_stack, a_seenLock, a_seenWitness, a_seen)) : wX_opens_101 post (nI k) f_submitted f_tipHeight f_poolSize f_sp f_failed a_inCount a_outCount a_sealed a_inFrom a_inWitness a_amounts a_locks a_parent a_work a_state a_order a_txCount a_txs a_height a_weight a_main a_unspent a_home a_before a_path a_pool a_poolBefore a_inPool a_poolSpends a_stack a_seenLock a_seenWitness a_seen := by
  unfold wX_opens_101
  rw [nI_clamp (by omega), e]
  refine ⟨vp_in_nI hk (by decide), ?_⟩
  cases r
  · exact br_f (by decide) K
  · exact br_t (by decide) K
theorem qx_62 {post : Int32 → SX → Prop} {k : Nat} {lock w h : Int32} (hk : k < 16) (C : qx_C a_seenLock a_seenWitness a_seen) (ht : qs_timed lock = false) (H : ∀ (sp fa : Int32) (stk sl sw sn : Nat → Int32), qx_C sl sw sn → post (qa_B (qs_run lock w h)) (f_submitted, f_tipHeight, f_poolSize, sp, fa, a_inCount, a_outCount, a_sealed, a_inFrom, a_inWitness, a_amounts, a_locks, a_parent, a_work, a_state, a_order, a_txCount, a_txs, a_height, a_weight, a_main, a_unspent, a_home, a_before, a_path, a_pool, a_poolBefore, a_inPool, a_poolSpends, stk, sl, sw, sn)) : wX_opens_62 post lock w h (nI k) f_submitted f_tipHeight f_poolSize f_sp f_failed a_inCount a_outCount a_sealed a_inFrom a_inWitness a_amounts a_locks a_parent a_work a_state a_order a_txCount a_txs a_height a_weight a_main a_unspent a_home a_before a_path a_pool a_poolBefore a_inPool a_poolSpends a_stack a_seenLock a_seenWitness a_seen := by
  unfold wX_opens_62
  rw [nI_clamp (by omega)]
  refine ⟨vp_in_nI hk (by decide), fun sl esl => ⟨vp_in_nI hk (by decide), fun sw esw => qx_run fun sp fa stk => ?_⟩⟩
  have ind : ∀ h', qs_run lock w h' = qs_run lock w h := fun h' => qs_tm_h ht
  have C' : ∀ v : Int32, (v = if qs_run lock w h = true then 2 else 1) → qx_C sl sw (upd a_seen k v) := by
    intro v ev j hj
    by_cases z : j = k
    · subst z
      rw [esl, esw, pk_us, pk_us, pk_us]
      refine Or.inr ⟨ht, ?_⟩
      cases q : qs_run lock w h with
      | false => rw [q] at ev; exact Or.inl ⟨ev, fun h' => (ind h').trans q⟩
      | true => rw [q] at ev; exact Or.inr ⟨ev, fun h' => (ind h').trans q⟩
    · rw [esl, esw, pk_un z, pk_un z, pk_un z]
      exact C j hj
  dsimp only
  refine br_c (fun q => ?_) (fun q => ?_)
  · have q' := qa_Bz.mp q
    unfold wX_opens_99
    rw [nI_clamp (by omega)]
    refine ⟨vp_in_nI hk (by decide), fun s es => ?_⟩
    have es' : s = upd a_seen k 1 := by rw [es, pk_vb]; rfl
    subst es'
    exact qx_101 (r := qs_run lock w h) hk (by rw [pk_us, q']; rfl) (H _ _ _ _ _ _ (C' 1 (by rw [q']; rfl)))
  · have q' := qa_Bn.mp q
    unfold wX_opens_99
    rw [nI_clamp (by omega)]
    refine ⟨vp_in_nI hk (by decide), fun s es => ?_⟩
    have es' : s = upd a_seen k 2 := by rw [es, pk_vb]; rfl
    subst es'
    exact qx_101 (r := qs_run lock w h) hk (by rw [pk_us, q']; rfl) (H _ _ _ _ _ _ (C' 2 (by rw [q']; rfl)))
theorem qx_opens {post : Int32 → SX → Prop} {lock w h : Int32} (C : qx_C a_seenLock a_seenWitness a_seen) (H : ∀ (sp fa : Int32) (stk sl sw sn : Nat → Int32), qx_C sl sw sn → post (qa_B (qs_run lock w h)) (f_submitted, f_tipHeight, f_poolSize, sp, fa, a_inCount, a_outCount, a_sealed, a_inFrom, a_inWitness, a_amounts, a_locks, a_parent, a_work, a_state, a_order, a_txCount, a_txs, a_height, a_weight, a_main, a_unspent, a_home, a_before, a_path, a_pool, a_poolBefore, a_inPool, a_poolSpends, stk, sl, sw, sn)) : wpX_opens post (f_submitted, f_tipHeight, f_poolSize, f_sp, f_failed, a_inCount, a_outCount, a_sealed, a_inFrom, a_inWitness, a_amounts, a_locks, a_parent, a_work, a_state, a_order, a_txCount, a_txs, a_height, a_weight, a_main, a_unspent, a_home, a_before, a_path, a_pool, a_poolBefore, a_inPool, a_poolSpends, a_stack, a_seenLock, a_seenWitness, a_seen) lock w h := by
  unfold wpX_opens
  dsimp only
  refine qx_timed _ ?_
  refine br_c (fun q => ?_) (fun q => qx_run fun sp fa stk => ⟨qa_nb _, H _ _ _ _ _ _ C⟩)
  have ht := qa_Bz.mp q
  intro x4 e4
  obtain ⟨k, hk, ek⟩ := pk_andE ((lock ^^^ ((lock.toUInt32 >>> ((8 : Int32).toUInt32 &&& Int32.toUInt32 31)).toInt32)) ^^^ (w * 5)) (m := 15) 4 (by decide)
  rw [ek] at e4
  subst e4
  have hk' : k < 16 := hk
  have L : wX_opens_62 post lock w h (nI k) f_submitted f_tipHeight f_poolSize f_sp f_failed a_inCount a_outCount a_sealed a_inFrom a_inWitness a_amounts a_locks a_parent a_work a_state a_order a_txCount a_txs a_height a_weight a_main a_unspent a_home a_before a_path a_pool a_poolBefore a_inPool a_poolSpends a_stack a_seenLock a_seenWitness a_seen := qx_62 hk' C ht H
  rw [nI_clamp (by omega)]
  refine ⟨vp_in_nI hk' (by decide), br_c (fun _ => L) (fun s0 => ⟨vp_in_nI hk' (by decide), br_c (fun s1 => ⟨vp_in_nI hk' (by decide), br_c (fun s2 => ?_) (fun _ => L)⟩) (fun _ => L)⟩)⟩
  rcases C k hk' with z | ⟨_, ⟨z, y⟩ | ⟨z, y⟩⟩
  · exact absurd z s0
  · have y' := y h
    rw [s1, s2] at y'
    exact qx_101 (r := qs_run lock w h) hk' (by rw [z, y']; rfl) (H _ _ _ _ _ _ C)
  · have y' := y h
    rw [s1, s2] at y'
    exact qx_101 (r := qs_run lock w h) hk' (by rw [z, y']; rfl) (H _ _ _ _ _ _ C)
theorem qh_xi {A B : Prop} {t i : Nat} (W : qd_W D) (ht : t < 32) (hi : i ≤ qd_ic D t) (f : i = qd_ic D t → A) (g : i < qd_ic D t → B) : vp_in (nI t) 32 ∧ ((nI t * 2 + qa_i (qd_ic D) (nI t).toNatClampNeg ≤ nI (2 * t + i) → A) ∧ (¬ nI t * 2 + qa_i (qd_ic D) (nI t).toNatClampNeg ≤ nI (2 * t + i) → B)) := by
  have w := W.1 t
  rw [qa_at _ (show t < 2 ^ 31 by omega), qa_2, nI_leI (by omega) (by omega)]
  exact ⟨vp_in_nI ht (by decide), fun h => f (by omega), fun h => g (by omega)⟩
theorem qh_xo {A B : Prop} {t i : Nat} (W : qd_W D) (ht : t < 32) (hi : i ≤ qd_oc D t) (f : i = qd_oc D t → A) (g : i < qd_oc D t → B) : vp_in (nI t) 56 ∧ ((nI t * 2 + qa_i (qd_ox D) (nI t).toNatClampNeg ≤ nI (2 * t + i) → A) ∧ (¬ nI t * 2 + qa_i (qd_ox D) (nI t).toNatClampNeg ≤ nI (2 * t + i) → B)) := by
  have w := W.2.2.1 t
  rw [qa_at _ (show t < 2 ^ 31 by omega), qd_ox_lt ht, qa_2, nI_leI (by omega) (by omega)]
  exact ⟨vp_in_nI (by omega) (by decide), fun h => f (by omega), fun h => g (by omega)⟩
theorem qh_xt {A B : Prop} {b i : Nat} (W : qd_W D) (hb : b < 24) (hi : i ≤ qd_ct D b) (f : i = qd_ct D b → A) (g : i < qd_ct D b → B) : vp_in (nI b) 24 ∧ ((nI b * 3 + qa_i (qd_ct D) (nI b).toNatClampNeg ≤ nI (3 * b + i) → A) ∧ (¬ nI b * 3 + qa_i (qd_ct D) (nI b).toNatClampNeg ≤ nI (3 * b + i) → B)) := by
  have w := W.2.2.2.2.2.2.1 b
  rw [qa_at _ (show b < 2 ^ 31 by omega), qa_3, nI_leI (by omega) (by omega)]
  exact ⟨vp_in_nI hb (by decide), fun h => f (by omega), fun h => g (by omega)⟩
theorem qx_spends_l {post : Int32 → Prop} {t : Nat} (W : qd_W D) (ht : t < 32) (hp : post (qc_sp D t)) : ∀ d i, i + d = qd_ic D t → ∀ n, d < n → wX_spends_6 post (nI t) f_submitted f_tipHeight f_poolSize f_sp f_failed (qa_i (qd_ic D)) (qa_i (qd_ox D)) (qa_b (qd_se D)) (qa_i (qd_fr D)) (qd_wt D) (qd_am D) (qd_lk D) (qa_i (qd_pa D)) a_work a_state a_order (qa_i (qd_ct D)) (qa_i (qd_tx D)) (qa_i (qd_ht D)) a_weight a_main a_unspent a_home a_before a_path a_pool a_poolBefore a_inPool a_poolSpends a_stack a_seenLock a_seenWitness a_seen n (qa_s (fun i => qd_am D (qd_fr D (2 * t + i))) i) (nI (2 * t + i)) := by
  intro d
  induction d with
  | zero =>
    intro i hi n hn
    obtain ⟨n, rfl⟩ : ∃ q, n = q + 1 := ⟨n - 1, by omega⟩
    rw [wX_spends_6]
    refine qh_xi W ht (by omega) (fun e => ?_) (fun h => by omega)
    rw [e]; exact hp
  | succ d ih =>
    intro i hi n hn
    obtain ⟨n, rfl⟩ : ∃ q, n = q + 1 := ⟨n - 1, by omega⟩
    have w := W.1 t
    have w2 := W.2.2.2.1 (2 * t + i)
    rw [wX_spends_6]
    refine qh_xi W ht (by omega) (fun e => by omega) (fun h => ?_)
    rw [qa_at _ (show 2 * t + i < 2 ^ 31 by omega), nI_clamp (by omega), nI_1]
    refine ⟨vp_in_nI (by omega) (by decide), vp_in_nI w2 (by decide), nm_e (nm_e ?_)⟩
    exact ih (i + 1) (by omega) n (by omega)
theorem qx_spends {post : Int32 → Prop} {t : Nat} (W : qd_W D) (ht : t < 32) (hp : post (qc_sp D t)) : wpX_spends post (f_submitted, f_tipHeight, f_poolSize, f_sp, f_failed, (qa_i (qd_ic D)), (qa_i (qd_ox D)), (qa_b (qd_se D)), (qa_i (qd_fr D)), (qd_wt D), (qd_am D), (qd_lk D), (qa_i (qd_pa D)), a_work, a_state, a_order, (qa_i (qd_ct D)), (qa_i (qd_tx D)), (qa_i (qd_ht D)), a_weight, a_main, a_unspent, a_home, a_before, a_path, a_pool, a_poolBefore, a_inPool, a_poolSpends, a_stack, a_seenLock, a_seenWitness, a_seen) (nI t) := by
  unfold wpX_spends
  dsimp only
  rw [qa_20]
  exact nm_e ⟨_, qx_spends_l W ht hp (qd_ic D t) 0 (by omega) _ (Nat.lt_succ_self _)⟩
theorem qx_ss (a b c : Int32) : a - b - c = a - (b + c) := by grind
theorem qx_fee_l {post : Int32 → Prop} {t : Nat} (W : qd_W D) (ht : t < 32) (hp : post (qc_sp D t - qc_gv D t)) : ∀ d i, i + d = qd_oc D t → ∀ n, d < n → wX_fee_10 post (nI t) f_submitted f_tipHeight f_poolSize f_sp f_failed (qa_i (qd_ic D)) (qa_i (qd_ox D)) (qa_b (qd_se D)) (qa_i (qd_fr D)) (qd_wt D) (qd_am D) (qd_lk D) (qa_i (qd_pa D)) a_work a_state a_order (qa_i (qd_ct D)) (qa_i (qd_tx D)) (qa_i (qd_ht D)) a_weight a_main a_unspent a_home a_before a_path a_pool a_poolBefore a_inPool a_poolSpends a_stack a_seenLock a_seenWitness a_seen n (qc_sp D t - qa_s (fun i => qd_am D (2 * t + i)) i) (nI (2 * t + i)) := by
  intro d
  induction d with
  | zero =>
    intro i hi n hn
    obtain ⟨n, rfl⟩ : ∃ q, n = q + 1 := ⟨n - 1, by omega⟩
    rw [wX_fee_10]
    refine qh_xo W ht (by omega) (fun e => ?_) (fun h => by omega)
    rw [e]; exact hp
  | succ d ih =>
    intro i hi n hn
    obtain ⟨n, rfl⟩ : ∃ q, n = q + 1 := ⟨n - 1, by omega⟩
    have w := W.2.2.1 t
    rw [wX_fee_10]
    refine qh_xo W ht (by omega) (fun e => by omega) (fun h => ?_)
    rw [nI_clamp (by omega), nI_1, qx_ss]
    refine ⟨vp_in_nI (by omega) (by decide), nm_e (nm_e ?_)⟩
    exact ih (i + 1) (by omega) n (by omega)
theorem qx_fee {post : Int32 → Prop} {t : Nat} (W : qd_W D) (ht : t < 32) (hp : post (qc_sp D t - qc_gv D t)) : wpX_fee post (f_submitted, f_tipHeight, f_poolSize, f_sp, f_failed, (qa_i (qd_ic D)), (qa_i (qd_ox D)), (qa_b (qd_se D)), (qa_i (qd_fr D)), (qd_wt D), (qd_am D), (qd_lk D), (qa_i (qd_pa D)), a_work, a_state, a_order, (qa_i (qd_ct D)), (qa_i (qd_tx D)), (qa_i (qd_ht D)), a_weight, a_main, a_unspent, a_home, a_before, a_path, a_pool, a_poolBefore, a_inPool, a_poolSpends, a_stack, a_seenLock, a_seenWitness, a_seen) (nI t) := by
  unfold wpX_fee
  dsimp only
  refine qx_spends W ht ?_
  rw [qa_20]
  refine nm_e ⟨qd_oc D t + 1, ?_⟩
  have : wX_fee_10 post (nI t) f_submitted f_tipHeight f_poolSize f_sp f_failed (qa_i (qd_ic D)) (qa_i (qd_ox D)) (qa_b (qd_se D)) (qa_i (qd_fr D)) (qd_wt D) (qd_am D) (qd_lk D) (qa_i (qd_pa D)) a_work a_state a_order (qa_i (qd_ct D)) (qa_i (qd_tx D)) (qa_i (qd_ht D)) a_weight a_main a_unspent a_home a_before a_path a_pool a_poolBefore a_inPool a_poolSpends a_stack a_seenLock a_seenWitness a_seen (qd_oc D t + 1) (qc_sp D t - qa_s (fun i => qd_am D (2 * t + i)) 0) (nI (2 * t + 0)) := qx_fee_l W ht hp (qd_oc D t) 0 (by omega) (qd_oc D t + 1) (Nat.lt_succ_self _)
  have e : qc_sp D t - qa_s (fun i => qd_am D (2 * t + i)) 0 = qc_sp D t := Int32.sub_zero _
  rw [e] at this
  exact this
theorem qx_fits_l {post : Int32 → SX → Prop} {t h : Nat} {x3 : Int32} {av : Nat → Bool} (W : qd_W D) (ht : t < 32) (hh : h < 1000)
    (AV : ∀ (p : Int32 → Prop) (o : Nat) (sp fa : Int32) (stk sl sw sn : Nat → Int32), o < 112 → p (qa_B (av o)) → wpX_available p (f_submitted, f_tipHeight, f_poolSize, sp, fa, (qa_i (qd_ic D)), (qa_i (qd_ox D)), (qa_b (qd_se D)), (qa_i (qd_fr D)), (qd_wt D), (qd_am D), (qd_lk D), (qa_i (qd_pa D)), a_work, a_state, a_order, (qa_i (qd_ct D)), (qa_i (qd_tx D)), (qa_i (qd_ht D)), a_weight, a_main, a_unspent, a_home, a_before, a_path, a_pool, a_poolBefore, a_inPool, a_poolSpends, stk, sl, sw, sn) (nI o) x3)
    (NO : qc_oks D av h t (qd_ic D t) = true → (qc_sp D t - qc_gv D t < 0 ↔ ¬ qc_gv D t ≤ qc_sp D t))
    (H : ∀ (sp fa : Int32) (stk sl sw sn : Nat → Int32), qx_C sl sw sn → post (qa_B (qc_oks D av h t (qd_ic D t) && decide (qc_gv D t ≤ qc_sp D t))) (f_submitted, f_tipHeight, f_poolSize, sp, fa, (qa_i (qd_ic D)), (qa_i (qd_ox D)), (qa_b (qd_se D)), (qa_i (qd_fr D)), (qd_wt D), (qd_am D), (qd_lk D), (qa_i (qd_pa D)), a_work, a_state, a_order, (qa_i (qd_ct D)), (qa_i (qd_tx D)), (qa_i (qd_ht D)), a_weight, a_main, a_unspent, a_home, a_before, a_path, a_pool, a_poolBefore, a_inPool, a_poolSpends, stk, sl, sw, sn)) :
    ∀ d i (sp fa : Int32) (stk sl sw sn : Nat → Int32), qx_C sl sw sn → i + d = qd_ic D t → qc_oks D av h t i = true → ∀ n, d < n → wX_fits_89 post (nI t) (nI h) x3 n (nI (2 * t + i)) f_submitted f_tipHeight f_poolSize sp fa (qa_i (qd_ic D)) (qa_i (qd_ox D)) (qa_b (qd_se D)) (qa_i (qd_fr D)) (qd_wt D) (qd_am D) (qd_lk D) (qa_i (qd_pa D)) a_work a_state a_order (qa_i (qd_ct D)) (qa_i (qd_tx D)) (qa_i (qd_ht D)) a_weight a_main a_unspent a_home a_before a_path a_pool a_poolBefore a_inPool a_poolSpends stk sl sw sn := by
  intro d
  induction d with
  | zero =>
    intro i sp fa stk sl sw sn C hi ho n hn
    obtain ⟨n, rfl⟩ : ∃ q, n = q + 1 := ⟨n - 1, by omega⟩
    rw [wX_fits_89]
    refine qh_xi W ht (by omega) (fun e => ?_) (fun h => by omega)
    refine qx_fee W ht ?_
    have := H sp fa stk sl sw sn C
    rw [← e] at NO this
    rw [ho] at this
    refine br_c (fun q => ?_) (fun q => ?_)
    · rw [decide_eq_false ((NO ho).mp q)] at this; exact this
    · rw [decide_eq_true (Classical.not_not.mp fun z => q ((NO ho).mpr z))] at this; exact this
  | succ d ih =>
    intro i sp fa stk sl sw sn C hi ho n hn
    obtain ⟨n, rfl⟩ : ∃ q, n = q + 1 := ⟨n - 1, by omega⟩
    have w := W.1 t
    have w2 := W.2.2.2.1 (2 * t + i)
    have hw := W.2.2.2.2.2.2.2.2.2 (qd_fr D (2 * t + i) / 2 - 32)
    have F : qc_ok D av h (2 * t + i) = false → ∀ (sp fa : Int32) (stk sl sw sn : Nat → Int32), qx_C sl sw sn → post 0 (f_submitted, f_tipHeight, f_poolSize, sp, fa, (qa_i (qd_ic D)), (qa_i (qd_ox D)), (qa_b (qd_se D)), (qa_i (qd_fr D)), (qd_wt D), (qd_am D), (qd_lk D), (qa_i (qd_pa D)), a_work, a_state, a_order, (qa_i (qd_ct D)), (qa_i (qd_tx D)), (qa_i (qd_ht D)), a_weight, a_main, a_unspent, a_home, a_before, a_path, a_pool, a_poolBefore, a_inPool, a_poolSpends, stk, sl, sw, sn) := by
      intro e sp fa stk sl sw sn C
      have := H sp fa stk sl sw sn C
      rw [qc_oks_f (i := i) (by omega) e] at this
      exact this
    rw [wX_fits_89]
    refine qh_xi W ht (by omega) (fun e => by omega) (fun hlt => ?_)
    rw [qa_at _ (show 2 * t + i < 2 ^ 31 by omega)]
    refine ⟨vp_in_nI (by omega) (by decide), nm_e ?_⟩
    refine AV _ _ _ _ _ _ _ _ w2 ?_
    refine br_c (fun q => F (by unfold qc_ok; rw [qa_Bz.mp q]; rfl) _ _ _ _ _ _ C) (fun q => ?_)
    have k1 := qa_Bn.mp q
    have K : (qd_fr D (2 * t + i) < 64 ∨ qd_ht D (qd_fr D (2 * t + i) / 2 - 32) + 2 ≤ h) → wX_fits_152 post (wX_fits_89 post (nI t) (nI h) x3 n) (nI t) (nI h) x3 (nI (2 * t + i)) (nI (qd_fr D (2 * t + i))) f_submitted f_tipHeight f_poolSize sp fa (qa_i (qd_ic D)) (qa_i (qd_ox D)) (qa_b (qd_se D)) (qa_i (qd_fr D)) (qd_wt D) (qd_am D) (qd_lk D) (qa_i (qd_pa D)) a_work a_state a_order (qa_i (qd_ct D)) (qa_i (qd_tx D)) (qa_i (qd_ht D)) a_weight a_main a_unspent a_home a_before a_path a_pool a_poolBefore a_inPool a_poolSpends stk sl sw sn := by
      intro k2
      have k2' : (decide (qd_fr D (2 * t + i) < 64) || decide (qd_ht D (qd_fr D (2 * t + i) / 2 - 32) + 2 ≤ h)) = true := by
        rw [Bool.or_eq_true, decide_eq_true_eq, decide_eq_true_eq]; exact k2
      unfold wX_fits_152
      rw [nI_clamp (by omega), nI_clamp (by omega), nI_1]
      refine ⟨vp_in_nI w2 (by decide), vp_in_nI (by omega) (by decide), qx_opens C fun sp fa stk sl sw sn C => ?_⟩
      refine br_c (fun q => F ?_ _ _ _ _ _ _ C) (fun q => nm_e ?_)
      · unfold qc_ok; rw [k1, k2', qa_Bz.mp q]; rfl
      · refine ih (i + 1) sp fa stk sl sw sn C (by omega) ?_ n (by omega)
        show (qc_oks D av h t i && qc_ok D av h (2 * t + i)) = true
        unfold qc_ok
        rw [ho, k1, k2', qa_Bn.mp q]; rfl
    refine br_c (fun z => K (Or.inl ((nI_ltI (a := qd_fr D (2 * t + i)) (b := 64) (by omega) (by decide)).mp z))) (fun z => ?_)
    have z' : ¬ qd_fr D (2 * t + i) < 64 := fun y => z ((nI_ltI (a := qd_fr D (2 * t + i)) (b := 64) (by omega) (by decide)).mpr y)
    have e : nI (qd_fr D (2 * t + i)) >>> ((1 : Int32) &&& 31) - 32 = nI (qd_fr D (2 * t + i) / 2 - 32) := by
      rw [qa_shr1 (by omega)]; exact pk_sub (b := 32) (by omega)
    have e2 : nI (qd_ht D (qd_fr D (2 * t + i) / 2 - 32)) + 2 = nI (qd_ht D (qd_fr D (2 * t + i) / 2 - 32) + 2) := nI_add _ 2
    rw [e, qa_at _ (show qd_fr D (2 * t + i) / 2 - 32 < 2 ^ 31 by omega), e2, nI_leI (by omega) (by omega)]
    refine ⟨vp_in_nI (by omega) (by decide), br_c (fun y => K (Or.inr y)) (fun y => F ?_ _ _ _ _ _ _ C)⟩
    unfold qc_ok
    rw [decide_eq_false z', decide_eq_false y]; simp
/-- fits, from the place where both modes meet -/
theorem qx_51 {post : Int32 → SX → Prop} {t h : Nat} {x3 : Int32} {av : Nat → Bool} (W : qd_W D) (ht : t < 32) (hh : h < 1000) (C : qx_C a_seenLock a_seenWitness a_seen)
    (AV : ∀ (p : Int32 → Prop) (o : Nat) (sp fa : Int32) (stk sl sw sn : Nat → Int32), o < 112 → p (qa_B (av o)) → wpX_available p (f_submitted, f_tipHeight, f_poolSize, sp, fa, (qa_i (qd_ic D)), (qa_i (qd_ox D)), (qa_b (qd_se D)), (qa_i (qd_fr D)), (qd_wt D), (qd_am D), (qd_lk D), (qa_i (qd_pa D)), a_work, a_state, a_order, (qa_i (qd_ct D)), (qa_i (qd_tx D)), (qa_i (qd_ht D)), a_weight, a_main, a_unspent, a_home, a_before, a_path, a_pool, a_poolBefore, a_inPool, a_poolSpends, stk, sl, sw, sn) (nI o) x3)
    (NO : qc_oks D av h t (qd_ic D t) = true → qc_du D t = false → (qc_sp D t - qc_gv D t < 0 ↔ ¬ qc_gv D t ≤ qc_sp D t))
    (H : ∀ (sp fa : Int32) (stk sl sw sn : Nat → Int32), qx_C sl sw sn → post (qa_B (!qc_du D t && (qc_oks D av h t (qd_ic D t) && decide (qc_gv D t ≤ qc_sp D t)))) (f_submitted, f_tipHeight, f_poolSize, sp, fa, (qa_i (qd_ic D)), (qa_i (qd_ox D)), (qa_b (qd_se D)), (qa_i (qd_fr D)), (qd_wt D), (qd_am D), (qd_lk D), (qa_i (qd_pa D)), a_work, a_state, a_order, (qa_i (qd_ct D)), (qa_i (qd_tx D)), (qa_i (qd_ht D)), a_weight, a_main, a_unspent, a_home, a_before, a_path, a_pool, a_poolBefore, a_inPool, a_poolSpends, stk, sl, sw, sn)) : wX_fits_51 post (nI t) (nI h) x3 f_submitted f_tipHeight f_poolSize f_sp f_failed (qa_i (qd_ic D)) (qa_i (qd_ox D)) (qa_b (qd_se D)) (qa_i (qd_fr D)) (qd_wt D) (qd_am D) (qd_lk D) (qa_i (qd_pa D)) a_work a_state a_order (qa_i (qd_ct D)) (qa_i (qd_tx D)) (qa_i (qd_ht D)) a_weight a_main a_unspent a_home a_before a_path a_pool a_poolBefore a_inPool a_poolSpends a_stack a_seenLock a_seenWitness a_seen := by
  have w := W.1 t
  have a1 := W.2.2.2.1 (2 * t)
  have a2 := W.2.2.2.1 (2 * t + 1)
  unfold wX_fits_51
  have i1 : nI t * 2 + 1 = nI (2 * t + 1) := qa_2 t 1
  rw [qa_at _ (show t < 2 ^ 31 by omega), i1, qa_20, qa_at _ (show 2 * t < 2 ^ 31 by omega), qa_at _ (show 2 * t + 1 < 2 ^ 31 by omega)]
  have G : qc_du D t = false → ∀ x4 : Int32, x4 = nI (2 * t) → ∃ n89 : Nat, wX_fits_89 post (nI t) (nI h) x3 n89 x4 f_submitted f_tipHeight f_poolSize f_sp f_failed (qa_i (qd_ic D)) (qa_i (qd_ox D)) (qa_b (qd_se D)) (qa_i (qd_fr D)) (qd_wt D) (qd_am D) (qd_lk D) (qa_i (qd_pa D)) a_work a_state a_order (qa_i (qd_ct D)) (qa_i (qd_tx D)) (qa_i (qd_ht D)) a_weight a_main a_unspent a_home a_before a_path a_pool a_poolBefore a_inPool a_poolSpends a_stack a_seenLock a_seenWitness a_seen := by
    intro du x4 e4
    subst e4
    refine ⟨_, qx_fits_l W ht hh AV (fun o => NO o du) ?_ (qd_ic D t) 0 _ _ _ _ _ _ C (by omega) rfl _ (Nat.lt_succ_self _)⟩
    intro sp fa stk sl sw sn C
    have := H sp fa stk sl sw sn C
    rw [du] at this
    exact this
  have e2 : nI (qd_ic D t) = 2 ↔ qd_ic D t = 2 := nI_eq (b := 2) (by omega) (by decide)
  refine ⟨vp_in_nI ht (by decide), br_c (fun q => ⟨vp_in_nI (by omega) (by decide), vp_in_nI (by omega) (by decide), br_c (fun p => ?_) (fun p => G ?_)⟩) (fun q => G ?_)⟩
  · rw [nI_eq (by omega) (by omega)] at p
    have du : qc_du D t = true := by
      unfold qc_du
      rw [decide_eq_true (e2.mp q), decide_eq_true p]
      rfl
    have := H f_sp f_failed a_stack a_seenLock a_seenWitness a_seen C
    rw [du] at this
    exact this
  · rw [nI_eq (by omega) (by omega)] at p
    unfold qc_du
    rw [decide_eq_false p]; simp
  · unfold qc_du
    rw [decide_eq_false (fun z => q (e2.mpr z))]; simp
theorem qc_h_pos (hB : ∀ t, c.1 t = true → c.2.2 t < 25) {t : Nat} (ht : t < 56) : 0 ≤ qc_h c t ↔ c.1 t = true := by
  unfold qc_h
  rw [if_pos ht]
  cases q : c.1 t with
  | false => exact ⟨fun h => absurd (show (0 : Int32) ≤ -1 from h) (by decide), fun h => by cases h⟩
  | true => have := hB t q; exact ⟨fun _ => rfl, fun _ => nI_pos' (by omega)⟩
theorem qx_av0 {u : Nat → Bool} (p : Int32 → Prop) (o : Nat) (ho : o < 112) (h : p (qa_B (u o))) : wpX_available p (f_submitted, f_tipHeight, f_poolSize, f_sp, f_failed, a_inCount, a_outCount, a_sealed, a_inFrom, a_inWitness, a_amounts, a_locks, a_parent, a_work, a_state, a_order, a_txCount, a_txs, a_height, a_weight, a_main, (qa_b u), a_home, a_before, a_path, a_pool, a_poolBefore, a_inPool, a_poolSpends, a_stack, a_seenLock, a_seenWitness, a_seen) (nI o) 0 := by
  unfold wpX_available
  dsimp only
  rw [qa_bt _ (show o < 2 ^ 31 by omega)]
  exact br_t rfl ⟨vp_in_nI ho (by decide), qa_nb _, h⟩
theorem qx_fits0 {post : Int32 → SX → Prop} {t h : Nat} (W : qd_W D) (ht : t < 32) (hh : h < 1000) (C : qx_C a_seenLock a_seenWitness a_seen) (hB : ∀ t, c.1 t = true → c.2.2 t < 25) (B : qu_U D (qc_un D c) ≤ 2000)
    (H : ∀ (sp fa : Int32) (stk sl sw sn : Nat → Int32), qx_C sl sw sn → post (qa_B (qc_fit D c t h)) (f_submitted, f_tipHeight, f_poolSize, sp, fa, (qa_i (qd_ic D)), (qa_i (qd_ox D)), (qa_b (qd_se D)), (qa_i (qd_fr D)), (qd_wt D), (qd_am D), (qd_lk D), (qa_i (qd_pa D)), a_work, a_state, a_order, (qa_i (qd_ct D)), (qa_i (qd_tx D)), (qa_i (qd_ht D)), a_weight, a_main, (qa_b (qc_un D c)), (qc_h c), a_before, a_path, a_pool, a_poolBefore, a_inPool, a_poolSpends, stk, sl, sw, sn)) : wpX_fits post (f_submitted, f_tipHeight, f_poolSize, f_sp, f_failed, (qa_i (qd_ic D)), (qa_i (qd_ox D)), (qa_b (qd_se D)), (qa_i (qd_fr D)), (qd_wt D), (qd_am D), (qd_lk D), (qa_i (qd_pa D)), a_work, a_state, a_order, (qa_i (qd_ct D)), (qa_i (qd_tx D)), (qa_i (qd_ht D)), a_weight, a_main, (qa_b (qc_un D c)), (qc_h c), a_before, a_path, a_pool, a_poolBefore, a_inPool, a_poolSpends, a_stack, a_seenLock, a_seenWitness, a_seen) (nI t) (nI h) 0 := by
  have F : qc_fit D c t h = false → post 0 (f_submitted, f_tipHeight, f_poolSize, f_sp, f_failed, (qa_i (qd_ic D)), (qa_i (qd_ox D)), (qa_b (qd_se D)), (qa_i (qd_fr D)), (qd_wt D), (qd_am D), (qd_lk D), (qa_i (qd_pa D)), a_work, a_state, a_order, (qa_i (qd_ct D)), (qa_i (qd_tx D)), (qa_i (qd_ht D)), a_weight, a_main, (qa_b (qc_un D c)), (qc_h c), a_before, a_path, a_pool, a_poolBefore, a_inPool, a_poolSpends, a_stack, a_seenLock, a_seenWitness, a_seen) := by
    intro e
    have := H f_sp f_failed a_stack a_seenLock a_seenWitness a_seen C
    rw [e] at this
    exact this
  have w := W.1 t
  have wo := W.2.2.1 t
  unfold wpX_fits
  dsimp only
  rw [qa_bt _ (show t < 2 ^ 31 by omega), qa_at _ (show t < 2 ^ 31 by omega), qa_at _ (show t < 2 ^ 31 by omega), qd_ox_lt ht, nI_clamp (show t < 2 ^ 31 by omega), qc_h_pos hB (by omega)]
  refine ⟨vp_in_nI ht (by decide), br_c (fun q => F ?_) (fun q1 => ⟨vp_in_nI ht (by decide), br_c (fun q => F ?_) (fun q2 => ⟨vp_in_nI (by omega) (by decide), br_c (fun q => F ?_) (fun q3 => ⟨vp_in_nI (by omega) (by decide), br_c (fun q => F ?_) (fun q4 => br_t rfl ?_)⟩)⟩)⟩)⟩
  · unfold qc_fit qc_gf; rw [qa_Bz.mp q]; simp
  · rw [← nI_0, nI_eq (by omega) (by decide)] at q
    unfold qc_fit qc_gf; rw [q]; simp
  · rw [← nI_0, nI_eq (by omega) (by decide)] at q
    unfold qc_fit qc_gf; rw [q]; simp
  · unfold qc_fit; rw [q]; simp
  · rw [← nI_0, nI_eq (by omega) (by decide)] at q2 q3
    refine qx_51 (av := qc_un D c) W ht hh C (fun p o sp fa stk sl sw sn ho hp => qx_av0 p o ho hp) (fun o d => qu_sign W ht B o d) ?_
    intro sp fa stk sl sw sn C
    have := H sp fa stk sl sw sn C
    have e : qc_fit D c t h = (!qc_du D t && (qc_oks D (qc_un D c) h t (qd_ic D t) && decide (qc_gv D t ≤ qc_sp D t))) := by
      unfold qc_fit qc_gf
      rw [Bool.not_eq_true _ |>.mp q4, qa_Bn.mp q1, decide_eq_false q2, decide_eq_false q3]
      rfl
    rw [e] at this
    exact this
/-- the pool's own arrays -/
def qx_P (c cp : qc_T) (ip psd : Nat → Bool) : Prop := (∀ t, cp.1 t = (c.1 t || ip t)) ∧ (∀ o, cp.2.1 o = (c.2.1 o || psd o)) ∧ (∀ t, ip t = true → c.1 t = false ∧ t < 32)
theorem qx_av {G : Nat → Prop} {cp : qc_T} {ip psd : Nat → Bool} (I : qc_I D G c) (P : qx_P c cp ip psd) (o : Nat) : qc_un D cp o = (!psd o && (qc_un D c o || (ip (o / 2) && decide (o % 2 < qd_ox D (o / 2))))) := by
  unfold qc_un
  rw [P.1, P.2.1]
  cases q : ip (o / 2) with
  | false => cases c.1 (o / 2) <;> cases c.2.1 o <;> cases psd o <;> simp
  | true =>
    obtain ⟨x, y⟩ := P.2.2 _ q
    have z : c.2.1 o = false := by
      cases r : c.2.1 o with
      | false => rfl
      | true => rw [I.2 o r] at x; cases x
    rw [x, z, qd_ox_lt y]
    cases psd o <;> simp
theorem qx_av1 {G : Nat → Prop} {cp : qc_T} {ip psd : Nat → Bool} (W : qd_W D) (I : qc_I D G c) (P : qx_P c cp ip psd) (p : Int32 → Prop) (o : Nat) (ho : o < 112) (h : p (qa_B (qc_un D cp o))) : wpX_available p (f_submitted, f_tipHeight, f_poolSize, f_sp, f_failed, (qa_i (qd_ic D)), (qa_i (qd_ox D)), (qa_b (qd_se D)), (qa_i (qd_fr D)), (qd_wt D), (qd_am D), (qd_lk D), (qa_i (qd_pa D)), a_work, a_state, a_order, (qa_i (qd_ct D)), (qa_i (qd_tx D)), (qa_i (qd_ht D)), a_weight, a_main, (qa_b (qc_un D c)), (qc_h c), a_before, a_path, a_pool, a_poolBefore, (qa_b ip), (qa_b psd), a_stack, a_seenLock, a_seenWitness, a_seen) (nI o) 1 := by
  rw [qx_av I P] at h
  have w : qd_ox D (o / 2) ≤ 2 := by
    unfold qd_ox
    have := W.2.2.1 (o / 2)
    split <;> omega
  unfold wpX_available
  dsimp only
  rw [qa_shr1 (show o < 2 ^ 31 by omega), qa_and1 (show o < 2 ^ 31 by omega), qa_bt _ (show o < 2 ^ 31 by omega), qa_bt _ (show o < 2 ^ 31 by omega), qa_bt _ (show o / 2 < 2 ^ 31 by omega), qa_at _ (show o / 2 < 2 ^ 31 by omega), nI_leI (by omega) (by omega)]
  refine br_f (by decide) ⟨vp_in_nI ho (by decide), br_c (fun q1 => ⟨vp_in_nI ho (by decide), br_c (fun q2 => ⟨vp_in_nI (by omega) (by decide), br_c (fun q3 => ?_) (fun q3 => ⟨vp_in_nI (by omega) (by decide), br_c (fun q4 => ?_) (fun q4 => ?_)⟩)⟩) (fun q2 => ?_)⟩) (fun q1 => ?_)⟩
  · rw [qa_Bz.mp q1, qa_Bz.mp q2, qa_Bz.mp q3] at h; exact h
  · rw [qa_Bz.mp q1, qa_Bz.mp q2, qa_Bn.mp q3, decide_eq_false (show ¬ o % 2 < qd_ox D (o / 2) by omega)] at h; exact h
  · rw [qa_Bz.mp q1, qa_Bz.mp q2, qa_Bn.mp q3, decide_eq_true (show o % 2 < qd_ox D (o / 2) by omega)] at h; exact h
  · rw [qa_Bz.mp q1, qa_Bn.mp q2] at h; exact h
  · rw [qa_Bn.mp q1] at h; exact h
theorem qx_fits1 {G : Nat → Prop} {post : Int32 → SX → Prop} {t h : Nat} {cp : qc_T} {ip psd : Nat → Bool} (W : qd_W D) (ht : t < 32) (hh : h < 1000) (C : qx_C a_seenLock a_seenWitness a_seen) (hB : ∀ t, c.1 t = true → c.2.2 t < 25) (I : qc_I D G c) (P : qx_P c cp ip psd) (B : qu_U D (qc_un D cp) ≤ 2000)
    (H : ∀ (sp fa : Int32) (stk sl sw sn : Nat → Int32), qx_C sl sw sn → post (qa_B (qc_fit D cp t h)) (f_submitted, f_tipHeight, f_poolSize, sp, fa, (qa_i (qd_ic D)), (qa_i (qd_ox D)), (qa_b (qd_se D)), (qa_i (qd_fr D)), (qd_wt D), (qd_am D), (qd_lk D), (qa_i (qd_pa D)), a_work, a_state, a_order, (qa_i (qd_ct D)), (qa_i (qd_tx D)), (qa_i (qd_ht D)), a_weight, a_main, (qa_b (qc_un D c)), (qc_h c), a_before, a_path, a_pool, a_poolBefore, (qa_b ip), (qa_b psd), stk, sl, sw, sn)) : wpX_fits post (f_submitted, f_tipHeight, f_poolSize, f_sp, f_failed, (qa_i (qd_ic D)), (qa_i (qd_ox D)), (qa_b (qd_se D)), (qa_i (qd_fr D)), (qd_wt D), (qd_am D), (qd_lk D), (qa_i (qd_pa D)), a_work, a_state, a_order, (qa_i (qd_ct D)), (qa_i (qd_tx D)), (qa_i (qd_ht D)), a_weight, a_main, (qa_b (qc_un D c)), (qc_h c), a_before, a_path, a_pool, a_poolBefore, (qa_b ip), (qa_b psd), a_stack, a_seenLock, a_seenWitness, a_seen) (nI t) (nI h) 1 := by
  have F : qc_fit D cp t h = false → post 0 (f_submitted, f_tipHeight, f_poolSize, f_sp, f_failed, (qa_i (qd_ic D)), (qa_i (qd_ox D)), (qa_b (qd_se D)), (qa_i (qd_fr D)), (qd_wt D), (qd_am D), (qd_lk D), (qa_i (qd_pa D)), a_work, a_state, a_order, (qa_i (qd_ct D)), (qa_i (qd_tx D)), (qa_i (qd_ht D)), a_weight, a_main, (qa_b (qc_un D c)), (qc_h c), a_before, a_path, a_pool, a_poolBefore, (qa_b ip), (qa_b psd), a_stack, a_seenLock, a_seenWitness, a_seen) := by
    intro e
    have := H f_sp f_failed a_stack a_seenLock a_seenWitness a_seen C
    rw [e] at this
    exact this
  have w := W.1 t
  have wo := W.2.2.1 t
  unfold wpX_fits
  dsimp only
  rw [qa_bt _ (show t < 2 ^ 31 by omega), qa_at _ (show t < 2 ^ 31 by omega), qa_at _ (show t < 2 ^ 31 by omega), qd_ox_lt ht, qa_bt _ (show t < 2 ^ 31 by omega), nI_clamp (show t < 2 ^ 31 by omega), qc_h_pos hB (by omega)]
  refine ⟨vp_in_nI ht (by decide), br_c (fun q => F ?_) (fun q1 => ⟨vp_in_nI ht (by decide), br_c (fun q => F ?_) (fun q2 => ⟨vp_in_nI (by omega) (by decide), br_c (fun q => F ?_) (fun q3 => ⟨vp_in_nI (by omega) (by decide), br_c (fun q => F ?_) (fun q4 => br_f (by decide) ⟨vp_in_nI (by omega) (by decide), br_c (fun q5 => ?_) (fun q => F ?_)⟩)⟩)⟩)⟩)⟩
  · unfold qc_fit qc_gf; rw [qa_Bz.mp q]; simp
  · rw [← nI_0, nI_eq (by omega) (by decide)] at q
    unfold qc_fit qc_gf; rw [q]; simp
  · rw [← nI_0, nI_eq (by omega) (by decide)] at q
    unfold qc_fit qc_gf; rw [q]; simp
  · unfold qc_fit; rw [P.1, q]; simp
  · rw [← nI_0, nI_eq (by omega) (by decide)] at q2 q3
    refine qx_51 (av := qc_un D cp) W ht hh C (fun p o sp fa stk sl sw sn ho hp => qx_av1 W I P p o ho hp) (fun o d => qu_sign W ht B o d) ?_
    intro sp fa stk sl sw sn C
    have := H sp fa stk sl sw sn C
    have e : qc_fit D cp t h = (!qc_du D t && (qc_oks D (qc_un D cp) h t (qd_ic D t) && decide (qc_gv D t ≤ qc_sp D t))) := by
      unfold qc_fit qc_gf
      rw [P.1, Bool.not_eq_true _ |>.mp q4, qa_Bz.mp q5, qa_Bn.mp q1, decide_eq_false q2, decide_eq_false q3]
      rfl
    rw [e] at this
    exact this
  · unfold qc_fit; rw [P.1, qa_Bn.mp q]; simp
end
end
section
/-! X: the pool -/
section
variable {f_submitted f_tipHeight f_poolSize f_sp f_failed : Int32} {a_inCount a_outCount a_sealed a_inFrom a_inWitness a_amounts a_locks a_parent a_work a_state a_order a_txCount a_txs a_height a_weight a_main a_unspent a_home a_before a_path a_pool a_poolBefore a_inPool a_poolSpends a_stack a_seenLock a_seenWitness a_seen : Nat → Int32}
variable {D : qd_T} {c : qc_T}
theorem qx_ent_l {post : Int32 → SX → Prop} {t : Nat} {psd : Nat → Bool} (W : qd_W D) (ht : t < 32) (K : post 1 (f_submitted, f_tipHeight, f_poolSize, f_sp, f_failed, (qa_i (qd_ic D)), (qa_i (qd_ox D)), (qa_b (qd_se D)), (qa_i (qd_fr D)), (qd_wt D), (qd_am D), (qd_lk D), (qa_i (qd_pa D)), a_work, a_state, a_order, (qa_i (qd_ct D)), (qa_i (qd_tx D)), (qa_i (qd_ht D)), a_weight, a_main, a_unspent, a_home, a_before, a_path, a_pool, a_poolBefore, a_inPool, (qa_b (qc_w (fun i => qd_fr D (2 * t + i)) true psd (qd_ic D t))), a_stack, a_seenLock, a_seenWitness, a_seen)) : ∀ d i, i + d = qd_ic D t → ∀ n, d < n → wX_enter_55 post (nI t) f_submitted f_tipHeight f_poolSize f_sp f_failed n (nI (2 * t + i)) (qa_i (qd_ic D)) (qa_i (qd_ox D)) (qa_b (qd_se D)) (qa_i (qd_fr D)) (qd_wt D) (qd_am D) (qd_lk D) (qa_i (qd_pa D)) a_work a_state a_order (qa_i (qd_ct D)) (qa_i (qd_tx D)) (qa_i (qd_ht D)) a_weight a_main a_unspent a_home a_before a_path a_pool a_poolBefore a_inPool (qa_b (qc_w (fun i => qd_fr D (2 * t + i)) true psd i)) a_stack a_seenLock a_seenWitness a_seen := by
  intro d
  induction d with
  | zero =>
    intro i hi n hn
    obtain ⟨n, rfl⟩ : ∃ q, n = q + 1 := ⟨n - 1, by omega⟩
    rw [wX_enter_55]
    refine qh_xi W ht (by omega) (fun e => ?_) (fun h => by omega)
    rw [e]; exact K
  | succ d ih =>
    intro i hi n hn
    obtain ⟨n, rfl⟩ : ∃ q, n = q + 1 := ⟨n - 1, by omega⟩
    have w := W.1 t
    have w2 := W.2.2.2.1 (2 * t + i)
    rw [wX_enter_55]
    refine qh_xi W ht (by omega) (fun e => by omega) (fun h => ?_)
    rw [qa_at _ (show 2 * t + i < 2 ^ 31 by omega), nI_clamp (by omega), qa_bo1, qa_bu, nI_1]
    refine ⟨vp_in_nI (by omega) (by decide), vp_in_nI w2 (by decide), nm_e (nm_e ?_)⟩
    exact ih (i + 1) (by omega) n (by omega)
theorem qx_P_l {cp : qc_T} {ip psd : Nat → Bool} {t h : Nat} (P : qx_P c cp ip psd) (ht : t < 32) (f : qc_fit D cp t h = true) : qx_P c (qc_l D cp t 24) (qa_v ip t true) (qc_w (fun i => qd_fr D (2 * t + i)) true psd (qd_ic D t)) := by
  have hL := (qc_fit_iff.mp f).1
  rw [P.1, Bool.or_eq_false_iff] at hL
  refine ⟨fun s => ?_, fun o => ?_, fun s hs => ?_⟩
  · show qa_v cp.1 t true s = (c.1 s || qa_v ip t true s)
    by_cases z : s = t
    · subst z; rw [qa_vs, qa_vs]; simp
    · rw [qa_vn z, qa_vn z, P.1]
  · show (cp.2.1 o || qc_n (fun i => qd_fr D (2 * t + i)) (qd_ic D t) o) = _
    rw [qc_w_eq, P.2.1]
    by_cases z : qc_n (fun i => qd_fr D (2 * t + i)) (qd_ic D t) o = true
    · rw [if_pos z, z]; simp
    · rw [if_neg z, Bool.not_eq_true _ |>.mp z]; simp
  · by_cases z : s = t
    · subst z; exact ⟨hL.1, ht⟩
    · rw [qa_vn z] at hs; exact P.2.2 s hs
theorem qx_enter {G : Nat → Prop} {post : Int32 → SX → Prop} {t th : Nat} {P : qe_T} {ip psd : Nat → Bool} (W : qd_W D) (ht : t < 32) (hh : th < 900) (C : qx_C a_seenLock a_seenWitness a_seen) (hB : ∀ t, c.1 t = true → c.2.2 t < 25) (I : qc_I D G c) (B : qu_U D (qc_un D c) ≤ 2000) (hP : qe_V D (th + 1) c P) (X : qx_P c P.2.2 ip psd)
    (K : ∀ (sp fa : Int32) (stk sl sw sn : Nat → Int32) (ip psd : Nat → Bool), qx_C sl sw sn → qx_P c (qe_n D (th + 1) P t).2.2 ip psd → post (qa_B (qe_ok D (th + 1) P t)) (f_submitted, nI th, nI (qe_n D (th + 1) P t).1, sp, fa, (qa_i (qd_ic D)), (qa_i (qd_ox D)), (qa_b (qd_se D)), (qa_i (qd_fr D)), (qd_wt D), (qd_am D), (qd_lk D), (qa_i (qd_pa D)), a_work, a_state, a_order, (qa_i (qd_ct D)), (qa_i (qd_tx D)), (qa_i (qd_ht D)), a_weight, a_main, (qa_b (qc_un D c)), (qc_h c), a_before, a_path, (qa_i (qe_n D (th + 1) P t).2.1), a_poolBefore, (qa_b ip), (qa_b psd), stk, sl, sw, sn)) : wpX_enter post (f_submitted, nI th, nI P.1, f_sp, f_failed, (qa_i (qd_ic D)), (qa_i (qd_ox D)), (qa_b (qd_se D)), (qa_i (qd_fr D)), (qd_wt D), (qd_am D), (qd_lk D), (qa_i (qd_pa D)), a_work, a_state, a_order, (qa_i (qd_ct D)), (qa_i (qd_tx D)), (qa_i (qd_ht D)), a_weight, a_main, (qa_b (qc_un D c)), (qc_h c), a_before, a_path, (qa_i P.2.1), a_poolBefore, (qa_b ip), (qa_b psd), a_stack, a_seenLock, a_seenWitness, a_seen) (nI t) := by
  have h8 := hP.2.1
  have e8 : nI P.1 = 8 ↔ P.1 = 8 := nI_eq (b := 8) (by omega) (by decide)
  have U := qu_r W I B (fun i _ => hP.2.2 i) hP.1
  unfold wpX_enter
  dsimp only
  rw [nI_1]
  refine br_c (fun q => ?_) (fun q => ?_)
  · have o : qe_ok D (th + 1) P t = false := by unfold qe_ok; rw [decide_eq_true (e8.mp q)]; rfl
    have := K f_sp f_failed a_stack a_seenLock a_seenWitness a_seen ip psd C (by rw [qe_n_f o]; exact X)
    rw [qe_n_f o, o] at this
    exact this
  · have q' : ¬ P.1 = 8 := fun z => q (e8.mpr z)
    have o : qe_ok D (th + 1) P t = qc_fit D P.2.2 t (th + 1) := by unfold qe_ok; rw [decide_eq_false q']; rfl
    refine qx_fits1 W ht (by omega) C hB I X (by omega) (fun sp fa stk sl sw sn C => ?_)
    have KK := K sp fa stk sl sw sn
    refine br_c (fun z => ?_) (fun z => ?_)
    · have z' := qa_Bz.mp z
      rw [← o] at z'
      rw [qe_n_f z', z'] at KK
      exact KK ip psd C X
    · have z' := qa_Bn.mp z
      have KK2 := KK (qa_v ip t true) (qc_w (fun i => qd_fr D (2 * t + i)) true psd (qd_ic D t)) C
      rw [← o] at z'
      rw [qe_n_t z', z'] at KK2
      rw [o] at z'
      have KK3 := KK2 (qx_P_l X ht z')
      dsimp only
      rw [nI_1, nI_clamp (by omega), nI_clamp (by omega), qa_byi (by omega), qa_iu, qa_bo1, qa_bu, qa_20]
      refine nm_e ⟨vp_in_nI (by omega) (by decide), nm_e ⟨vp_in_nI (by omega) (by decide), nm_e (nm_e ⟨qd_ic D t + 1, ?_⟩)⟩⟩
      exact qx_ent_l W ht KK3 (qd_ic D t) 0 (by omega) _ (Nat.lt_succ_self _)
theorem qx_isTx {post : Int32 → Prop} {t : Nat} (ht : t < 32) (K : post 1) : wpX_isTx post (nI t) := by
  unfold wpX_isTx
  exact br_f (nI_pos (by omega)) (br_f (nI_ge (b := 32) ht (by decide)) K)
theorem qx_offer {G : Nat → Prop} {post : Int32 → SX → Prop} {t th : Nat} {P : qe_T} {ip psd : Nat → Bool} (W : qd_W D) (ht : t < 32) (hh : th < 900) (C : qx_C a_seenLock a_seenWitness a_seen) (hB : ∀ t, c.1 t = true → c.2.2 t < 25) (I : qc_I D G c) (B : qu_U D (qc_un D c) ≤ 2000) (hP : qe_V D (th + 1) c P) (X : qx_P c P.2.2 ip psd)
    (K : ∀ (sp fa : Int32) (stk sl sw sn : Nat → Int32) (ip psd : Nat → Bool), qx_C sl sw sn → qx_P c (qe_n D (th + 1) P t).2.2 ip psd → post (qa_B (qe_ok D (th + 1) P t)) (f_submitted, nI th, nI (qe_n D (th + 1) P t).1, sp, fa, (qa_i (qd_ic D)), (qa_i (qd_ox D)), (qa_b (qd_se D)), (qa_i (qd_fr D)), (qd_wt D), (qd_am D), (qd_lk D), (qa_i (qd_pa D)), a_work, a_state, a_order, (qa_i (qd_ct D)), (qa_i (qd_tx D)), (qa_i (qd_ht D)), a_weight, a_main, (qa_b (qc_un D c)), (qc_h c), a_before, a_path, (qa_i (qe_n D (th + 1) P t).2.1), a_poolBefore, (qa_b ip), (qa_b psd), stk, sl, sw, sn)) : wpX_offer post (f_submitted, nI th, nI P.1, f_sp, f_failed, (qa_i (qd_ic D)), (qa_i (qd_ox D)), (qa_b (qd_se D)), (qa_i (qd_fr D)), (qd_wt D), (qd_am D), (qd_lk D), (qa_i (qd_pa D)), a_work, a_state, a_order, (qa_i (qd_ct D)), (qa_i (qd_tx D)), (qa_i (qd_ht D)), a_weight, a_main, (qa_b (qc_un D c)), (qc_h c), a_before, a_path, (qa_i P.2.1), a_poolBefore, (qa_b ip), (qa_b psd), a_stack, a_seenLock, a_seenWitness, a_seen) (nI t) := by
  unfold wpX_offer
  dsimp only
  refine qx_isTx ht (br_f (by decide) ?_)
  refine qx_enter W ht hh C hB I B hP X (fun sp fa stk sl sw sn ip psd C X => ?_)
  have := K sp fa stk sl sw sn ip psd C X
  refine br_c (fun z => ?_) (fun z => ?_)
  · rw [qa_Bz.mp z] at this; exact this
  · rw [qa_Bn.mp z] at this; exact this
theorem qx_ea_l {G : Nat → Prop} {post : SX → Prop} {x th : Nat} {P : qe_T} (W : qd_W D) (hx : x < 24) (hh : th < 900) (hB : ∀ t, c.1 t = true → c.2.2 t < 25) (I : qc_I D G c) (B : qu_U D (qc_un D c) ≤ 2000) (hP : qe_V D (th + 1) c P)
    (K : ∀ (sp fa : Int32) (stk sl sw sn : Nat → Int32) (ip psd : Nat → Bool), qx_C sl sw sn → qx_P c (qe_N D (th + 1) (qc_g D x) P (qd_ct D x)).2.2 ip psd → post (f_submitted, nI th, nI (qe_N D (th + 1) (qc_g D x) P (qd_ct D x)).1, sp, fa, (qa_i (qd_ic D)), (qa_i (qd_ox D)), (qa_b (qd_se D)), (qa_i (qd_fr D)), (qd_wt D), (qd_am D), (qd_lk D), (qa_i (qd_pa D)), a_work, a_state, a_order, (qa_i (qd_ct D)), (qa_i (qd_tx D)), (qa_i (qd_ht D)), a_weight, a_main, (qa_b (qc_un D c)), (qc_h c), a_before, a_path, (qa_i (qe_N D (th + 1) (qc_g D x) P (qd_ct D x)).2.1), a_poolBefore, (qa_b ip), (qa_b psd), stk, sl, sw, sn)) :
    ∀ d i (sp fa : Int32) (stk sl sw sn : Nat → Int32) (ip psd : Nat → Bool), i + d = qd_ct D x → qx_C sl sw sn → qx_P c (qe_N D (th + 1) (qc_g D x) P i).2.2 ip psd → ∀ n, d < n → wX_enterAll_4 post (nI x) n (nI (3 * x + i)) f_submitted (nI th) (nI (qe_N D (th + 1) (qc_g D x) P i).1) sp fa (qa_i (qd_ic D)) (qa_i (qd_ox D)) (qa_b (qd_se D)) (qa_i (qd_fr D)) (qd_wt D) (qd_am D) (qd_lk D) (qa_i (qd_pa D)) a_work a_state a_order (qa_i (qd_ct D)) (qa_i (qd_tx D)) (qa_i (qd_ht D)) a_weight a_main (qa_b (qc_un D c)) (qc_h c) a_before a_path (qa_i (qe_N D (th + 1) (qc_g D x) P i).2.1) a_poolBefore (qa_b ip) (qa_b psd) stk sl sw sn := by
  have hc := W.2.2.2.2.2.2.1 x
  intro d
  induction d with
  | zero =>
    intro i sp fa stk sl sw sn ip psd hi C X n hn
    obtain ⟨n, rfl⟩ : ∃ q, n = q + 1 := ⟨n - 1, by omega⟩
    rw [wX_enterAll_4]
    refine qh_xt W hx (by omega) (fun e => ?_) (fun h => by omega)
    rw [e] at X ⊢
    exact K _ _ _ _ _ _ _ _ C X
  | succ d ih =>
    intro i sp fa stk sl sw sn ip psd hi C X n hn
    obtain ⟨n, rfl⟩ : ∃ q, n = q + 1 := ⟨n - 1, by omega⟩
    rw [wX_enterAll_4]
    refine qh_xt W hx (by omega) (fun e => by omega) (fun h => ?_)
    rw [qa_at _ (show 3 * x + i < 2 ^ 31 by omega), nI_1]
    refine ⟨vp_in_nI (by omega) (by decide), ?_⟩
    refine qx_enter W (W.2.2.2.2.2.2.2.1 _) hh C hB I B (qe_V_N hP (n := i) (fun i _ => qc_g_lt W)) X (fun sp fa stk sl sw sn ip psd C X => nm_e ?_)
    exact ih (i + 1) sp fa stk sl sw sn ip psd (by omega) C X n (by omega)
theorem qx_ea {G : Nat → Prop} {post : SX → Prop} {x th : Nat} {P : qe_T} {ip psd : Nat → Bool} (W : qd_W D) (hx : x < 24) (hh : th < 900) (C : qx_C a_seenLock a_seenWitness a_seen) (hB : ∀ t, c.1 t = true → c.2.2 t < 25) (I : qc_I D G c) (B : qu_U D (qc_un D c) ≤ 2000) (hP : qe_V D (th + 1) c P) (X : qx_P c P.2.2 ip psd)
    (K : ∀ (sp fa : Int32) (stk sl sw sn : Nat → Int32) (ip psd : Nat → Bool), qx_C sl sw sn → qx_P c (qe_N D (th + 1) (qc_g D x) P (qd_ct D x)).2.2 ip psd → post (f_submitted, nI th, nI (qe_N D (th + 1) (qc_g D x) P (qd_ct D x)).1, sp, fa, (qa_i (qd_ic D)), (qa_i (qd_ox D)), (qa_b (qd_se D)), (qa_i (qd_fr D)), (qd_wt D), (qd_am D), (qd_lk D), (qa_i (qd_pa D)), a_work, a_state, a_order, (qa_i (qd_ct D)), (qa_i (qd_tx D)), (qa_i (qd_ht D)), a_weight, a_main, (qa_b (qc_un D c)), (qc_h c), a_before, a_path, (qa_i (qe_N D (th + 1) (qc_g D x) P (qd_ct D x)).2.1), a_poolBefore, (qa_b ip), (qa_b psd), stk, sl, sw, sn)) : wpX_enterAll post (f_submitted, nI th, nI P.1, f_sp, f_failed, (qa_i (qd_ic D)), (qa_i (qd_ox D)), (qa_b (qd_se D)), (qa_i (qd_fr D)), (qd_wt D), (qd_am D), (qd_lk D), (qa_i (qd_pa D)), a_work, a_state, a_order, (qa_i (qd_ct D)), (qa_i (qd_tx D)), (qa_i (qd_ht D)), a_weight, a_main, (qa_b (qc_un D c)), (qc_h c), a_before, a_path, (qa_i P.2.1), a_poolBefore, (qa_b ip), (qa_b psd), a_stack, a_seenLock, a_seenWitness, a_seen) (nI x) := by
  unfold wpX_enterAll
  dsimp only
  rw [qa_30]
  refine nm_e ⟨qd_ct D x + 1, ?_⟩
  exact qx_ea_l W hx hh hB I B hP K (qd_ct D x) 0 _ _ _ _ _ _ _ _ (by omega) C X _ (Nat.lt_succ_self _)
theorem qx_106 {G : Nat → Prop} {post : SX → Prop} {th ps : Nat} {pl : Nat → Nat} {P : qe_T} (W : qd_W D) (hh : th < 900) (hps : ps ≤ 8) (hpl : ∀ i, pl i < 32) (hB : ∀ t, c.1 t = true → c.2.2 t < 25) (I : qc_I D G c) (B : qu_U D (qc_un D c) ≤ 2000) (hP : qe_V D (th + 1) c P) (ho : ∀ i, i < ps → a_poolBefore i = nI (pl i))
    (K : ∀ (sp fa : Int32) (stk sl sw sn : Nat → Int32) (ip psd : Nat → Bool), qx_C sl sw sn → qx_P c (qe_N D (th + 1) pl P ps).2.2 ip psd → post (f_submitted, nI th, nI (qe_N D (th + 1) pl P ps).1, sp, fa, (qa_i (qd_ic D)), (qa_i (qd_ox D)), (qa_b (qd_se D)), (qa_i (qd_fr D)), (qd_wt D), (qd_am D), (qd_lk D), (qa_i (qd_pa D)), a_work, a_state, a_order, (qa_i (qd_ct D)), (qa_i (qd_tx D)), (qa_i (qd_ht D)), a_weight, a_main, (qa_b (qc_un D c)), (qc_h c), a_before, a_path, (qa_i (qe_N D (th + 1) pl P ps).2.1), a_poolBefore, (qa_b ip), (qa_b psd), stk, sl, sw, sn)) :
    ∀ d i (sp fa : Int32) (stk sl sw sn : Nat → Int32) (ip psd : Nat → Bool), i + d = ps → qx_C sl sw sn → qx_P c (qe_N D (th + 1) pl P i).2.2 ip psd → ∀ n, d < n → wX_refill_106 post (nI ps) n (nI i) f_submitted (nI th) (nI (qe_N D (th + 1) pl P i).1) sp fa (qa_i (qd_ic D)) (qa_i (qd_ox D)) (qa_b (qd_se D)) (qa_i (qd_fr D)) (qd_wt D) (qd_am D) (qd_lk D) (qa_i (qd_pa D)) a_work a_state a_order (qa_i (qd_ct D)) (qa_i (qd_tx D)) (qa_i (qd_ht D)) a_weight a_main (qa_b (qc_un D c)) (qc_h c) a_before a_path (qa_i (qe_N D (th + 1) pl P i).2.1) a_poolBefore (qa_b ip) (qa_b psd) stk sl sw sn := by
  intro d
  induction d with
  | zero =>
    intro i sp fa stk sl sw sn ip psd hi C X n hn
    obtain ⟨n, rfl⟩ : ∃ q, n = q + 1 := ⟨n - 1, by omega⟩
    have e : i = ps := by omega
    subst e
    rw [wX_refill_106]
    exact br_t (nI_le (by omega) (by omega)) (K _ _ _ _ _ _ _ _ C X)
  | succ d ih =>
    intro i sp fa stk sl sw sn ip psd hi C X n hn
    obtain ⟨n, rfl⟩ : ∃ q, n = q + 1 := ⟨n - 1, by omega⟩
    rw [wX_refill_106]
    dsimp only
    rw [nI_clamp (show i < 2 ^ 31 by omega), ho i (by omega), nI_1]
    refine br_f (nI_ge (by omega) (by omega)) ⟨vp_in_nI (by omega) (by decide), ?_⟩
    refine qx_enter W (hpl i) hh C hB I B (qe_V_N hP (n := i) (fun i _ => hpl i)) X (fun sp fa stk sl sw sn ip psd C X => nm_e ?_)
    exact ih (i + 1) sp fa stk sl sw sn ip psd (by omega) C X n (by omega)
/-- whether a block is on the chain, as X asks -/
def qx_on (D : qd_T) (mn : Nat → Nat) (th x : Nat) : Bool := decide (qd_ht D x ≤ th) && decide (mn (qd_ht D x) = x)
theorem qx_in {post : Int32 → Prop} {mn : Nat → Nat} {th x : Nat} (W : qd_W D) (hx : x < 24) (hth : th < 24) (hm : ∀ i, mn i < 24) (K : post (qa_B (qx_on D mn th x))) : wpX_inChain post (f_submitted, nI th, f_poolSize, f_sp, f_failed, (qa_i (qd_ic D)), (qa_i (qd_ox D)), (qa_b (qd_se D)), (qa_i (qd_fr D)), (qd_wt D), (qd_am D), (qd_lk D), (qa_i (qd_pa D)), a_work, a_state, a_order, (qa_i (qd_ct D)), (qa_i (qd_tx D)), (qa_i (qd_ht D)), a_weight, (qa_i mn), a_unspent, a_home, a_before, a_path, a_pool, a_poolBefore, a_inPool, a_poolSpends, a_stack, a_seenLock, a_seenWitness, a_seen) (nI x) := by
  have hw := W.2.2.2.2.2.2.2.2.2 x
  have m1 := hm (qd_ht D x)
  unfold wpX_inChain
  dsimp only
  rw [qa_at _ (show x < 2 ^ 31 by omega), qa_at _ (show qd_ht D x < 2 ^ 31 by omega), nI_ltI (by omega) (by omega), nI_eq (by omega) (by omega)]
  unfold qx_on at K
  refine ⟨vp_in_nI hx (by decide), br_c (fun q => ?_) (fun q => ⟨vp_in_nI hx (by decide), vp_in_nI (by omega) (by decide), br_c (fun p => ?_) (fun p => ?_)⟩)⟩
  · rw [decide_eq_false (show ¬ qd_ht D x ≤ th by omega)] at K; exact K
  · rw [decide_eq_true (show qd_ht D x ≤ th by omega), decide_eq_true p] at K; exact K
  · rw [decide_eq_true (show qd_ht D x ≤ th by omega), decide_eq_false p] at K; exact K
theorem qx_on_eq {mn : Nat → Nat} {b x : Nat} (hm : ∀ i, i ≤ qd_ht D b → mn i = qp_p D b i) : qx_on D mn (qd_ht D b) x = qp_on D b x := by
  unfold qx_on qp_on
  by_cases z : qd_ht D x ≤ qd_ht D b
  · rw [hm _ z]
  · rw [decide_eq_false z]; rfl
theorem qx_70 {G : Nat → Prop} {post : SX → Prop} {b old ps : Nat} {pl mn : Nat → Nat} (W : qd_W D) (V : qd_G D G) (hold : G old) (hps : ps ≤ 8) (hpl : ∀ i, pl i < 32) (hB : ∀ t, c.1 t = true → c.2.2 t < 25) (I : qc_I D G c) (B : qu_U D (qc_un D c) ≤ 2000) (hm : ∀ i, mn i < 24) (hmn : ∀ i, i ≤ qd_ht D b → mn i = qp_p D b i) (ho : ∀ i, i < ps → a_poolBefore i = nI (pl i)) (hq : ∀ i, i ≤ qd_ht D old → a_before i = nI (qp_p D old i))
    (K : ∀ (sp fa : Int32) (stk sl sw sn : Nat → Int32) (ip psd : Nat → Bool), qx_C sl sw sn → qx_P c (qe_F D b old c ps pl).2.2 ip psd → post (f_submitted, nI (qd_ht D b), nI (qe_F D b old c ps pl).1, sp, fa, (qa_i (qd_ic D)), (qa_i (qd_ox D)), (qa_b (qd_se D)), (qa_i (qd_fr D)), (qd_wt D), (qd_am D), (qd_lk D), (qa_i (qd_pa D)), a_work, a_state, a_order, (qa_i (qd_ct D)), (qa_i (qd_tx D)), (qa_i (qd_ht D)), a_weight, (qa_i mn), (qa_b (qc_un D c)), (qc_h c), a_before, a_path, (qa_i (qe_F D b old c ps pl).2.1), a_poolBefore, (qa_b ip), (qa_b psd), stk, sl, sw, sn)) :
    ∀ d i (sp fa : Int32) (stk sl sw sn : Nat → Int32) (ip psd : Nat → Bool), i + d = qd_ht D old + 1 → qx_C sl sw sn → qx_P c (qe_C D b old (0, pl, c) i).2.2 ip psd → ∀ n, d < n → wX_refill_70 post (nI (qd_ht D old)) (nI ps) n (nI i) f_submitted (nI (qd_ht D b)) (nI (qe_C D b old (0, pl, c) i).1) sp fa (qa_i (qd_ic D)) (qa_i (qd_ox D)) (qa_b (qd_se D)) (qa_i (qd_fr D)) (qd_wt D) (qd_am D) (qd_lk D) (qa_i (qd_pa D)) a_work a_state a_order (qa_i (qd_ct D)) (qa_i (qd_tx D)) (qa_i (qd_ht D)) a_weight (qa_i mn) (qa_b (qc_un D c)) (qc_h c) a_before a_path (qa_i (qe_C D b old (0, pl, c) i).2.1) a_poolBefore (qa_b ip) (qa_b psd) stk sl sw sn := by
  have hw := W.2.2.2.2.2.2.2.2.2 old
  have hwb := W.2.2.2.2.2.2.2.2.2 b
  have h0 : qe_V D (qd_ht D b + 1) c (0, pl, c) := ⟨rfl, Nat.zero_le 8, hpl⟩
  intro d
  induction d with
  | zero =>
    intro i sp fa stk sl sw sn ip psd hi C X n hn
    obtain ⟨n, rfl⟩ : ∃ q, n = q + 1 := ⟨n - 1, by omega⟩
    have e : i = qd_ht D old + 1 := by omega
    subst e
    rw [wX_refill_70]
    refine br_t (nI_lt (by omega) (by omega)) ⟨ps + 1, ?_⟩
    exact qx_106 W (by omega) hps hpl hB I B (qe_V_C W h0) ho K ps 0 _ _ _ _ _ _ _ _ (by omega) C X _ (Nat.lt_succ_self _)
  | succ d ih =>
    intro i sp fa stk sl sw sn ip psd hi C X n hn
    obtain ⟨n, rfl⟩ : ∃ q, n = q + 1 := ⟨n - 1, by omega⟩
    obtain ⟨g1, g2⟩ := qp_p_G V hold (show i ≤ qd_ht D old by omega)
    have x24 := V.1 _ g1
    have ih' := fun sp fa stk sl sw sn ip psd => ih (i + 1) sp fa stk sl sw sn ip psd (by omega)
    rw [wX_refill_70]
    dsimp only
    rw [nI_clamp (show i < 2 ^ 31 by omega), hq i (by omega), nI_1]
    refine br_f (nI_nlt (by omega) (by omega)) ⟨vp_in_nI (by omega) (by decide), qx_in W x24 (by omega) hm ?_⟩
    rw [qx_on_eq hmn]
    refine br_c (fun z => ⟨vp_in_nI (by omega) (by decide), ?_⟩) (fun z => nm_e ?_)
    · have e : ¬ qp_on D b (qp_p D old i) = true := by rw [qa_Bz.mp z]; decide
      unfold qe_C at ih'
      rw [if_neg e] at ih'
      exact qx_ea W x24 (by omega) C hB I B (qe_V_C W h0) X (fun sp fa stk sl sw sn ip psd C X => nm_e (ih' sp fa stk sl sw sn ip psd C X n (by omega)))
    · have e : qp_on D b (qp_p D old i) = true := qa_Bn.mp z
      unfold qe_C at ih'
      rw [if_pos e] at ih'
      exact ih' _ _ _ _ _ _ _ _ C X n (by omega)
theorem qx_44 {post : SX → Prop} {x1 x2 : Int32} {psd : Nat → Bool} (T : ∀ k, 112 ≤ k → psd k = false) (K : ∃ n, wX_refill_70 post x1 x2 n 1 f_submitted f_tipHeight 0 f_sp f_failed a_inCount a_outCount a_sealed a_inFrom a_inWitness a_amounts a_locks a_parent a_work a_state a_order a_txCount a_txs a_height a_weight a_main a_unspent a_home a_before a_path a_pool a_poolBefore a_inPool (qa_b (fun _ => false)) a_stack a_seenLock a_seenWitness a_seen) : ∀ d i, i + d = 112 → ∀ n, d < n → wX_refill_44 post x1 x2 f_submitted f_tipHeight f_poolSize f_sp f_failed n (nI i) a_inCount a_outCount a_sealed a_inFrom a_inWitness a_amounts a_locks a_parent a_work a_state a_order a_txCount a_txs a_height a_weight a_main a_unspent a_home a_before a_path a_pool a_poolBefore a_inPool (qa_b (fun k => if k < i then false else psd k)) a_stack a_seenLock a_seenWitness a_seen := by
  intro d
  induction d with
  | zero =>
    intro i hi n hn
    obtain ⟨n, rfl⟩ : ∃ q, n = q + 1 := ⟨n - 1, by omega⟩
    have hi' : i = 112 := by omega
    subst hi'
    rw [wX_refill_44, qa_clr0 T]
    exact br_t (by decide) K
  | succ d ih =>
    intro i hi n hn
    obtain ⟨n, rfl⟩ : ∃ q, n = q + 1 := ⟨n - 1, by omega⟩
    rw [wX_refill_44]
    dsimp only
    rw [nI_clamp (by omega), qa_bo0, qa_bu, qa_clr, nI_1]
    refine br_f (nI_ge (b := 112) (by omega) (by decide)) ⟨vp_in_nI (by omega) (by decide), nm_e (nm_e ?_)⟩
    exact ih (i + 1) (by omega) n (by omega)
theorem qx_7 {post : SX → Prop} {x1 : Int32} {ps : Nat} {pl : Nat → Nat} {ip psd : Nat → Bool} (hps : ps ≤ 8) (hpl : ∀ i, pl i < 32) (T : ∀ k, 112 ≤ k → psd k = false) (hip : qc_w pl false ip ps = fun _ => false)
    (K : ∀ pb : Nat → Int32, (∀ i, i < ps → pb i = nI (pl i)) → ∃ n, wX_refill_70 post x1 (nI ps) n 1 f_submitted f_tipHeight 0 f_sp f_failed a_inCount a_outCount a_sealed a_inFrom a_inWitness a_amounts a_locks a_parent a_work a_state a_order a_txCount a_txs a_height a_weight a_main a_unspent a_home a_before a_path (qa_i pl) pb (qa_b (fun _ => false)) (qa_b (fun _ => false)) a_stack a_seenLock a_seenWitness a_seen) :
    ∀ d i (pb : Nat → Int32), i + d = ps → (∀ j, j < i → pb j = nI (pl j)) → ∀ n, d < n → wX_refill_7 post x1 (nI ps) f_submitted f_tipHeight f_poolSize f_sp f_failed n (nI i) a_inCount a_outCount a_sealed a_inFrom a_inWitness a_amounts a_locks a_parent a_work a_state a_order a_txCount a_txs a_height a_weight a_main a_unspent a_home a_before a_path (qa_i pl) pb (qa_b (qc_w pl false ip i)) (qa_b psd) a_stack a_seenLock a_seenWitness a_seen := by
  intro d
  induction d with
  | zero =>
    intro i pb hi ho n hn
    obtain ⟨n, rfl⟩ : ∃ q, n = q + 1 := ⟨n - 1, by omega⟩
    have hi' : i = ps := by omega
    subst hi'
    rw [wX_refill_7, hip]
    refine br_t (nI_le (by omega) (by omega)) ⟨113, ?_⟩
    have := qx_44 (f_submitted := f_submitted) (f_tipHeight := f_tipHeight) (f_poolSize := f_poolSize) (f_sp := f_sp) (f_failed := f_failed) T (K pb ho) 112 0 rfl 113 (by decide)
    rw [qa_clr00] at this
    exact this
  | succ d ih =>
    intro i pb hi ho n hn
    obtain ⟨n, rfl⟩ : ∃ q, n = q + 1 := ⟨n - 1, by omega⟩
    have hpi := hpl i
    rw [wX_refill_7]
    dsimp only
    rw [qa_at _ (show i < 2 ^ 31 by omega), nI_clamp (show i < 2 ^ 31 by omega), nI_clamp (show pl i < 2 ^ 31 by omega), qa_by (by omega), qa_bo0, qa_bu, nI_1]
    refine br_f (nI_ge (by omega) (by omega)) ⟨vp_in_nI (by omega) (by decide), vp_in_nI (by omega) (by decide), fun y ey => ⟨vp_in_nI (by omega) (by decide), vp_in_nI (by omega) (by decide), nm_e (nm_e ?_)⟩⟩
    refine ih (i + 1) y (by omega) (fun j hj => ?_) n (by omega)
    rw [ey]
    by_cases z : j = i
    · subst z; exact pk_us
    · rw [pk_un z]; exact ho j (by omega)
theorem qc_r_L1 {g : Nat → Nat} {h b t : Nat} : ∀ {n : Nat} {c' : qc_T}, qc_r D g h b c n = some c' → c'.1 t = (c.1 t || qc_n g n t)
  | 0, c', e => by cases e; simp [qc_n]
  | n + 1, c', e => by
    obtain ⟨c1, e1, f, rfl⟩ := qc_r_inv e
    have ih := qc_r_L1 (t := t) e1
    show qa_v c1.1 (g n) true t = (c.1 t || (qc_n g n t || decide (g n = t)))
    by_cases z : t = g n
    · subst z; rw [qa_vs, decide_eq_true rfl]; simp
    · rw [qa_vn z, ih, decide_eq_false (fun y => z y.symm)]; simp
theorem qe_C1 {G : Nat → Prop} {b old : Nat} {P : qe_T} (V : qd_G D G) (hb : G b) (hold : G old) : qe_C D b old P 1 = P := by
  have e : qp_on D b (qp_p D old 0) = true := by
    rw [qp_p_0 V hold]
    unfold qp_on
    rw [V.2.2.1.2, qp_p_0 V hb, decide_eq_true (Nat.zero_le _), decide_eq_true rfl]
    rfl
  unfold qe_C
  rw [if_pos e]
  rfl
/-- refill: from the pool of the old chain's state c0 to that of the new chain's c -/
theorem qx_refill {G : Nat → Prop} {post : SX → Prop} {b old : Nat} {P : qe_T} {c0 : qc_T} {ip psd : Nat → Bool} {mn : Nat → Nat} (W : qd_W D) (V : qd_G D G) (hb : G b) (hold : G old) (C : qx_C a_seenLock a_seenWitness a_seen) (hB : ∀ t, c.1 t = true → c.2.2 t < 25) (I : qc_I D G c) (B : qu_U D (qc_un D c) ≤ 2000) (I0 : qc_I D G c0) (B0 : qu_U D (qc_un D c0) ≤ 2000) (hP : qe_V D (qd_ht D old + 1) c0 P) (X : qx_P c0 P.2.2 ip psd) (hm : ∀ i, mn i < 24) (hmn : ∀ i, i ≤ qd_ht D b → mn i = qp_p D b i) (hq : ∀ i, i ≤ qd_ht D old → a_before i = nI (qp_p D old i))
    (K : ∀ (sp fa : Int32) (stk sl sw sn : Nat → Int32) (pb : Nat → Int32) (ip psd : Nat → Bool), qx_C sl sw sn → qx_P c (qe_F D b old c P.1 P.2.1).2.2 ip psd → post (f_submitted, nI (qd_ht D b), nI (qe_F D b old c P.1 P.2.1).1, sp, fa, (qa_i (qd_ic D)), (qa_i (qd_ox D)), (qa_b (qd_se D)), (qa_i (qd_fr D)), (qd_wt D), (qd_am D), (qd_lk D), (qa_i (qd_pa D)), a_work, a_state, a_order, (qa_i (qd_ct D)), (qa_i (qd_tx D)), (qa_i (qd_ht D)), a_weight, (qa_i mn), (qa_b (qc_un D c)), (qc_h c), a_before, a_path, (qa_i (qe_F D b old c P.1 P.2.1).2.1), pb, (qa_b ip), (qa_b psd), stk, sl, sw, sn)) : wpX_refill post (f_submitted, nI (qd_ht D b), nI P.1, f_sp, f_failed, (qa_i (qd_ic D)), (qa_i (qd_ox D)), (qa_b (qd_se D)), (qa_i (qd_fr D)), (qd_wt D), (qd_am D), (qd_lk D), (qa_i (qd_pa D)), a_work, a_state, a_order, (qa_i (qd_ct D)), (qa_i (qd_tx D)), (qa_i (qd_ht D)), a_weight, (qa_i mn), (qa_b (qc_un D c)), (qc_h c), a_before, a_path, (qa_i P.2.1), a_poolBefore, (qa_b ip), (qa_b psd), a_stack, a_seenLock, a_seenWitness, a_seen) (nI (qd_ht D old)) := by
  have U := qu_r W I0 B0 (fun i _ => hP.2.2 i) hP.1
  have T := qy_T_I V U.1
  have T2 : ∀ k, 112 ≤ k → psd k = false := by
    intro k hk
    have := T.2 k hk
    rw [X.2.1, Bool.or_eq_false_iff] at this
    exact this.2
  have hip : qc_w P.2.1 false ip P.1 = fun _ => false := by
    funext t
    rw [qc_w_eq]
    by_cases z : qc_n P.2.1 P.1 t = true
    · rw [if_pos z]
    · rw [if_neg z]
      cases q : ip t with
      | false => rfl
      | true =>
        have a := qc_r_L1 (t := t) hP.1
        rw [X.1, q, (X.2.2 t q).1, Bool.not_eq_true _ |>.mp z] at a
        exact a
  unfold wpX_refill
  dsimp only
  refine ⟨P.1 + 1, ?_⟩
  have h0 : qx_P c c (fun _ => false) (fun _ => false) := ⟨fun t => by simp, fun o => by simp, fun t h => by cases h⟩
  refine qx_7 hP.2.1 hP.2.2 T2 hip (fun pb hpb => ⟨qd_ht D old + 1, ?_⟩) P.1 0 a_poolBefore (by omega) (fun j hj => by omega) _ (Nat.lt_succ_self _)
  have KK := qx_70 (f_submitted := f_submitted) (a_work := a_work) (a_state := a_state) (a_order := a_order) (a_weight := a_weight) (a_path := a_path) (a_before := a_before) (a_poolBefore := pb) (post := post) (b := b) (old := old) (ps := P.1) (pl := P.2.1) (mn := mn) W V hold hP.2.1 hP.2.2 hB I B hm hmn hpb hq (fun sp fa stk sl sw sn ip psd C X => K sp fa stk sl sw sn pb ip psd C X) (qd_ht D old) 1 f_sp f_failed a_stack a_seenLock a_seenWitness a_seen (fun _ => false) (fun _ => false) (by omega) C (by rw [qe_C1 V hb hold]; exact h0) (qd_ht D old + 1) (by omega)
  rw [qe_C1 V hb hold] at KK
  exact KK
end
end
section
/-! X: apply, unapply, takeBack, connect, disconnect -/
section
variable {f_submitted f_tipHeight f_poolSize f_sp f_failed : Int32} {a_inCount a_outCount a_sealed a_inFrom a_inWitness a_amounts a_locks a_parent a_work a_state a_order a_txCount a_txs a_height a_weight a_main a_unspent a_home a_before a_path a_pool a_poolBefore a_inPool a_poolSpends a_stack a_seenLock a_seenWitness a_seen : Nat → Int32}
variable {D : qd_T} {c : qc_T}
theorem qx_ap48 {post : SX → Prop} {t : Nat} {u : Nat → Bool} (W : qd_W D) (ht : t < 32) (K : post (f_submitted, f_tipHeight, f_poolSize, f_sp, f_failed, (qa_i (qd_ic D)), (qa_i (qd_ox D)), (qa_b (qd_se D)), (qa_i (qd_fr D)), (qd_wt D), (qd_am D), (qd_lk D), (qa_i (qd_pa D)), a_work, a_state, a_order, (qa_i (qd_ct D)), (qa_i (qd_tx D)), (qa_i (qd_ht D)), a_weight, a_main, (qa_b (qc_w (fun i => 2 * t + i) true u (qd_oc D t))), a_home, a_before, a_path, a_pool, a_poolBefore, a_inPool, a_poolSpends, a_stack, a_seenLock, a_seenWitness, a_seen)) : ∀ d i, i + d = qd_oc D t → ∀ n, d < n → wX_apply_48 post (nI t) f_submitted f_tipHeight f_poolSize f_sp f_failed n (nI (2 * t + i)) (qa_i (qd_ic D)) (qa_i (qd_ox D)) (qa_b (qd_se D)) (qa_i (qd_fr D)) (qd_wt D) (qd_am D) (qd_lk D) (qa_i (qd_pa D)) a_work a_state a_order (qa_i (qd_ct D)) (qa_i (qd_tx D)) (qa_i (qd_ht D)) a_weight a_main (qa_b (qc_w (fun i => 2 * t + i) true u i)) a_home a_before a_path a_pool a_poolBefore a_inPool a_poolSpends a_stack a_seenLock a_seenWitness a_seen := by
  intro d
  induction d with
  | zero =>
    intro i hi n hn
    obtain ⟨n, rfl⟩ : ∃ q, n = q + 1 := ⟨n - 1, by omega⟩
    rw [wX_apply_48]
    refine qh_xo W ht (by omega) (fun e => ?_) (fun h => by omega)
    rw [e]; exact K
  | succ d ih =>
    intro i hi n hn
    obtain ⟨n, rfl⟩ : ∃ q, n = q + 1 := ⟨n - 1, by omega⟩
    have w := W.2.2.1 t
    rw [wX_apply_48]
    refine qh_xo W ht (by omega) (fun e => by omega) (fun h => ?_)
    rw [nI_clamp (by omega), qa_bo1, qa_bu, nI_1]
    refine ⟨vp_in_nI (by omega) (by decide), nm_e (nm_e ?_)⟩
    exact ih (i + 1) (by omega) n (by omega)
theorem qx_ap12 {post : SX → Prop} {t : Nat} {u : Nat → Bool} (W : qd_W D) (ht : t < 32) (K : post (f_submitted, f_tipHeight, f_poolSize, f_sp, f_failed, (qa_i (qd_ic D)), (qa_i (qd_ox D)), (qa_b (qd_se D)), (qa_i (qd_fr D)), (qd_wt D), (qd_am D), (qd_lk D), (qa_i (qd_pa D)), a_work, a_state, a_order, (qa_i (qd_ct D)), (qa_i (qd_tx D)), (qa_i (qd_ht D)), a_weight, a_main, (qa_b (qc_w (fun i => 2 * t + i) true (qc_w (fun i => qd_fr D (2 * t + i)) false u (qd_ic D t)) (qd_oc D t))), a_home, a_before, a_path, a_pool, a_poolBefore, a_inPool, a_poolSpends, a_stack, a_seenLock, a_seenWitness, a_seen)) : ∀ d i, i + d = qd_ic D t → ∀ n, d < n → wX_apply_12 post (nI t) f_submitted f_tipHeight f_poolSize f_sp f_failed n (nI (2 * t + i)) (qa_i (qd_ic D)) (qa_i (qd_ox D)) (qa_b (qd_se D)) (qa_i (qd_fr D)) (qd_wt D) (qd_am D) (qd_lk D) (qa_i (qd_pa D)) a_work a_state a_order (qa_i (qd_ct D)) (qa_i (qd_tx D)) (qa_i (qd_ht D)) a_weight a_main (qa_b (qc_w (fun i => qd_fr D (2 * t + i)) false u i)) a_home a_before a_path a_pool a_poolBefore a_inPool a_poolSpends a_stack a_seenLock a_seenWitness a_seen := by
  intro d
  induction d with
  | zero =>
    intro i hi n hn
    obtain ⟨n, rfl⟩ : ∃ q, n = q + 1 := ⟨n - 1, by omega⟩
    rw [wX_apply_12]
    refine qh_xi W ht (by omega) (fun e => ?_) (fun h => by omega)
    rw [e, qa_20]
    exact nm_e ⟨_, qx_ap48 W ht K (qd_oc D t) 0 (by omega) _ (Nat.lt_succ_self _)⟩
  | succ d ih =>
    intro i hi n hn
    obtain ⟨n, rfl⟩ : ∃ q, n = q + 1 := ⟨n - 1, by omega⟩
    have w := W.1 t
    have w2 := W.2.2.2.1 (2 * t + i)
    rw [wX_apply_12]
    refine qh_xi W ht (by omega) (fun e => by omega) (fun h => ?_)
    rw [qa_at _ (show 2 * t + i < 2 ^ 31 by omega), nI_clamp (by omega), qa_bo0, qa_bu, nI_1]
    refine ⟨vp_in_nI (by omega) (by decide), vp_in_nI w2 (by decide), nm_e (nm_e ?_)⟩
    exact ih (i + 1) (by omega) n (by omega)
theorem qx_apply {G : Nat → Prop} {post : SX → Prop} {t h b : Nat} (W : qd_W D) (I : qc_I D G c) (ht : t < 32) (hb : b < 24) (f : qc_fit D c t h = true) (K : post (f_submitted, f_tipHeight, f_poolSize, f_sp, f_failed, (qa_i (qd_ic D)), (qa_i (qd_ox D)), (qa_b (qd_se D)), (qa_i (qd_fr D)), (qd_wt D), (qd_am D), (qd_lk D), (qa_i (qd_pa D)), a_work, a_state, a_order, (qa_i (qd_ct D)), (qa_i (qd_tx D)), (qa_i (qd_ht D)), a_weight, a_main, (qa_b (qc_un D (qc_l D c t b))), (qc_h (qc_l D c t b)), a_before, a_path, a_pool, a_poolBefore, a_inPool, a_poolSpends, a_stack, a_seenLock, a_seenWitness, a_seen)) : wpX_apply post (f_submitted, f_tipHeight, f_poolSize, f_sp, f_failed, (qa_i (qd_ic D)), (qa_i (qd_ox D)), (qa_b (qd_se D)), (qa_i (qd_fr D)), (qd_wt D), (qd_am D), (qd_lk D), (qa_i (qd_pa D)), a_work, a_state, a_order, (qa_i (qd_ct D)), (qa_i (qd_tx D)), (qa_i (qd_ht D)), a_weight, a_main, (qa_b (qc_un D c)), (qc_h c), a_before, a_path, a_pool, a_poolBefore, a_inPool, a_poolSpends, a_stack, a_seenLock, a_seenWitness, a_seen) (nI t) (nI b) := by
  unfold wpX_apply
  dsimp only
  rw [nI_clamp (show t < 2 ^ 31 by omega), qa_byi (by omega), qa_20, qc_h_l (D := D)]
  rw [← qc_apply W I f] at K
  exact ⟨vp_in_nI (by omega) (by decide), nm_e (nm_e ⟨_, qx_ap12 W ht K (qd_ic D t) 0 (by omega) _ (Nat.lt_succ_self _)⟩)⟩
theorem qx_un35 {post : SX → Prop} {t : Nat} {u : Nat → Bool} (W : qd_W D) (ht : t < 32) (K : post (f_submitted, f_tipHeight, f_poolSize, f_sp, f_failed, (qa_i (qd_ic D)), (qa_i (qd_ox D)), (qa_b (qd_se D)), (qa_i (qd_fr D)), (qd_wt D), (qd_am D), (qd_lk D), (qa_i (qd_pa D)), a_work, a_state, a_order, (qa_i (qd_ct D)), (qa_i (qd_tx D)), (qa_i (qd_ht D)), a_weight, a_main, (qa_b (qc_w (fun i => qd_fr D (2 * t + i)) true u (qd_ic D t))), (upd a_home t (-1)), a_before, a_path, a_pool, a_poolBefore, a_inPool, a_poolSpends, a_stack, a_seenLock, a_seenWitness, a_seen)) : ∀ d i, i + d = qd_ic D t → ∀ n, d < n → wX_unapply_35 post (nI t) f_submitted f_tipHeight f_poolSize f_sp f_failed n (nI (2 * t + i)) (qa_i (qd_ic D)) (qa_i (qd_ox D)) (qa_b (qd_se D)) (qa_i (qd_fr D)) (qd_wt D) (qd_am D) (qd_lk D) (qa_i (qd_pa D)) a_work a_state a_order (qa_i (qd_ct D)) (qa_i (qd_tx D)) (qa_i (qd_ht D)) a_weight a_main (qa_b (qc_w (fun i => qd_fr D (2 * t + i)) true u i)) a_home a_before a_path a_pool a_poolBefore a_inPool a_poolSpends a_stack a_seenLock a_seenWitness a_seen := by
  intro d
  induction d with
  | zero =>
    intro i hi n hn
    obtain ⟨n, rfl⟩ : ∃ q, n = q + 1 := ⟨n - 1, by omega⟩
    rw [wX_unapply_35]
    refine qh_xi W ht (by omega) (fun e => ?_) (fun h => by omega)
    rw [e, nI_clamp (show t < 2 ^ 31 by omega), qa_m1]
    exact ⟨vp_in_nI (by omega) (by decide), nm_e K⟩
  | succ d ih =>
    intro i hi n hn
    obtain ⟨n, rfl⟩ : ∃ q, n = q + 1 := ⟨n - 1, by omega⟩
    have w := W.1 t
    have w2 := W.2.2.2.1 (2 * t + i)
    rw [wX_unapply_35]
    refine qh_xi W ht (by omega) (fun e => by omega) (fun h => ?_)
    rw [qa_at _ (show 2 * t + i < 2 ^ 31 by omega), nI_clamp (by omega), qa_bo1, qa_bu, nI_1]
    refine ⟨vp_in_nI (by omega) (by decide), vp_in_nI w2 (by decide), nm_e (nm_e ?_)⟩
    exact ih (i + 1) (by omega) n (by omega)
theorem qx_un4 {post : SX → Prop} {t : Nat} {u : Nat → Bool} (W : qd_W D) (ht : t < 32) (K : post (f_submitted, f_tipHeight, f_poolSize, f_sp, f_failed, (qa_i (qd_ic D)), (qa_i (qd_ox D)), (qa_b (qd_se D)), (qa_i (qd_fr D)), (qd_wt D), (qd_am D), (qd_lk D), (qa_i (qd_pa D)), a_work, a_state, a_order, (qa_i (qd_ct D)), (qa_i (qd_tx D)), (qa_i (qd_ht D)), a_weight, a_main, (qa_b (qc_w (fun i => qd_fr D (2 * t + i)) true (qc_w (fun i => 2 * t + i) false u (qd_oc D t)) (qd_ic D t))), (upd a_home t (-1)), a_before, a_path, a_pool, a_poolBefore, a_inPool, a_poolSpends, a_stack, a_seenLock, a_seenWitness, a_seen)) : ∀ d i, i + d = qd_oc D t → ∀ n, d < n → wX_unapply_4 post (nI t) f_submitted f_tipHeight f_poolSize f_sp f_failed n (nI (2 * t + i)) (qa_i (qd_ic D)) (qa_i (qd_ox D)) (qa_b (qd_se D)) (qa_i (qd_fr D)) (qd_wt D) (qd_am D) (qd_lk D) (qa_i (qd_pa D)) a_work a_state a_order (qa_i (qd_ct D)) (qa_i (qd_tx D)) (qa_i (qd_ht D)) a_weight a_main (qa_b (qc_w (fun i => 2 * t + i) false u i)) a_home a_before a_path a_pool a_poolBefore a_inPool a_poolSpends a_stack a_seenLock a_seenWitness a_seen := by
  intro d
  induction d with
  | zero =>
    intro i hi n hn
    obtain ⟨n, rfl⟩ : ∃ q, n = q + 1 := ⟨n - 1, by omega⟩
    rw [wX_unapply_4]
    refine qh_xo W ht (by omega) (fun e => ?_) (fun h => by omega)
    rw [e, qa_20]
    exact nm_e ⟨_, qx_un35 W ht K (qd_ic D t) 0 (by omega) _ (Nat.lt_succ_self _)⟩
  | succ d ih =>
    intro i hi n hn
    obtain ⟨n, rfl⟩ : ∃ q, n = q + 1 := ⟨n - 1, by omega⟩
    have w := W.2.2.1 t
    rw [wX_unapply_4]
    refine qh_xo W ht (by omega) (fun e => by omega) (fun h => ?_)
    rw [nI_clamp (by omega), qa_bo0, qa_bu, nI_1]
    refine ⟨vp_in_nI (by omega) (by decide), nm_e (nm_e ?_)⟩
    exact ih (i + 1) (by omega) n (by omega)
theorem qx_unapply {G : Nat → Prop} {post : SX → Prop} {t h b : Nat} (W : qd_W D) (I : qc_I D G c) (ht : t < 32) (f : qc_fit D c t h = true) (K : post (f_submitted, f_tipHeight, f_poolSize, f_sp, f_failed, (qa_i (qd_ic D)), (qa_i (qd_ox D)), (qa_b (qd_se D)), (qa_i (qd_fr D)), (qd_wt D), (qd_am D), (qd_lk D), (qa_i (qd_pa D)), a_work, a_state, a_order, (qa_i (qd_ct D)), (qa_i (qd_tx D)), (qa_i (qd_ht D)), a_weight, a_main, (qa_b (qc_un D c)), (qc_h c), a_before, a_path, a_pool, a_poolBefore, a_inPool, a_poolSpends, a_stack, a_seenLock, a_seenWitness, a_seen)) : wpX_unapply post (f_submitted, f_tipHeight, f_poolSize, f_sp, f_failed, (qa_i (qd_ic D)), (qa_i (qd_ox D)), (qa_b (qd_se D)), (qa_i (qd_fr D)), (qd_wt D), (qd_am D), (qd_lk D), (qa_i (qd_pa D)), a_work, a_state, a_order, (qa_i (qd_ct D)), (qa_i (qd_tx D)), (qa_i (qd_ht D)), a_weight, a_main, (qa_b (qc_un D (qc_l D c t b))), (qc_h (qc_l D c t b)), a_before, a_path, a_pool, a_poolBefore, a_inPool, a_poolSpends, a_stack, a_seenLock, a_seenWitness, a_seen) (nI t) := by
  unfold wpX_unapply
  dsimp only
  rw [qa_20]
  rw [← qc_unapply (b := b) W I f, ← qc_h_u (D := D) (b := b) (show t < 56 by omega) (qc_fit_iff.mp f).1] at K
  exact nm_e ⟨_, qx_un4 W ht K (qd_oc D t) 0 (by omega) _ (Nat.lt_succ_self _)⟩
theorem qx_tb_l {G : Nat → Prop} {post : SX → Prop} {b h : Nat} (W : qd_W D) (I : qc_I D G c) (B : qu_U D (qc_un D c) ≤ 2000) (hb : b < 24) (K : post (f_submitted, f_tipHeight, f_poolSize, f_sp, f_failed, (qa_i (qd_ic D)), (qa_i (qd_ox D)), (qa_b (qd_se D)), (qa_i (qd_fr D)), (qd_wt D), (qd_am D), (qd_lk D), (qa_i (qd_pa D)), a_work, a_state, a_order, (qa_i (qd_ct D)), (qa_i (qd_tx D)), (qa_i (qd_ht D)), a_weight, a_main, (qa_b (qc_un D c)), (qc_h c), a_before, a_path, a_pool, a_poolBefore, a_inPool, a_poolSpends, a_stack, a_seenLock, a_seenWitness, a_seen)) : ∀ n (c' : qc_T), n ≤ 3 → qc_r D (qc_g D b) h b c n = some c' → ∀ m, n < m → wX_takeBack_4 post (nI b) m (nI n - 1) f_submitted f_tipHeight f_poolSize f_sp f_failed (qa_i (qd_ic D)) (qa_i (qd_ox D)) (qa_b (qd_se D)) (qa_i (qd_fr D)) (qd_wt D) (qd_am D) (qd_lk D) (qa_i (qd_pa D)) a_work a_state a_order (qa_i (qd_ct D)) (qa_i (qd_tx D)) (qa_i (qd_ht D)) a_weight a_main (qa_b (qc_un D c')) (qc_h c') a_before a_path a_pool a_poolBefore a_inPool a_poolSpends a_stack a_seenLock a_seenWitness a_seen := by
  intro n
  induction n with
  | zero =>
    intro c' _ e m hm
    obtain ⟨m, rfl⟩ : ∃ q, m = q + 1 := ⟨m - 1, by omega⟩
    cases e
    rw [wX_takeBack_4]
    exact br_t (by decide) K
  | succ n ih =>
    intro c' hn e m hm
    obtain ⟨m, rfl⟩ : ∃ q, m = q + 1 := ⟨m - 1, by omega⟩
    obtain ⟨c1, e1, f, rfl⟩ := qc_r_inv e
    have I1 := (qu_r W I B (fun i _ => qc_g_lt W) e1).1
    have ih' := ih c1 (by omega) e1 m (by omega)
    rw [Int32.sub_eq_add_neg] at ih'
    have e0 : nI (n + 1) - 1 = nI n := nI_pred _
    rw [wX_takeBack_4]
    dsimp only
    rw [e0, qa_3, qa_at _ (show 3 * b + n < 2 ^ 31 by omega)]
    exact br_f (nI_pos (by omega)) ⟨vp_in_nI (by omega) (by decide), qx_unapply W I1 (W.2.2.2.2.2.2.2.1 _) f (nm_e ih')⟩
theorem qx_tb {G : Nat → Prop} {post : SX → Prop} {b h n : Nat} {c' : qc_T} (W : qd_W D) (I : qc_I D G c) (B : qu_U D (qc_un D c) ≤ 2000) (hb : b < 24) (hn : n ≤ 3) (e : qc_r D (qc_g D b) h b c n = some c') (K : post (f_submitted, f_tipHeight, f_poolSize, f_sp, f_failed, (qa_i (qd_ic D)), (qa_i (qd_ox D)), (qa_b (qd_se D)), (qa_i (qd_fr D)), (qd_wt D), (qd_am D), (qd_lk D), (qa_i (qd_pa D)), a_work, a_state, a_order, (qa_i (qd_ct D)), (qa_i (qd_tx D)), (qa_i (qd_ht D)), a_weight, a_main, (qa_b (qc_un D c)), (qc_h c), a_before, a_path, a_pool, a_poolBefore, a_inPool, a_poolSpends, a_stack, a_seenLock, a_seenWitness, a_seen)) : wpX_takeBack post (f_submitted, f_tipHeight, f_poolSize, f_sp, f_failed, (qa_i (qd_ic D)), (qa_i (qd_ox D)), (qa_b (qd_se D)), (qa_i (qd_fr D)), (qd_wt D), (qd_am D), (qd_lk D), (qa_i (qd_pa D)), a_work, a_state, a_order, (qa_i (qd_ct D)), (qa_i (qd_tx D)), (qa_i (qd_ht D)), a_weight, a_main, (qa_b (qc_un D c')), (qc_h c'), a_before, a_path, a_pool, a_poolBefore, a_inPool, a_poolSpends, a_stack, a_seenLock, a_seenWitness, a_seen) (nI b) (nI n) := by
  unfold wpX_takeBack
  dsimp only
  exact nm_e ⟨n + 1, qx_tb_l W I B hb K n c' hn e _ (Nat.lt_succ_self _)⟩
theorem qx_76 {G : Nat → Prop} {post : Int32 → SX → Prop} {b th hm : Nat} {mn : Nat → Nat} {c1 : qc_T} (W : qd_W D) (V : qd_G D G) (I : qc_I D G c) (B : qu_U D (qc_un D c) ≤ 2000) (hb : G b) (hf : c.1 (32 + b) = false) (hth : th < 23)
    (K1 : ∀ (c' : qc_T), qc_bl D c b = some c' → post 1 (f_submitted, nI (th + 1), f_poolSize, f_sp, f_failed, (qa_i (qd_ic D)), (qa_i (qd_ox D)), (qa_b (qd_se D)), (qa_i (qd_fr D)), (qd_wt D), (qd_am D), (qd_lk D), (qa_i (qd_pa D)), a_work, a_state, a_order, (qa_i (qd_ct D)), (qa_i (qd_tx D)), (qa_i (qd_ht D)), a_weight, (qa_i (qa_u mn (th + 1) b)), (qa_b (qc_un D c')), (qc_h c'), a_before, a_path, a_pool, a_poolBefore, a_inPool, a_poolSpends, a_stack, a_seenLock, a_seenWitness, a_seen))
    (K0 : qc_bl D c b = none → post 0 (f_submitted, nI th, f_poolSize, f_sp, f_failed, (qa_i (qd_ic D)), (qa_i (qd_ox D)), (qa_b (qd_se D)), (qa_i (qd_fr D)), (qd_wt D), (qd_am D), (qd_lk D), (qa_i (qd_pa D)), a_work, a_state, a_order, (qa_i (qd_ct D)), (qa_i (qd_tx D)), (qa_i (qd_ht D)), a_weight, (qa_i mn), (qa_b (qc_un D c)), (qc_h c), a_before, a_path, a_pool, a_poolBefore, a_inPool, a_poolSpends, a_stack, a_seenLock, a_seenWitness, a_seen))
    (e : qc_r D (qc_g D b) (qd_ht D b) b c (qd_ct D b) = some c1) : wX_connect_76 post (nI b) (qc_fe D (qc_g D b) (qd_ct D b)) (nI (qd_ct D b)) 1 f_submitted (nI th) f_poolSize f_sp f_failed (qa_i (qd_ic D)) (qa_i (qd_ox D)) (qa_b (qd_se D)) (qa_i (qd_fr D)) (qd_wt D) (qd_am D) (qd_lk D) (qa_i (qd_pa D)) a_work a_state a_order (qa_i (qd_ct D)) (qa_i (qd_tx D)) (qa_i (qd_ht D)) a_weight (qa_i mn) (qa_b (qc_un D c1)) (qc_h c1) a_before a_path a_pool a_poolBefore a_inPool a_poolSpends a_stack a_seenLock a_seenWitness a_seen := by
  have hb24 := V.1 b hb
  have hc := W.2.2.2.2.2.2.1 b
  have I1 := (qu_r W I B (fun i _ => qc_g_lt W) e).1
  have hf1 : c1.1 (32 + b) = false := by rw [qc_r_L (by omega) (fun i _ => qc_g_lt W) e]; exact hf
  unfold wX_connect_76
  refine br_f (by decide) ?_
  rw [qa_64, qa_32, nI_clamp (show 64 + 2 * b < 2 ^ 31 by omega), nI_clamp (show 32 + b < 2 ^ 31 by omega), nI_1, qa_bo1, qa_bu, qa_byi (by omega), qc_h_l (D := D), qc_base W I1 (V.2.2.2.2.1 b hb) hf1]
  refine ⟨vp_in_nI (by omega) (by decide), br_c (fun q => ?_) (fun q => ?_)⟩
  · refine ⟨vp_in_nI (by omega) (by decide), nm_e ⟨vp_in_nI (by omega) (by decide), nm_e (nm_e ?_)⟩⟩
    rw [nI_clamp (show th + 1 < 2 ^ 31 by omega), qa_iu]
    exact ⟨vp_in_nI (by omega) (by decide), nm_e (K1 _ (qc_bl_s e q))⟩
  · unfold wX_connect_99
    exact qx_tb W I B hb24 hc e (K0 (qc_bl_f e q))
theorem qx_con_l {G : Nat → Prop} {post : Int32 → SX → Prop} {b th hm : Nat} {mn : Nat → Nat} (W : qd_W D) (V : qd_G D G) (I : qc_I D G c) (H : qc_H D hm c) (B : qu_U D (qc_un D c) ≤ 2000) (hb : G b) (hf : c.1 (32 + b) = false) (hth : th < 23)
    (K1 : ∀ (c' : qc_T) (sp fa : Int32) (stk sl sw sn : Nat → Int32), qx_C sl sw sn → qc_bl D c b = some c' → post 1 (f_submitted, nI (th + 1), f_poolSize, sp, fa, (qa_i (qd_ic D)), (qa_i (qd_ox D)), (qa_b (qd_se D)), (qa_i (qd_fr D)), (qd_wt D), (qd_am D), (qd_lk D), (qa_i (qd_pa D)), a_work, a_state, a_order, (qa_i (qd_ct D)), (qa_i (qd_tx D)), (qa_i (qd_ht D)), a_weight, (qa_i (qa_u mn (th + 1) b)), (qa_b (qc_un D c')), (qc_h c'), a_before, a_path, a_pool, a_poolBefore, a_inPool, a_poolSpends, stk, sl, sw, sn))
    (K0 : ∀ (sp fa : Int32) (stk sl sw sn : Nat → Int32), qx_C sl sw sn → qc_bl D c b = none → post 0 (f_submitted, nI th, f_poolSize, sp, fa, (qa_i (qd_ic D)), (qa_i (qd_ox D)), (qa_b (qd_se D)), (qa_i (qd_fr D)), (qd_wt D), (qd_am D), (qd_lk D), (qa_i (qd_pa D)), a_work, a_state, a_order, (qa_i (qd_ct D)), (qa_i (qd_tx D)), (qa_i (qd_ht D)), a_weight, (qa_i mn), (qa_b (qc_un D c)), (qc_h c), a_before, a_path, a_pool, a_poolBefore, a_inPool, a_poolSpends, stk, sl, sw, sn)) :
    ∀ d i (c1 : qc_T) (sp fa : Int32) (stk sl sw sn : Nat → Int32), qx_C sl sw sn → i + d = qd_ct D b → qc_r D (qc_g D b) (qd_ht D b) b c i = some c1 → ∀ n, d + 1 < n → wX_connect_7 post (nI b) n (qc_fe D (qc_g D b) i) (nI i) 1 f_submitted (nI th) f_poolSize sp fa (qa_i (qd_ic D)) (qa_i (qd_ox D)) (qa_b (qd_se D)) (qa_i (qd_fr D)) (qd_wt D) (qd_am D) (qd_lk D) (qa_i (qd_pa D)) a_work a_state a_order (qa_i (qd_ct D)) (qa_i (qd_tx D)) (qa_i (qd_ht D)) a_weight (qa_i mn) (qa_b (qc_un D c1)) (qc_h c1) a_before a_path a_pool a_poolBefore a_inPool a_poolSpends stk sl sw sn := by
  have hb24 := V.1 b hb
  have hc := W.2.2.2.2.2.2.1 b
  have hw := W.2.2.2.2.2.2.2.2.2 b
  intro d
  induction d with
  | zero =>
    intro i c1 sp fa stk sl sw sn C hi e n hn
    obtain ⟨n, rfl⟩ : ∃ q, n = q + 1 := ⟨n - 1, by omega⟩
    have hi' : i = qd_ct D b := by omega
    subst hi'
    rw [wX_connect_7]
    dsimp only
    rw [qa_at _ (show b < 2 ^ 31 by omega)]
    exact br_f (by decide) ⟨vp_in_nI hb24 (by decide), br_t (nI_le (by omega) (by omega)) (qx_76 (hm := hm) W V I B hb hf hth (fun c' e => K1 c' _ _ _ _ _ _ C e) (fun e => K0 _ _ _ _ _ _ C e) e)⟩
  | succ d ih =>
    intro i c1 sp fa stk sl sw sn C hi e n hn
    obtain ⟨n, rfl⟩ : ∃ q, n = q + 2 := ⟨n - 2, by omega⟩
    have ht : qd_tx D (3 * b + i) < 32 := W.2.2.2.2.2.2.2.1 _
    obtain ⟨I1, f0, u1⟩ := qu_r W I B (fun i _ => qc_g_lt W) e
    have H1 := qc_H_r hb24 H (fun i _ => qc_g_lt W) e
    rw [wX_connect_7]
    dsimp only
    rw [qa_at _ (show b < 2 ^ 31 by omega), qa_at _ (show b < 2 ^ 31 by omega), qa_3, qa_at _ (show 3 * b + i < 2 ^ 31 by omega), nI_1]
    refine br_f (by decide) ⟨vp_in_nI hb24 (by decide), br_f (nI_ge (by omega) (by omega)) ⟨vp_in_nI (by omega) (by decide), nm_e ⟨vp_in_nI hb24 (by decide), ?_⟩⟩⟩
    refine qx_fits0 W ht (by omega) C (fun t h => by have := H1.2 t h; omega) (by omega) (fun sp fa stk sl sw sn C => ?_)
    refine br_c (fun q => ?_) (fun q => ?_)
    · have f : qc_fit D c1 (qc_g D b i) (qd_ht D b) = false := qa_Bz.mp q
      have f' : qc_fit D c1 (qd_tx D (3 * b + i)) (qd_ht D b) = false := f
      have n0 := qc_r_none (qc_r_f e f) d
      rw [show i + 1 + d = qd_ct D b by omega] at n0
      rw [f']
      rw [wX_connect_7]
      refine br_t rfl ?_
      unfold wX_connect_76 wX_connect_99
      exact br_t rfl (qx_tb W I B hb24 (by omega) e (K0 _ _ _ _ _ _ C (qc_bl_n n0)))
    · have f : qc_fit D c1 (qc_g D b i) (qd_ht D b) = true := qa_Bn.mp q
      have f' : qc_fit D c1 (qd_tx D (3 * b + i)) (qd_ht D b) = true := f
      rw [f']
      refine qx_fee W ht (nm_e (qx_apply W I1 ht hb24 f' (nm_e ?_)))
      exact ih (i + 1) (qc_l D c1 (qc_g D b i) b) sp fa stk sl sw sn C (by omega) (qc_r_s e f) (n + 1) (by omega)
theorem qx_connect {G : Nat → Prop} {post : Int32 → SX → Prop} {b th hm : Nat} {mn : Nat → Nat} (W : qd_W D) (V : qd_G D G) (I : qc_I D G c) (H : qc_H D hm c) (B : qu_U D (qc_un D c) ≤ 2000) (hb : G b) (hf : c.1 (32 + b) = false) (hth : th < 23) (C : qx_C a_seenLock a_seenWitness a_seen)
    (K1 : ∀ (c' : qc_T) (sp fa : Int32) (stk sl sw sn : Nat → Int32), qx_C sl sw sn → qc_bl D c b = some c' → post 1 (f_submitted, nI (th + 1), f_poolSize, sp, fa, (qa_i (qd_ic D)), (qa_i (qd_ox D)), (qa_b (qd_se D)), (qa_i (qd_fr D)), (qd_wt D), (qd_am D), (qd_lk D), (qa_i (qd_pa D)), a_work, a_state, a_order, (qa_i (qd_ct D)), (qa_i (qd_tx D)), (qa_i (qd_ht D)), a_weight, (qa_i (qa_u mn (th + 1) b)), (qa_b (qc_un D c')), (qc_h c'), a_before, a_path, a_pool, a_poolBefore, a_inPool, a_poolSpends, stk, sl, sw, sn))
    (K0 : ∀ (sp fa : Int32) (stk sl sw sn : Nat → Int32), qx_C sl sw sn → qc_bl D c b = none → post 0 (f_submitted, nI th, f_poolSize, sp, fa, (qa_i (qd_ic D)), (qa_i (qd_ox D)), (qa_b (qd_se D)), (qa_i (qd_fr D)), (qd_wt D), (qd_am D), (qd_lk D), (qa_i (qd_pa D)), a_work, a_state, a_order, (qa_i (qd_ct D)), (qa_i (qd_tx D)), (qa_i (qd_ht D)), a_weight, (qa_i mn), (qa_b (qc_un D c)), (qc_h c), a_before, a_path, a_pool, a_poolBefore, a_inPool, a_poolSpends, stk, sl, sw, sn)) : wpX_connect post (f_submitted, nI th, f_poolSize, f_sp, f_failed, (qa_i (qd_ic D)), (qa_i (qd_ox D)), (qa_b (qd_se D)), (qa_i (qd_fr D)), (qd_wt D), (qd_am D), (qd_lk D), (qa_i (qd_pa D)), a_work, a_state, a_order, (qa_i (qd_ct D)), (qa_i (qd_tx D)), (qa_i (qd_ht D)), a_weight, (qa_i mn), (qa_b (qc_un D c)), (qc_h c), a_before, a_path, a_pool, a_poolBefore, a_inPool, a_poolSpends, a_stack, a_seenLock, a_seenWitness, a_seen) (nI b) := by
  unfold wpX_connect
  dsimp only
  exact ⟨qd_ct D b + 2, qx_con_l W V I H B hb hf hth K1 K0 (qd_ct D b) 0 c _ _ _ _ _ _ C (by omega) rfl _ (by omega)⟩
theorem qx_disc {G : Nat → Prop} {post : SX → Prop} {th : Nat} {mn : Nat → Nat} {c' : qc_T} (W : qd_W D) (V : qd_G D G) (I : qc_I D G c) (B : qu_U D (qc_un D c) ≤ 2000) (hth : th < 23) (hb : G (mn (th + 1))) (hf : c.1 (32 + mn (th + 1)) = false) (e : qc_bl D c (mn (th + 1)) = some c')
    (K : post (f_submitted, nI th, f_poolSize, f_sp, f_failed, (qa_i (qd_ic D)), (qa_i (qd_ox D)), (qa_b (qd_se D)), (qa_i (qd_fr D)), (qd_wt D), (qd_am D), (qd_lk D), (qa_i (qd_pa D)), a_work, a_state, a_order, (qa_i (qd_ct D)), (qa_i (qd_tx D)), (qa_i (qd_ht D)), a_weight, (qa_i mn), (qa_b (qc_un D c)), (qc_h c), a_before, a_path, a_pool, a_poolBefore, a_inPool, a_poolSpends, a_stack, a_seenLock, a_seenWitness, a_seen)) : wpX_disconnect post (f_submitted, nI (th + 1), f_poolSize, f_sp, f_failed, (qa_i (qd_ic D)), (qa_i (qd_ox D)), (qa_b (qd_se D)), (qa_i (qd_fr D)), (qd_wt D), (qd_am D), (qd_lk D), (qa_i (qd_pa D)), a_work, a_state, a_order, (qa_i (qd_ct D)), (qa_i (qd_tx D)), (qa_i (qd_ht D)), a_weight, (qa_i mn), (qa_b (qc_un D c')), (qc_h c'), a_before, a_path, a_pool, a_poolBefore, a_inPool, a_poolSpends, a_stack, a_seenLock, a_seenWitness, a_seen) := by
  obtain ⟨c1, e1, _, rfl⟩ := qc_bl_inv e
  have hb24 := V.1 _ hb
  have hc := W.2.2.2.2.2.2.1 (mn (th + 1))
  have I1 := (qu_r W I B (fun i _ => qc_g_lt W) e1).1
  have hf1 : c1.1 (32 + mn (th + 1)) = false := by rw [qc_r_L (by omega) (fun i _ => qc_g_lt W) e1]; exact hf
  have e0 : nI (th + 1) - 1 = nI th := nI_pred _
  unfold wpX_disconnect
  dsimp only
  rw [e0, qa_at _ (show th + 1 < 2 ^ 31 by omega)]
  refine nm_e ⟨vp_in_nI (by omega) (by decide), nm_e ?_⟩
  rw [qa_64, qa_32, nI_clamp (show 64 + 2 * mn (th + 1) < 2 ^ 31 by omega), nI_clamp (show 32 + mn (th + 1) < 2 ^ 31 by omega), qa_at _ (show mn (th + 1) < 2 ^ 31 by omega), qa_bo0, qa_bu, qa_m1, qc_h_u (by omega) hf1, qc_unbase W I1 (V.2.2.2.2.1 _ hb) hf1]
  exact ⟨vp_in_nI (by omega) (by decide), nm_e ⟨vp_in_nI (by omega) (by decide), nm_e ⟨vp_in_nI hb24 (by decide), qx_tb W I B hb24 hc e1 K⟩⟩⟩
end
end
section
/-! X: condemn, heaviest, grow -/
def qt_n (v : Nat) (st : Nat → Nat) : Nat := qa_c (fun b => decide (st b = v)) 24
theorem qt_n_lt {v x w : Nat} {st : Nat → Nat} (hx : x < 24) (h : st x = v) (hw : w ≠ v) : qt_n v (qa_u st x w) < qt_n v st := by
  have := qa_c1 (P := fun b => decide (qa_u st x w b = v)) (Q := fun b => decide (st b = v)) (a := x) (by rw [qa_us]; exact decide_eq_false hw) (by exact decide_eq_true h) hx (fun i _ hn => by rw [qa_un hn])
  unfold qt_n
  omega
theorem qt_n_le (v : Nat) (st : Nat → Nat) : qt_n v st ≤ 24 := qa_cle _ _
/-- what condemning may have changed -/
def qt_Q (D : qd_T) (G : Nat → Prop) (st0 st : Nat → Nat) : Prop := ∀ b, st b = st0 b ∨ (G b ∧ st0 b = 3 ∧ st b = 4 ∧ qc_R D b = none)
section
variable {f_submitted f_tipHeight f_poolSize f_sp f_failed : Int32} {a_inCount a_outCount a_sealed a_inFrom a_inWitness a_amounts a_locks a_parent a_work a_state a_order a_txCount a_txs a_height a_weight a_main a_unspent a_home a_before a_path a_pool a_poolBefore a_inPool a_poolSpends a_stack a_seenLock a_seenWitness a_seen : Nat → Int32}
variable {D : qd_T} {G : Nat → Prop}
theorem qx_cd17 {post : SX → Prop} {pa st0 st1 : Nat → Nat} {J : Int32 → (Nat → Int32) → (Nat → Int32) → (Nat → Int32) → (Nat → Int32) → (Nat → Int32) → (Nat → Int32) → (Nat → Int32) → (Nat → Int32) → (Nat → Int32) → (Nat → Int32) → (Nat → Int32) → (Nat → Int32) → (Nat → Int32) → (Nat → Int32) → (Nat → Int32) → (Nat → Int32) → (Nat → Int32) → (Nat → Int32) → (Nat → Int32) → (Nat → Int32) → (Nat → Int32) → (Nat → Int32) → (Nat → Int32) → (Nat → Int32) → (Nat → Int32) → (Nat → Int32) → (Nat → Int32) → (Nat → Int32) → Prop} (hpa : ∀ b, pa b < 24) (h4 : ∀ b, st0 b ≤ 4)
    (N : ∀ b, b < 24 → b ≠ 0 → 3 ≤ st0 b → (st0 (pa b) = 4 ∨ (G (pa b) ∧ qc_R D (pa b) = none)) → G b ∧ qc_R D b = none)
    (KJ : ∀ (st : Nat → Nat), qt_Q D G st0 st → qt_n 3 st < qt_n 3 st1 → J 1 a_inCount a_outCount a_sealed a_inFrom a_inWitness a_amounts a_locks (qa_i pa) a_work (qa_i st) a_order a_txCount a_txs a_height a_weight a_main a_unspent a_home a_before a_path a_pool a_poolBefore a_inPool a_poolSpends a_stack a_seenLock a_seenWitness a_seen)
    (K0 : (∀ j, j < 24 → j ≠ 0 → ¬ (st1 j = 3 ∧ st1 (pa j) = 4)) → J 0 a_inCount a_outCount a_sealed a_inFrom a_inWitness a_amounts a_locks (qa_i pa) a_work (qa_i st1) a_order a_txCount a_txs a_height a_weight a_main a_unspent a_home a_before a_path a_pool a_poolBefore a_inPool a_poolSpends a_stack a_seenLock a_seenWitness a_seen) :
    ∀ d i (st : Nat → Nat) (x2 : Int32), i + d = 24 → 1 ≤ i → qt_Q D G st0 st → ((x2 = 0 ∧ st = st1 ∧ ∀ j, j < i → j ≠ 0 → ¬ (st1 j = 3 ∧ st1 (pa j) = 4)) ∨ (x2 = 1 ∧ qt_n 3 st < qt_n 3 st1)) → ∀ n, d < n → wX_condemn_17 post J f_submitted f_tipHeight f_poolSize f_sp f_failed n x2 (nI i) a_inCount a_outCount a_sealed a_inFrom a_inWitness a_amounts a_locks (qa_i pa) a_work (qa_i st) a_order a_txCount a_txs a_height a_weight a_main a_unspent a_home a_before a_path a_pool a_poolBefore a_inPool a_poolSpends a_stack a_seenLock a_seenWitness a_seen := by
  intro d
  induction d with
  | zero =>
    intro i st x2 hi h1 Q M n hn
    obtain ⟨n, rfl⟩ : ∃ q, n = q + 1 := ⟨n - 1, by omega⟩
    rw [wX_condemn_17]
    refine br_t (nI_le (a := 24) (by omega) (by omega)) ?_
    rcases M with ⟨rfl, rfl, m⟩ | ⟨rfl, m⟩
    · exact K0 (fun j hj => m j (by omega))
    · exact KJ st Q m
  | succ d ih =>
    intro i st x2 hi h1 Q M n hn
    obtain ⟨n, rfl⟩ : ∃ q, n = q + 1 := ⟨n - 1, by omega⟩
    have s4 : ∀ b, st b ≤ 4 := fun b => by
      have := h4 b
      rcases Q b with e | ⟨_, _, e, _⟩ <;> omega
    have si := s4 i
    have sp := s4 (pa i)
    have pi := hpa i
    rw [wX_condemn_17]
    dsimp only
    rw [qa_at _ (show i < 2 ^ 31 by omega), qa_at pa (show i < 2 ^ 31 by omega), qa_at _ (show pa i < 2 ^ 31 by omega), nI_1, nI_clamp (show i < 2 ^ 31 by omega)]
    have e3 : nI (st i) = 3 ↔ st i = 3 := nI_eq (b := 3) (by omega) (by decide)
    have e4 : nI (st (pa i)) = 4 ↔ st (pa i) = 4 := nI_eq (b := 4) (by omega) (by decide)
    have e5 : vp_nar .byte 4 = nI 4 := qa_by (v := 4) (by decide)
    rw [e3, e4, e5, qa_iu]
    have keep : ¬ (st i = 3 ∧ st (pa i) = 4) → ((x2 = 0 ∧ st = st1 ∧ ∀ j, j < i + 1 → j ≠ 0 → ¬ (st1 j = 3 ∧ st1 (pa j) = 4)) ∨ (x2 = 1 ∧ qt_n 3 st < qt_n 3 st1)) := by
      intro z
      rcases M with ⟨a, e, m⟩ | m
      · refine Or.inl ⟨a, e, fun j hj j0 => ?_⟩
        by_cases y : j = i
        · subst y; rw [← e]; exact z
        · exact m j (by omega) j0
      · exact Or.inr m
    refine br_f (nI_ge (b := 24) (by omega) (by decide)) ⟨vp_in_nI (by omega) (by decide), br_c (fun q => ⟨vp_in_nI (by omega) (by decide), vp_in_nI (by omega) (by decide), br_c (fun p => ⟨vp_in_nI (by omega) (by decide), nm_e (nm_e ?_)⟩) (fun p => nm_e ?_)⟩) (fun q => nm_e ?_)⟩
    · refine ih (i + 1) (qa_u st i 4) 1 (by omega) (by omega) (fun b => ?_) (Or.inr ⟨rfl, ?_⟩) n (by omega)
      · by_cases y : b = i
        · subst y
          rw [qa_us]
          have z : st0 b = 3 := by
            rcases Q b with e | ⟨_, _, e, _⟩
            · omega
            · omega
          have w := N b (by omega) (by omega) (by omega) (by
            rcases Q (pa b) with e | ⟨g, _, _, r⟩
            · exact Or.inl (by omega)
            · exact Or.inr ⟨g, r⟩)
          exact Or.inr ⟨w.1, z, rfl, w.2⟩
        · rw [qa_un y]; exact Q b
      · have := qt_n_lt (v := 3) (w := 4) (st := st) (show i < 24 by omega) q (by decide)
        rcases M with ⟨_, e, _⟩ | ⟨_, m⟩
        · rw [← e]; exact this
        · omega
    · exact ih (i + 1) st x2 (by omega) (by omega) Q (keep fun z => p z.2) n (by omega)
    · exact ih (i + 1) st x2 (by omega) (by omega) Q (keep fun z => q z.1) n (by omega)
theorem qx_cd9 {post : SX → Prop} {pa st0 : Nat → Nat} (hpa : ∀ b, pa b < 24) (h4 : ∀ b, st0 b ≤ 4)
    (N : ∀ b, b < 24 → b ≠ 0 → 3 ≤ st0 b → (st0 (pa b) = 4 ∨ (G (pa b) ∧ qc_R D (pa b) = none)) → G b ∧ qc_R D b = none)
    (K : ∀ st : Nat → Nat, qt_Q D G st0 st → (∀ j, j < 24 → j ≠ 0 → ¬ (st j = 3 ∧ st (pa j) = 4)) → post (f_submitted, f_tipHeight, f_poolSize, f_sp, f_failed, a_inCount, a_outCount, a_sealed, a_inFrom, a_inWitness, a_amounts, a_locks, (qa_i pa), a_work, (qa_i st), a_order, a_txCount, a_txs, a_height, a_weight, a_main, a_unspent, a_home, a_before, a_path, a_pool, a_poolBefore, a_inPool, a_poolSpends, a_stack, a_seenLock, a_seenWitness, a_seen)) :
    ∀ m (st : Nat → Nat), qt_Q D G st0 st → qt_n 3 st < m → ∀ n, m < n → wX_condemn_9 post f_submitted f_tipHeight f_poolSize f_sp f_failed n 1 a_inCount a_outCount a_sealed a_inFrom a_inWitness a_amounts a_locks (qa_i pa) a_work (qa_i st) a_order a_txCount a_txs a_height a_weight a_main a_unspent a_home a_before a_path a_pool a_poolBefore a_inPool a_poolSpends a_stack a_seenLock a_seenWitness a_seen := by
  intro m
  induction m with
  | zero => intro st _ h; omega
  | succ m ih =>
    intro st Q hm n hn
    obtain ⟨n, rfl⟩ : ∃ q, n = q + 2 := ⟨n - 2, by omega⟩
    rw [wX_condemn_9]
    refine br_f (by decide) ⟨24, ?_⟩
    refine qx_cd17 (st1 := st) hpa h4 N (fun st' Q' h => ih st' Q' (by omega) (n + 1) (by omega)) (fun h => ?_) 23 1 st 0 rfl (Nat.le_refl _) Q (Or.inl ⟨rfl, rfl, fun j hj j0 => by omega⟩) 24 (by decide)
    rw [wX_condemn_9]
    exact br_t rfl (K st Q h)
theorem qx_condemn {post : SX → Prop} {pa st0 : Nat → Nat} {x : Nat} (hpa : ∀ b, pa b < 24) (h4 : ∀ b, st0 b ≤ 4) (hx : x < 24) (gx : G x) (sx : st0 x = 3) (rx : qc_R D x = none)
    (N : ∀ b, b < 24 → b ≠ 0 → 3 ≤ st0 b → (st0 (pa b) = 4 ∨ (G (pa b) ∧ qc_R D (pa b) = none)) → G b ∧ qc_R D b = none)
    (K : ∀ st : Nat → Nat, qt_Q D G st0 st → qt_n 3 st < qt_n 3 st0 → (∀ j, j < 24 → j ≠ 0 → ¬ (st j = 3 ∧ st (pa j) = 4)) → post (f_submitted, f_tipHeight, f_poolSize, f_sp, f_failed, a_inCount, a_outCount, a_sealed, a_inFrom, a_inWitness, a_amounts, a_locks, (qa_i pa), a_work, (qa_i st), a_order, a_txCount, a_txs, a_height, a_weight, a_main, a_unspent, a_home, a_before, a_path, a_pool, a_poolBefore, a_inPool, a_poolSpends, a_stack, a_seenLock, a_seenWitness, a_seen)) : wpX_condemn post (f_submitted, f_tipHeight, f_poolSize, f_sp, f_failed, a_inCount, a_outCount, a_sealed, a_inFrom, a_inWitness, a_amounts, a_locks, (qa_i pa), a_work, (qa_i st0), a_order, a_txCount, a_txs, a_height, a_weight, a_main, a_unspent, a_home, a_before, a_path, a_pool, a_poolBefore, a_inPool, a_poolSpends, a_stack, a_seenLock, a_seenWitness, a_seen) (nI x) := by
  have e5 : vp_nar .byte 4 = nI 4 := qa_by (v := 4) (by decide)
  unfold wpX_condemn
  dsimp only
  rw [nI_clamp (show x < 2 ^ 31 by omega), e5, qa_iu]
  have lt := qt_n_lt (v := 3) (w := 4) (st := st0) hx sx (by decide)
  have Q : qt_Q D G st0 (qa_u st0 x 4) := by
    intro b
    by_cases y : b = x
    · subst y; rw [qa_us]; exact Or.inr ⟨gx, sx, rfl, rx⟩
    · exact Or.inl (qa_un y)
  -- every state that is reached has fewer than the first
  have h4' : ∀ b, qa_u st0 x 4 b ≤ 4 := fun b => by
    by_cases y : b = x
    · subst y; rw [qa_us]; omega
    · rw [qa_un y]; exact h4 b
  refine ⟨vp_in_nI hx (by decide), nm_e ⟨26, ?_⟩⟩
  have NN : ∀ b, b < 24 → b ≠ 0 → 3 ≤ qa_u st0 x 4 b → (qa_u st0 x 4 (pa b) = 4 ∨ (G (pa b) ∧ qc_R D (pa b) = none)) → G b ∧ qc_R D b = none := by
    intro b hb b0 h z
    refine N b hb b0 ?_ ?_
    · by_cases y : b = x
      · subst y; omega
      · rw [qa_un y] at h; exact h
    · rcases z with z | z
      · by_cases y : pa b = x
        · exact Or.inr ⟨by rw [y]; exact gx, by rw [y]; exact rx⟩
        · rw [qa_un y] at z; exact Or.inl z
      · exact Or.inr z
  refine qx_cd9 (G := G) (D := D) (st0 := qa_u st0 x 4) hpa h4' NN (fun st Q' h => K st (fun b => ?_) ?_ h) 25 (qa_u st0 x 4) (fun b => Or.inl rfl) (by have := qt_n_le 3 (qa_u st0 x 4); omega) 26 (by decide)
  · rcases Q' b with e | ⟨g, e, f, r⟩
    · rw [e]; exact Q b
    · refine Or.inr ⟨g, ?_, f, r⟩
      by_cases y : b = x
      · subst y; exact sx
      · rw [qa_un y] at e; exact e
  · have : qt_n 3 st ≤ qt_n 3 (qa_u st0 x 4) := qa_cmono fun i _ h => by
      have h' : st i = 3 := of_decide_eq_true h
      refine decide_eq_true ?_
      rcases Q' i with e | ⟨_, e, f, _⟩ <;> omega
    omega
theorem qx_hv_l {post : Int32 → Prop} {st wg od : Nat → Nat} (hs : ∀ b, st b ≤ 4) (hw : ∀ b, wg b ≤ 345) (ho : ∀ b, od b ≤ 23)
    (K : ∀ x, x < 24 → st x = 3 → (∀ b, b < 24 → st b = 3 → ¬ qb_gt wg od b x) → post (nI x)) :
    ∀ d i x, i + d = 24 → x < 24 → st x = 3 → (∀ b, b < i → st b = 3 → ¬ qb_gt wg od b x) → ∀ n, d < n → wX_heaviest_4 post f_submitted f_tipHeight f_poolSize f_sp f_failed a_inCount a_outCount a_sealed a_inFrom a_inWitness a_amounts a_locks a_parent a_work (qa_i st) (qa_i od) a_txCount a_txs a_height (qa_i wg) a_main a_unspent a_home a_before a_path a_pool a_poolBefore a_inPool a_poolSpends a_stack a_seenLock a_seenWitness a_seen n (nI x) (nI i) := by
  intro d
  induction d with
  | zero =>
    intro i x hi hx sx B n hn
    obtain ⟨n, rfl⟩ : ∃ q, n = q + 1 := ⟨n - 1, by omega⟩
    rw [wX_heaviest_4]
    exact br_t (nI_le (a := 24) (by omega) (by omega)) (K x hx sx (fun b hb => B b (by omega)))
  | succ d ih =>
    intro i x hi hx sx B n hn
    obtain ⟨n, rfl⟩ : ∃ q, n = q + 1 := ⟨n - 1, by omega⟩
    have s1 := hs i
    have w1 := hw i
    have w2 := hw x
    have o1 := ho i
    have o2 := ho x
    have B1 : ¬ (st i = 3 ∧ qb_gt wg od i x) → ∀ b, b < i + 1 → st b = 3 → ¬ qb_gt wg od b x := by
      intro h b hb sb z
      by_cases e : b = i
      · subst e; exact h ⟨sb, z⟩
      · exact B b (by omega) sb z
    have B2 : qb_gt wg od i x → ∀ b, b < i + 1 → st b = 3 → ¬ qb_gt wg od b i := by
      intro h b hb sb z
      by_cases e : b = i
      · subst e; unfold qb_gt at z; omega
      · have := B b (by omega) sb
        unfold qb_gt at *
        omega
    have e3 : nI (st i) = 3 ↔ st i = 3 := nI_eq (b := 3) (by omega) (by decide)
    rw [wX_heaviest_4]
    dsimp only
    rw [qa_at st (show i < 2 ^ 31 by omega), qa_at wg (show i < 2 ^ 31 by omega), qa_at wg (show x < 2 ^ 31 by omega), qa_at od (show i < 2 ^ 31 by omega), qa_at od (show x < 2 ^ 31 by omega), nI_1, e3, nI_ltI (by omega) (by omega), nI_leI (show od x < 2 ^ 31 by omega) (by omega), nI_eq (by omega) (by omega)]
    refine br_f (nI_ge (b := 24) (by omega) (by decide)) ⟨vp_in_nI (by omega) (by decide), br_c (fun q => ⟨vp_in_nI (by omega) (by decide), vp_in_nI hx (by decide), br_c (fun p => nm_e ?_) (fun p => ⟨vp_in_nI (by omega) (by decide), vp_in_nI hx (by decide), br_c (fun r => ⟨vp_in_nI (by omega) (by decide), vp_in_nI hx (by decide), br_c (fun s => nm_e ?_) (fun s => nm_e ?_)⟩) (fun r => nm_e ?_)⟩)⟩) (fun q => nm_e ?_)⟩
    · exact ih (i + 1) i (by omega) (by omega) q (B2 (Or.inl p)) n (by omega)
    · exact ih (i + 1) x (by omega) hx sx (B1 fun z => by have z := z.2; unfold qb_gt at z; omega) n (by omega)
    · exact ih (i + 1) i (by omega) (by omega) q (B2 (Or.inr ⟨r, by omega⟩)) n (by omega)
    · exact ih (i + 1) x (by omega) hx sx (B1 fun z => by have z := z.2; unfold qb_gt at z; omega) n (by omega)
    · exact ih (i + 1) x (by omega) hx sx (B1 fun z => q z.1) n (by omega)
theorem qx_hv {post : Int32 → Prop} {st wg od : Nat → Nat} (hs : ∀ b, st b ≤ 4) (hw : ∀ b, wg b ≤ 345) (ho : ∀ b, od b ≤ 23) (s0 : st 0 = 3)
    (K : ∀ x, x < 24 → st x = 3 → (∀ b, b < 24 → st b = 3 → ¬ qb_gt wg od b x) → post (nI x)) : wpX_heaviest post (f_submitted, f_tipHeight, f_poolSize, f_sp, f_failed, a_inCount, a_outCount, a_sealed, a_inFrom, a_inWitness, a_amounts, a_locks, a_parent, a_work, (qa_i st), (qa_i od), a_txCount, a_txs, a_height, (qa_i wg), a_main, a_unspent, a_home, a_before, a_path, a_pool, a_poolBefore, a_inPool, a_poolSpends, a_stack, a_seenLock, a_seenWitness, a_seen) := by
  unfold wpX_heaviest
  dsimp only
  refine ⟨24, qx_hv_l hs hw ho K 23 1 0 rfl (by decide) s0 (fun b hb _ z => ?_) 24 (by decide)⟩
  have e : b = 0 := by omega
  subst e
  unfold qb_gt at z
  omega
end
end
section
/-! X: grow -/
def qt_I (pa wk st0 ht0 wg0 st ht wg : Nat → Nat) : Prop := (∀ b, (st0 b ≠ 2 ∨ st b = 2) → st b = st0 b ∧ ht b = ht0 b ∧ wg b = wg0 b) ∧ (∀ b, b < 24 → 3 ≤ st b → b ≠ 0 → 3 ≤ st (pa b) ∧ ht b = ht (pa b) + 1 ∧ wg b = wg (pa b) + wk b ∧ (st b = 3 → st (pa b) = 3) ∧ (st b = 4 → st (pa b) = 4 ∨ st0 b = 4)) ∧ (∀ b, b < 24 → 3 ≤ st b → ht b + 1 ≤ qa_c (fun x => decide (3 ≤ st x)) 24 ∧ wg b ≤ 15 * ht b) ∧ (∀ b, st b ≤ 4) ∧ (∀ b, ht b ≤ 23) ∧ (∀ b, wg b ≤ 345) ∧ (∀ b, st0 b = 2 → st b = 2 ∨ (3 ≤ st b ∧ b ≠ 0 ∧ b < 24))
theorem qt_I_s {pa wk st0 ht0 wg0 st ht wg : Nat → Nat} {x : Nat} (hwk : ∀ b, wk b ≤ 15) (hpa : ∀ b, pa b < 24) (I : qt_I pa wk st0 ht0 wg0 st ht wg) (hx : x < 24) (x0 : x ≠ 0) (sx : st x = 2) (sp : 3 ≤ st (pa x)) : qt_I pa wk st0 ht0 wg0 (qa_u st x (st (pa x))) (qa_u ht x (ht (pa x) + 1)) (qa_u wg x (wg (pa x) + wk x)) := by
  obtain ⟨i1, i2, i3, i4, i5, i6, i7⟩ := I
  have px : pa x ≠ x := fun e => by rw [e] at sp; omega
  have s0 : st0 x = 2 := by have := (i1 x (Or.inr sx)).1; omega
  have cc : qa_c (fun y => decide (3 ≤ qa_u st x (st (pa x)) y)) 24 = qa_c (fun y => decide (3 ≤ st y)) 24 + 1 :=
    qa_c1 (P := fun y => decide (3 ≤ st y)) (Q := fun y => decide (3 ≤ qa_u st x (st (pa x)) y)) (a := x) (decide_eq_false (by omega)) (by show decide (3 ≤ qa_u st x (st (pa x)) x) = true; rw [qa_us]; exact decide_eq_true sp) hx (fun i _ hn => by show decide (3 ≤ qa_u st x (st (pa x)) i) = decide (3 ≤ st i); rw [qa_un hn])
  have cle := qa_cle (fun y => decide (3 ≤ qa_u st x (st (pa x)) y)) 24
  have p3 := i3 (pa x) (hpa x) sp
  have p4 := i4 (pa x)
  have p5 := hwk x
  refine ⟨fun b h => ?_, fun b hb h b0 => ?_, fun b hb h => ?_, fun b => ?_, fun b => ?_, fun b => ?_, fun b h => ?_⟩
  · by_cases y : b = x
    · subst y
      rw [qa_us] at h
      omega
    · rw [qa_un y] at h ⊢
      rw [qa_un y, qa_un y]
      exact i1 b h
  · by_cases y : b = x
    · subst y
      rw [qa_us, qa_us, qa_us, qa_un px, qa_un px, qa_un px]
      exact ⟨sp, rfl, rfl, fun z => z, fun z => Or.inl z⟩
    · rw [qa_un y] at h ⊢
      have z := i2 b hb h b0
      have w : pa b ≠ x := fun e => by have := z.1; rw [e] at this; omega
      rw [qa_un w, qa_un y, qa_un w, qa_un y, qa_un w]
      exact z
  · rw [cc]
    by_cases y : b = x
    · subst y
      rw [qa_us, qa_us]
      omega
    · rw [qa_un y] at h
      rw [qa_un y, qa_un y]
      have := i3 b hb h
      omega
  · by_cases y : b = x
    · subst y; rw [qa_us]; exact p4
    · rw [qa_un y]; exact i4 b
  · by_cases y : b = x
    · subst y; rw [qa_us]; omega
    · rw [qa_un y]; exact i5 b
  · by_cases y : b = x
    · subst y; rw [qa_us]; omega
    · rw [qa_un y]; exact i6 b
  · by_cases y : b = x
    · subst y; rw [qa_us]; exact Or.inr ⟨sp, x0, hx⟩
    · rw [qa_un y]; exact i7 b h
section
variable {f_submitted f_tipHeight f_poolSize f_sp f_failed : Int32} {a_inCount a_outCount a_sealed a_inFrom a_inWitness a_amounts a_locks a_parent a_work a_state a_order a_txCount a_txs a_height a_weight a_main a_unspent a_home a_before a_path a_pool a_poolBefore a_inPool a_poolSpends a_stack a_seenLock a_seenWitness a_seen : Nat → Int32}
theorem qx_gr10 {post : SX → Prop} {pa wk st0 ht0 wg0 st1 ht1 wg1 : Nat → Nat} {J : Int32 → (Nat → Int32) → (Nat → Int32) → (Nat → Int32) → (Nat → Int32) → (Nat → Int32) → (Nat → Int32) → (Nat → Int32) → (Nat → Int32) → (Nat → Int32) → (Nat → Int32) → (Nat → Int32) → (Nat → Int32) → (Nat → Int32) → (Nat → Int32) → (Nat → Int32) → (Nat → Int32) → (Nat → Int32) → (Nat → Int32) → (Nat → Int32) → (Nat → Int32) → (Nat → Int32) → (Nat → Int32) → (Nat → Int32) → (Nat → Int32) → (Nat → Int32) → (Nat → Int32) → (Nat → Int32) → (Nat → Int32) → Prop} (hpa : ∀ b, pa b < 24) (hwk : ∀ b, wk b ≤ 15)
    (KJ : ∀ (st ht wg : Nat → Nat), qt_I pa wk st0 ht0 wg0 st ht wg → qt_n 2 st < qt_n 2 st1 → J 1 a_inCount a_outCount a_sealed a_inFrom a_inWitness a_amounts a_locks (qa_i pa) (qa_i wk) (qa_i st) a_order a_txCount a_txs (qa_i ht) (qa_i wg) a_main a_unspent a_home a_before a_path a_pool a_poolBefore a_inPool a_poolSpends a_stack a_seenLock a_seenWitness a_seen)
    (K0 : (∀ j, j < 24 → j ≠ 0 → ¬ (st1 j = 2 ∧ 3 ≤ st1 (pa j))) → J 0 a_inCount a_outCount a_sealed a_inFrom a_inWitness a_amounts a_locks (qa_i pa) (qa_i wk) (qa_i st1) a_order a_txCount a_txs (qa_i ht1) (qa_i wg1) a_main a_unspent a_home a_before a_path a_pool a_poolBefore a_inPool a_poolSpends a_stack a_seenLock a_seenWitness a_seen) :
    ∀ d i (st ht wg : Nat → Nat) (x1 : Int32), i + d = 24 → 1 ≤ i → qt_I pa wk st0 ht0 wg0 st ht wg → ((x1 = 0 ∧ (st = st1 ∧ ht = ht1 ∧ wg = wg1) ∧ ∀ j, j < i → j ≠ 0 → ¬ (st1 j = 2 ∧ 3 ≤ st1 (pa j))) ∨ (x1 = 1 ∧ qt_n 2 st < qt_n 2 st1)) → ∀ n, d < n → wX_grow_10 post J f_submitted f_tipHeight f_poolSize f_sp f_failed n x1 (nI i) a_inCount a_outCount a_sealed a_inFrom a_inWitness a_amounts a_locks (qa_i pa) (qa_i wk) (qa_i st) a_order a_txCount a_txs (qa_i ht) (qa_i wg) a_main a_unspent a_home a_before a_path a_pool a_poolBefore a_inPool a_poolSpends a_stack a_seenLock a_seenWitness a_seen := by
  intro d
  induction d with
  | zero =>
    intro i st ht wg x1 hi h1 Q M n hn
    obtain ⟨n, rfl⟩ : ∃ q, n = q + 1 := ⟨n - 1, by omega⟩
    rw [wX_grow_10]
    refine br_t (nI_le (a := 24) (by omega) (by omega)) ?_
    rcases M with ⟨rfl, ⟨rfl, rfl, rfl⟩, m⟩ | ⟨rfl, m⟩
    · exact K0 (fun j hj => m j (by omega))
    · exact KJ st ht wg Q m
  | succ d ih =>
    intro i st ht wg x1 hi h1 Q M n hn
    obtain ⟨n, rfl⟩ : ∃ q, n = q + 1 := ⟨n - 1, by omega⟩
    have si := Q.2.2.2.1 i
    have sp := Q.2.2.2.1 (pa i)
    have pi := hpa i
    have hi5 := Q.2.2.2.2.1 (pa i)
    have hi6 := Q.2.2.2.2.2.1 (pa i)
    have wi := hwk i
    rw [wX_grow_10]
    dsimp only
    rw [qa_at st (show i < 2 ^ 31 by omega), qa_at pa (show i < 2 ^ 31 by omega), qa_at st (show pa i < 2 ^ 31 by omega), qa_at ht (show pa i < 2 ^ 31 by omega), qa_at wg (show pa i < 2 ^ 31 by omega), qa_at wk (show i < 2 ^ 31 by omega), nI_1 i, nI_1 (ht (pa i)), nI_add, nI_clamp (show i < 2 ^ 31 by omega), qa_by (by omega), qa_byi (by omega), qa_shi (by omega), qa_iu, qa_iu, qa_iu]
    have e2 : nI (st i) = 2 ↔ st i = 2 := nI_eq (b := 2) (by omega) (by decide)
    have e3 : nI (st (pa i)) < 3 ↔ st (pa i) < 3 := nI_ltI (b := 3) (by omega) (by decide)
    rw [e2, e3]
    have keep : ¬ (st i = 2 ∧ 3 ≤ st (pa i)) → ((x1 = 0 ∧ (st = st1 ∧ ht = ht1 ∧ wg = wg1) ∧ ∀ j, j < i + 1 → j ≠ 0 → ¬ (st1 j = 2 ∧ 3 ≤ st1 (pa j))) ∨ (x1 = 1 ∧ qt_n 2 st < qt_n 2 st1)) := by
      intro z
      rcases M with ⟨a, e, m⟩ | m
      · refine Or.inl ⟨a, e, fun j hj j0 => ?_⟩
        by_cases y : j = i
        · subst y; rw [← e.1]; exact z
        · exact m j (by omega) j0
      · exact Or.inr m
    have I24 : vp_in (nI i) 24 := vp_in_nI (by omega) (by decide)
    have P24 : vp_in (nI (pa i)) 24 := vp_in_nI (by omega) (by decide)
    refine br_f (nI_ge (b := 24) (by omega) (by decide)) ⟨I24, br_c (fun q => ⟨I24, P24, br_c (fun p => nm_e ?_) (fun p => ⟨I24, P24, I24, nm_e ⟨I24, P24, I24, nm_e ⟨I24, P24, I24, I24, nm_e (nm_e ?_)⟩⟩⟩)⟩) (fun q => nm_e ?_)⟩
    · exact ih (i + 1) st ht wg x1 (by omega) (by omega) Q (keep fun z => by omega) n (by omega)
    · refine ih (i + 1) _ _ _ 1 (by omega) (by omega) (qt_I_s hwk hpa Q (by omega) (by omega) q (by omega)) (Or.inr ⟨rfl, ?_⟩) n (by omega)
      have := qt_n_lt (v := 2) (w := st (pa i)) (st := st) (show i < 24 by omega) q (by omega)
      rcases M with ⟨_, e, _⟩ | ⟨_, m⟩
      · rw [← e.1]; exact this
      · omega
    · exact ih (i + 1) st ht wg x1 (by omega) (by omega) Q (keep fun z => q z.1) n (by omega)
theorem qx_gr2 {post : SX → Prop} {pa wk st0 ht0 wg0 : Nat → Nat} (hpa : ∀ b, pa b < 24) (hwk : ∀ b, wk b ≤ 15)
    (K : ∀ (st ht wg : Nat → Nat), qt_I pa wk st0 ht0 wg0 st ht wg → (∀ j, j < 24 → j ≠ 0 → ¬ (st j = 2 ∧ 3 ≤ st (pa j))) → post (f_submitted, f_tipHeight, f_poolSize, f_sp, f_failed, a_inCount, a_outCount, a_sealed, a_inFrom, a_inWitness, a_amounts, a_locks, (qa_i pa), (qa_i wk), (qa_i st), a_order, a_txCount, a_txs, (qa_i ht), (qa_i wg), a_main, a_unspent, a_home, a_before, a_path, a_pool, a_poolBefore, a_inPool, a_poolSpends, a_stack, a_seenLock, a_seenWitness, a_seen)) :
    ∀ m (st ht wg : Nat → Nat), qt_I pa wk st0 ht0 wg0 st ht wg → qt_n 2 st < m → ∀ n, m < n → wX_grow_2 post f_submitted f_tipHeight f_poolSize f_sp f_failed n 1 a_inCount a_outCount a_sealed a_inFrom a_inWitness a_amounts a_locks (qa_i pa) (qa_i wk) (qa_i st) a_order a_txCount a_txs (qa_i ht) (qa_i wg) a_main a_unspent a_home a_before a_path a_pool a_poolBefore a_inPool a_poolSpends a_stack a_seenLock a_seenWitness a_seen := by
  intro m
  induction m with
  | zero => intro st ht wg _ h; omega
  | succ m ih =>
    intro st ht wg Q hm n hn
    obtain ⟨n, rfl⟩ : ∃ q, n = q + 2 := ⟨n - 2, by omega⟩
    rw [wX_grow_2]
    refine br_f (by decide) ⟨24, ?_⟩
    refine qx_gr10 (st1 := st) (ht1 := ht) (wg1 := wg) hpa hwk (fun st' ht' wg' Q' h => ih st' ht' wg' Q' (by omega) (n + 1) (by omega)) (fun h => ?_) 23 1 st ht wg 0 rfl (Nat.le_refl _) Q (Or.inl ⟨rfl, ⟨rfl, rfl, rfl⟩, fun j hj j0 => by omega⟩) 24 (by decide)
    rw [wX_grow_2]
    exact br_t rfl (K st ht wg Q h)
theorem qx_grow {post : SX → Prop} {pa wk st ht wg : Nat → Nat} (hpa : ∀ b, pa b < 24) (hwk : ∀ b, wk b ≤ 15) (Q : qt_I pa wk st ht wg st ht wg)
    (K : ∀ (st' ht' wg' : Nat → Nat), qt_I pa wk st ht wg st' ht' wg' → (∀ j, j < 24 → j ≠ 0 → ¬ (st' j = 2 ∧ 3 ≤ st' (pa j))) → post (f_submitted, f_tipHeight, f_poolSize, f_sp, f_failed, a_inCount, a_outCount, a_sealed, a_inFrom, a_inWitness, a_amounts, a_locks, (qa_i pa), (qa_i wk), (qa_i st'), a_order, a_txCount, a_txs, (qa_i ht'), (qa_i wg'), a_main, a_unspent, a_home, a_before, a_path, a_pool, a_poolBefore, a_inPool, a_poolSpends, a_stack, a_seenLock, a_seenWitness, a_seen)) : wpX_grow post (f_submitted, f_tipHeight, f_poolSize, f_sp, f_failed, a_inCount, a_outCount, a_sealed, a_inFrom, a_inWitness, a_amounts, a_locks, (qa_i pa), (qa_i wk), (qa_i st), a_order, a_txCount, a_txs, (qa_i ht), (qa_i wg), a_main, a_unspent, a_home, a_before, a_path, a_pool, a_poolBefore, a_inPool, a_poolSpends, a_stack, a_seenLock, a_seenWitness, a_seen) := by
  unfold wpX_grow
  dsimp only
  exact ⟨26, qx_gr2 hpa hwk K 25 st ht wg Q (by have := qt_n_le 2 st; omega) 26 (by decide)⟩
end
end
section
/-! X: switchTo and submit's rounds -/
/-- the chain that X stands on -/
def qt_C (D : qd_T) (G : Nat → Prop) (mn : Nat → Nat) (th : Nat) (c : qc_T) : Prop := G (mn th) ∧ qd_ht D (mn th) = th ∧ (∀ i, i ≤ th → mn i = qp_p D (mn th) i) ∧ (∀ i, mn i < 24) ∧ qc_R D (mn th) = some c
/-- what X knows of blocks -/
def qt_S (D : qd_T) (G : Nat → Prop) (s0 st : Nat → Nat) : Prop := (∀ b, G b ↔ 3 ≤ st b) ∧ (∀ b, st b ≤ 4) ∧ (∀ b, st b = 4 → qc_R D b = none) ∧ (∀ b, G b → b ≠ 0 → st b = 3 → st (qd_pa D b) = 3) ∧ (∀ b, ¬ G b → st b = s0 b)
section
variable {D : qd_T} {G : Nat → Prop} {c : qc_T} {mn st s0 : Nat → Nat} {th : Nat}
theorem qp_a_s (pa : Nat → Nat) (b : Nat) : ∀ k, qp_a pa (k + 1) b = qp_a pa k (pa b)
  | 0 => rfl
  | k + 1 => congrArg pa (qp_a_s pa b k)
theorem qp_p_sub {b i : Nat} (e : qd_ht D b = qd_ht D (qd_pa D b) + 1) (hi : i ≤ qd_ht D (qd_pa D b)) : qp_p D b i = qp_p D (qd_pa D b) i := by
  unfold qp_p
  rw [show qd_ht D b - i = (qd_ht D (qd_pa D b) - i) + 1 by omega, qp_a_s]
theorem qc_R_n (V : qd_G D G) {b : Nat} (hb : G b) (b0 : b ≠ 0) (e : qc_R D (qd_pa D b) = none) : qc_R D b = none := by
  unfold qc_R at *
  rw [(V.2.1 b hb b0).2]
  exact qc_rp_n e
theorem qc_R_s (V : qd_G D G) {b : Nat} (hb : G b) (b0 : b ≠ 0) (e : qc_R D (qd_pa D b) = some c) : qc_R D b = qc_bl D c b := by
  unfold qc_R at *
  rw [(V.2.1 b hb b0).2]
  exact qc_rp_s e
theorem qt_fresh (W : qd_W D) (V : qd_G D G) {a b : Nat} (ha : G a) (e : qc_R D a = some c) (h : qd_ht D a < qd_ht D b) : c.1 (32 + b) = false := by
  cases q : c.1 (32 + b) with
  | false => rfl
  | true => have := (qc_mainR W V ha e).2.1.1 b q; omega
theorem qt_C_up (V : qd_G D G) {b : Nat} {c' : qc_T} (C : qt_C D G mn th c) (hb : G b) (b0 : b ≠ 0) (pb : qd_pa D b = mn th) (e : qc_bl D c b = some c') : qt_C D G (qa_u mn (th + 1) b) (th + 1) c' := by
  obtain ⟨gp, hp⟩ := V.2.1 b hb b0
  rw [pb, C.2.1] at hp
  unfold qt_C
  rw [qa_us]
  refine ⟨hb, hp, fun i hi => ?_, fun i => ?_, ?_⟩
  · by_cases z : i = th + 1
    · subst z; rw [qa_us, ← hp, qp_p_top]
    · rw [qa_un z, C.2.2.1 i (by omega), qp_p_sub (D := D) (b := b) (by rw [pb, C.2.1, hp]) (by rw [pb, C.2.1]; omega), pb]
  · by_cases z : i = th + 1
    · subst z; rw [qa_us]; exact V.1 b hb
    · rw [qa_un z]; exact C.2.2.2.1 i
  · rw [qc_R_s V hb b0 (by rw [pb]; exact C.2.2.2.2)]; exact e
theorem qt_C_down (W : qd_W D) (V : qd_G D G) (C : qt_C D G mn (th + 1) c) : ∃ c0, qt_C D G mn th c0 ∧ qc_bl D c0 (mn (th + 1)) = some c ∧ c0.1 (32 + mn (th + 1)) = false := by
  have b0 : mn (th + 1) ≠ 0 := fun z => by have := C.2.1; rw [z, V.2.2.1.2] at this; cases this
  obtain ⟨gp, hp⟩ := V.2.1 _ C.1 b0
  have e1 : qd_pa D (mn (th + 1)) = mn th := by
    have := qp_p_pa (D := D) (b := mn (th + 1)) (i := th) (by rw [C.2.1]; omega)
    rw [← C.2.2.1 th (by omega), ← C.2.2.1 (th + 1) (by omega)] at this
    exact this
  rw [C.2.1] at hp
  cases q : qc_R D (qd_pa D (mn (th + 1))) with
  | none => have := qc_R_n V C.1 b0 q; rw [C.2.2.2.2] at this; cases this
  | some c0 =>
    have e := qc_R_s V C.1 b0 q
    rw [C.2.2.2.2] at e
    refine ⟨c0, ⟨by rw [← e1]; exact gp, by rw [← e1]; omega, fun i hi => ?_, C.2.2.2.1, by rw [← e1]; exact q⟩, e.symm, ?_⟩
    · rw [← e1, C.2.2.1 i (by omega)]
      exact qp_p_sub (by rw [C.2.1]; omega) (by omega)
    · exact qt_fresh W V gp q (by rw [C.2.1]; omega)
theorem qt_S_a (V : qd_G D G) (S : qt_S D G s0 st) {x : Nat} (gx : G x) (sx : st x = 3) : ∀ k, k ≤ qd_ht D x → st (qp_a (qd_pa D) k x) = 3
  | 0, _ => sx
  | k + 1, hk => by
    obtain ⟨a, b⟩ := qp_s V gx k (by omega)
    exact S.2.2.2.1 _ a (fun z => by rw [z, V.2.2.1.2] at b; omega) (qt_S_a V S gx sx k (by omega))
theorem qt_S_Q (V : qd_G D G) (S : qt_S D G s0 st) {st' : Nat → Nat} (Q : qt_Q D G st st') (E : ∀ j, j < 24 → j ≠ 0 → ¬ (st' j = 3 ∧ st' (qd_pa D j) = 4)) : qt_S D G s0 st' := by
  have g : ∀ b, G b ↔ 3 ≤ st' b := fun b => by
    rcases Q b with e | ⟨x, y, z, _⟩
    · rw [e]; exact S.1 b
    · exact ⟨fun _ => by omega, fun _ => x⟩
  have le : ∀ b, st' b ≤ 4 := fun b => by
    have := S.2.1 b
    rcases Q b with e | ⟨_, _, z, _⟩ <;> omega
  refine ⟨g, le, fun b h => ?_, fun b hb b0 h => ?_, fun b h => ?_⟩
  · rcases Q b with e | ⟨_, _, _, r⟩
    · exact S.2.2.1 b (by omega)
    · exact r
  · have p := (g _).mp (V.2.1 b hb b0).1
    have q := le (qd_pa D b)
    have r := E b (V.1 b hb) b0
    omega
  · rcases Q b with e | ⟨x, _⟩
    · rw [e]; exact S.2.2.2.2 b h
    · exact absurd x h
end
section
variable {f_submitted f_tipHeight f_poolSize f_sp f_failed : Int32} {a_inCount a_outCount a_sealed a_inFrom a_inWitness a_amounts a_locks a_parent a_work a_state a_order a_txCount a_txs a_height a_weight a_main a_unspent a_home a_before a_path a_pool a_poolBefore a_inPool a_poolSpends a_stack a_seenLock a_seenWitness a_seen : Nat → Int32}
variable {D : qd_T} {G : Nat → Prop} {st s0 : Nat → Nat}
theorem qx_sw56 {post : SX → Prop} {x k0 : Nat} (W : qd_W D) (V : qd_G D G) (S : qt_S D G s0 st) (gx : G x) (sx : st x = 3) (hp : ∀ j, j < k0 → a_path j = nI (qp_a (qd_pa D) j x))
    (K : ∀ (sp fa : Int32) (stk sl sw sn : Nat → Int32) (st' mn : Nat → Nat) (th : Nat) (c : qc_T), qx_C sl sw sn → qt_S D G s0 st' → qt_C D G mn th c → ((mn th = x ∧ st' = st) ∨ qt_n 3 st' < qt_n 3 st) → post (f_submitted, nI th, f_poolSize, sp, fa, (qa_i (qd_ic D)), (qa_i (qd_ox D)), (qa_b (qd_se D)), (qa_i (qd_fr D)), (qd_wt D), (qd_am D), (qd_lk D), (qa_i (qd_pa D)), a_work, (qa_i st'), a_order, (qa_i (qd_ct D)), (qa_i (qd_tx D)), (qa_i (qd_ht D)), a_weight, (qa_i mn), (qa_b (qc_un D c)), (qc_h c), a_before, a_path, a_pool, a_poolBefore, a_inPool, a_poolSpends, stk, sl, sw, sn)) :
    ∀ k (mn : Nat → Nat) (th : Nat) (c : qc_T) (sp fa : Int32) (stk sl sw sn : Nat → Int32), k ≤ k0 → qx_C sl sw sn → qt_C D G mn th c → k + th = qd_ht D x → qp_a (qd_pa D) k x = mn th → ∀ n, k + 1 < n → wX_switchTo_56 post n (nI k) 1 f_submitted (nI th) f_poolSize sp fa (qa_i (qd_ic D)) (qa_i (qd_ox D)) (qa_b (qd_se D)) (qa_i (qd_fr D)) (qd_wt D) (qd_am D) (qd_lk D) (qa_i (qd_pa D)) a_work (qa_i st) a_order (qa_i (qd_ct D)) (qa_i (qd_tx D)) (qa_i (qd_ht D)) a_weight (qa_i mn) (qa_b (qc_un D c)) (qc_h c) a_before a_path a_pool a_poolBefore a_inPool a_poolSpends stk sl sw sn := by
  have hw := W.2.2.2.2.2.2.2.2.2 x
  intro k
  induction k with
  | zero =>
    intro mn th c sp fa stk sl sw sn hk0 CC C hk e n hn
    obtain ⟨n, rfl⟩ : ∃ q, n = q + 1 := ⟨n - 1, by omega⟩
    rw [wX_switchTo_56]
    exact br_f (by decide) (br_t (by decide) (K sp fa stk sl sw sn st mn th c CC S C (Or.inl ⟨e.symm, rfl⟩)))
  | succ k ih =>
    intro mn th c sp fa stk sl sw sn hk0 CC C hk e n hn
    obtain ⟨n, rfl⟩ : ∃ q, n = q + 2 := ⟨n - 2, by omega⟩
    obtain ⟨gb, hb⟩ := qp_s V gx k (by omega)
    have sb := qt_S_a V S gx sx k (by omega)
    have pb : qd_pa D (qp_a (qd_pa D) k x) = mn th := e
    have b0 : qp_a (qd_pa D) k x ≠ 0 := fun z => by rw [z, V.2.2.1.2] at hb; omega
    have ih' := ih (qa_u mn (th + 1) (qp_a (qd_pa D) k x)) (th + 1)
    rw [qa_us] at ih'
    have hpk := hp k (by omega)
    obtain ⟨M1, M2, M3⟩ := qc_mainR W V C.1 C.2.2.2.2
    generalize qp_a (qd_pa D) k x = b at *
    have b24 := V.1 b gb
    rw [wX_switchTo_56]
    refine br_f (by decide) (br_f (nI_nle (by omega) (by omega)) (nm_r (pk_m1 k) ?_))
    rw [nI_clamp (show k < 2 ^ 31 by omega), hpk]
    refine ⟨vp_in_nI (by omega) (by decide), ?_⟩
    refine qx_connect W V M1 M2 (by omega) gb (qt_fresh W V C.1 C.2.2.2.2 (by rw [C.2.1]; omega)) (by omega) CC (fun c' sp fa stk sl sw sn CC e => br_f (by decide) ?_) (fun sp fa stk sl sw sn CC e => br_t rfl ⟨vp_in_nI (by omega) (by decide), ?_⟩)
    · exact ih' c' sp fa stk sl sw sn (by omega) CC (qt_C_up V C gb b0 pb e) (by omega) rfl (n + 1) (by omega)
    · have r : qc_R D b = none := by rw [qc_R_s V gb b0 (by rw [pb]; exact C.2.2.2.2)]; exact e
      dsimp only
      rw [hpk]
      refine qx_condemn (D := D) (G := G) W.2.2.2.2.2.2.2.2.1 S.2.1 b24 gb sb r (fun y hy y0 s3 z => ?_) (fun st' Q lt E => ?_)
      · have gy := (S.1 y).mpr s3
        refine ⟨gy, qc_R_n V gy y0 ?_⟩
        rcases z with z | z
        · exact S.2.2.1 _ z
        · exact z.2
      · rw [wX_switchTo_56]
        exact br_t rfl (K sp fa stk sl sw sn st' mn th c CC (qt_S_Q V S Q E) C (Or.inr lt))
theorem qx_sw33 {post : SX → Prop} {x : Nat} {x2 : Int32} {mn : Nat → Nat} (W : qd_W D) (V : qd_G D G) (hx : x < 24)
    (K : ∀ c : qc_T, qt_C D G mn (qd_ht D x) c → ∃ n, wX_switchTo_56 post n x2 1 f_submitted (nI (qd_ht D x)) f_poolSize f_sp f_failed (qa_i (qd_ic D)) (qa_i (qd_ox D)) (qa_b (qd_se D)) (qa_i (qd_fr D)) (qd_wt D) (qd_am D) (qd_lk D) (qa_i (qd_pa D)) a_work (qa_i st) a_order (qa_i (qd_ct D)) (qa_i (qd_tx D)) (qa_i (qd_ht D)) a_weight (qa_i mn) (qa_b (qc_un D c)) (qc_h c) a_before a_path a_pool a_poolBefore a_inPool a_poolSpends a_stack a_seenLock a_seenWitness a_seen) :
    ∀ d th (c : qc_T), th = qd_ht D x + d → qt_C D G mn th c → ∀ n, d < n → wX_switchTo_33 post x2 (nI x) n f_submitted (nI th) f_poolSize f_sp f_failed (qa_i (qd_ic D)) (qa_i (qd_ox D)) (qa_b (qd_se D)) (qa_i (qd_fr D)) (qd_wt D) (qd_am D) (qd_lk D) (qa_i (qd_pa D)) a_work (qa_i st) a_order (qa_i (qd_ct D)) (qa_i (qd_tx D)) (qa_i (qd_ht D)) a_weight (qa_i mn) (qa_b (qc_un D c)) (qc_h c) a_before a_path a_pool a_poolBefore a_inPool a_poolSpends a_stack a_seenLock a_seenWitness a_seen := by
  have hw := W.2.2.2.2.2.2.2.2.2 x
  intro d
  induction d with
  | zero =>
    intro th c e C n hn
    obtain ⟨n, rfl⟩ : ∃ q, n = q + 1 := ⟨n - 1, by omega⟩
    have e' : th = qd_ht D x := e
    subst e'
    rw [wX_switchTo_33]
    dsimp only
    rw [qa_at _ (show x < 2 ^ 31 by omega)]
    exact ⟨vp_in_nI hx (by decide), br_t (nI_le (by omega) (by omega)) (K c C)⟩
  | succ d ih =>
    intro th c e C n hn
    obtain ⟨n, rfl⟩ : ∃ q, n = q + 1 := ⟨n - 1, by omega⟩
    have ht23 := W.2.2.2.2.2.2.2.2.2 (mn th)
    rw [C.2.1] at ht23
    obtain ⟨th, rfl⟩ : ∃ q, th = q + 1 := ⟨th - 1, by omega⟩
    obtain ⟨c0, C0, e0, f0⟩ := qt_C_down W V C
    obtain ⟨M1, M2, M3⟩ := qc_mainR W V C0.1 C0.2.2.2.2
    rw [wX_switchTo_33]
    dsimp only
    rw [qa_at _ (show x < 2 ^ 31 by omega)]
    refine ⟨vp_in_nI hx (by decide), br_f (nI_ge (by omega) (by omega)) ?_⟩
    exact qx_disc W V M1 (by omega) (by omega) C.1 f0 e0 (ih th c0 (by omega) C0 n (by omega))
theorem qx_sw4 {post : SX → Prop} {x th : Nat} {mn : Nat → Nat} {c : qc_T} (W : qd_W D) (V : qd_G D G) (gx : G x) (C : qt_C D G mn th c)
    (K : ∀ k (pth : Nat → Int32), k ≤ qd_ht D x → qx_on D mn th (qp_a (qd_pa D) k x) = true → (∀ j, j < k → pth j = nI (qp_a (qd_pa D) j x)) → ∃ n, wX_switchTo_33 post (nI k) (nI (qp_a (qd_pa D) k x)) n f_submitted (nI th) f_poolSize f_sp f_failed (qa_i (qd_ic D)) (qa_i (qd_ox D)) (qa_b (qd_se D)) (qa_i (qd_fr D)) (qd_wt D) (qd_am D) (qd_lk D) (qa_i (qd_pa D)) a_work (qa_i st) a_order (qa_i (qd_ct D)) (qa_i (qd_tx D)) (qa_i (qd_ht D)) a_weight (qa_i mn) (qa_b (qc_un D c)) (qc_h c) a_before pth a_pool a_poolBefore a_inPool a_poolSpends a_stack a_seenLock a_seenWitness a_seen) :
    ∀ d k (pth : Nat → Int32), k + d = qd_ht D x → (∀ j, j < k → pth j = nI (qp_a (qd_pa D) j x)) → ∀ n, d < n → wX_switchTo_4 post f_submitted (nI th) f_poolSize f_sp f_failed n (nI k) (nI (qp_a (qd_pa D) k x)) (qa_i (qd_ic D)) (qa_i (qd_ox D)) (qa_b (qd_se D)) (qa_i (qd_fr D)) (qd_wt D) (qd_am D) (qd_lk D) (qa_i (qd_pa D)) a_work (qa_i st) a_order (qa_i (qd_ct D)) (qa_i (qd_tx D)) (qa_i (qd_ht D)) a_weight (qa_i mn) (qa_b (qc_un D c)) (qc_h c) a_before pth a_pool a_poolBefore a_inPool a_poolSpends a_stack a_seenLock a_seenWitness a_seen := by
  have hw := W.2.2.2.2.2.2.2.2.2 x
  have hth : th < 24 := by have := W.2.2.2.2.2.2.2.2.2 (mn th); rw [C.2.1] at this; omega
  have on0 : qx_on D mn th 0 = true := by
    unfold qx_on
    rw [V.2.2.1.2, C.2.2.1 0 (Nat.zero_le _), qp_p_0 V C.1, decide_eq_true (Nat.zero_le _), decide_eq_true rfl]
    rfl
  intro d
  induction d with
  | zero =>
    intro k pth hk hp n hn
    obtain ⟨n, rfl⟩ : ∃ q, n = q + 1 := ⟨n - 1, by omega⟩
    obtain ⟨gb, hb⟩ := qp_s V gx k (by omega)
    have b0 := qp_0 V gb (by omega)
    have on : qx_on D mn th (qp_a (qd_pa D) k x) = true := by rw [b0]; exact on0
    rw [wX_switchTo_4]
    refine qx_in W (V.1 _ gb) hth C.2.2.2.1 ?_
    rw [on]
    exact br_f (by decide) (K k pth (by omega) on hp)
  | succ d ih =>
    intro k pth hk hp n hn
    obtain ⟨n, rfl⟩ : ∃ q, n = q + 1 := ⟨n - 1, by omega⟩
    obtain ⟨gb, hb⟩ := qp_s V gx k (by omega)
    have b24 := V.1 _ gb
    rw [wX_switchTo_4]
    refine qx_in W b24 hth C.2.2.2.1 ?_
    refine br_c (fun q => ?_) (fun q => K k pth (by omega) (qa_Bn.mp q) hp)
    have ih' := ih (k + 1) (upd pth k (nI (qp_a (qd_pa D) k x))) (by omega) (fun j hj => by
      by_cases z : j = k
      · subst z; exact pk_us
      · rw [pk_un z]; exact hp j (by omega)) n (by omega)
    rw [nI_1, nI_clamp (show k < 2 ^ 31 by omega), qa_byi (by omega), qa_at _ (show qp_a (qd_pa D) k x < 2 ^ 31 by omega)]
    exact nm_e ⟨vp_in_nI (by omega) (by decide), nm_e ⟨vp_in_nI b24 (by decide), nm_e ih'⟩⟩
theorem qx_switch {post : SX → Prop} {x th : Nat} {mn : Nat → Nat} {c : qc_T} (W : qd_W D) (V : qd_G D G) (S : qt_S D G s0 st) (gx : G x) (sx : st x = 3) (C : qt_C D G mn th c) (CC : qx_C a_seenLock a_seenWitness a_seen)
    (K : ∀ (sp fa : Int32) (stk sl sw sn : Nat → Int32) (pth : Nat → Int32) (st' mn : Nat → Nat) (th : Nat) (c : qc_T), qx_C sl sw sn → qt_S D G s0 st' → qt_C D G mn th c → ((mn th = x ∧ st' = st) ∨ qt_n 3 st' < qt_n 3 st) → post (f_submitted, nI th, f_poolSize, sp, fa, (qa_i (qd_ic D)), (qa_i (qd_ox D)), (qa_b (qd_se D)), (qa_i (qd_fr D)), (qd_wt D), (qd_am D), (qd_lk D), (qa_i (qd_pa D)), a_work, (qa_i st'), a_order, (qa_i (qd_ct D)), (qa_i (qd_tx D)), (qa_i (qd_ht D)), a_weight, (qa_i mn), (qa_b (qc_un D c)), (qc_h c), a_before, pth, a_pool, a_poolBefore, a_inPool, a_poolSpends, stk, sl, sw, sn)) : wpX_switchTo post (f_submitted, nI th, f_poolSize, f_sp, f_failed, (qa_i (qd_ic D)), (qa_i (qd_ox D)), (qa_b (qd_se D)), (qa_i (qd_fr D)), (qd_wt D), (qd_am D), (qd_lk D), (qa_i (qd_pa D)), a_work, (qa_i st), a_order, (qa_i (qd_ct D)), (qa_i (qd_tx D)), (qa_i (qd_ht D)), a_weight, (qa_i mn), (qa_b (qc_un D c)), (qc_h c), a_before, a_path, a_pool, a_poolBefore, a_inPool, a_poolSpends, a_stack, a_seenLock, a_seenWitness, a_seen) (nI x) := by
  have hw := W.2.2.2.2.2.2.2.2.2 x
  unfold wpX_switchTo
  dsimp only
  refine ⟨qd_ht D x + 1, ?_⟩
  refine qx_sw4 W V gx C (fun k pth hk on hp => ?_) (qd_ht D x) 0 _ (by omega) (fun j hj => by omega) _ (Nat.lt_succ_self _)
  obtain ⟨gb, hb⟩ := qp_s V gx k hk
  unfold qx_on at on
  rw [Bool.and_eq_true, decide_eq_true_eq, decide_eq_true_eq] at on
  refine ⟨th - qd_ht D (qp_a (qd_pa D) k x) + 1, ?_⟩
  refine qx_sw33 W V (V.1 _ gb) (fun c0 C0 => ⟨k + 2, ?_⟩) (th - qd_ht D (qp_a (qd_pa D) k x)) th c (by omega) C _ (Nat.lt_succ_self _)
  exact qx_sw56 (k0 := k) W V S gx sx hp (fun sp fa stk sl sw sn st' mn th c CC S C h => K sp fa stk sl sw sn pth st' mn th c CC S C h) k mn _ c0 _ _ _ _ _ _ (Nat.le_refl _) CC C0 (by omega) on.2.symm _ (Nat.lt_succ_self _)
end
end
section
/-! X: submit's rounds -/
def qb_X (st wg od : Nat → Nat) (x : Nat) : Prop := x < 24 ∧ st x = 3 ∧ ∀ b, b < 24 → st b = 3 → ¬ qb_gt wg od b x
theorem qb_X_u {st wg od : Nat → Nat} {G : Nat → Prop} {x y : Nat} (hG : ∀ b, G b ↔ 3 ≤ st b) (O : ∀ a b, G a → G b → od a = od b → a = b) (hx : qb_X st wg od x) (hy : qb_X st wg od y) : x = y := by
  have a := hx.2.2 y hy.1 hy.2.1
  have b := hy.2.2 x hx.1 hx.2.1
  unfold qb_gt at a b
  exact O x y ((hG x).mpr (by have := hx.2.1; omega)) ((hG y).mpr (by have := hy.2.1; omega)) (by omega)
section
variable {f_submitted f_tipHeight f_poolSize f_sp f_failed : Int32} {a_inCount a_outCount a_sealed a_inFrom a_inWitness a_amounts a_locks a_parent a_work a_state a_order a_txCount a_txs a_height a_weight a_main a_unspent a_home a_before a_path a_pool a_poolBefore a_inPool a_poolSpends a_stack a_seenLock a_seenWitness a_seen : Nat → Int32}
variable {D : qd_T} {G : Nat → Prop} {wg od wk s0 : Nat → Nat} {old oh : Nat}
theorem qt_s0 {st : Nat → Nat} (W : qd_W D) (V : qd_G D G) (S : qt_S D G s0 st) : st 0 = 3 := by
  have a := (S.1 0).mp V.2.2.1.1
  have b := S.2.1 0
  have c : st 0 ≠ 4 := fun z => qc_R0 W V (S.2.2.1 0 z)
  omega
theorem qx_104a {post : Int32 → SX → Prop} {st mn : Nat → Nat} {th x k : Nat} {c : qc_T} (hth : th < 24) (hx : x < 24) (e : mn th = x) (hk : k ≤ 24) (K : wX_submit_143 post (nI old) (nI oh) (nI x) f_submitted (nI th) f_poolSize f_sp f_failed (qa_i (qd_ic D)) (qa_i (qd_ox D)) (qa_b (qd_se D)) (qa_i (qd_fr D)) (qd_wt D) (qd_am D) (qd_lk D) (qa_i (qd_pa D)) (qa_i wk) (qa_i st) (qa_i od) (qa_i (qd_ct D)) (qa_i (qd_tx D)) (qa_i (qd_ht D)) (qa_i wg) (qa_i mn) (qa_b (qc_un D c)) (qc_h c) a_before a_path a_pool a_poolBefore a_inPool a_poolSpends a_stack a_seenLock a_seenWitness a_seen) : ∀ n, 0 < n → wX_submit_104 post (nI old) (nI oh) n (nI x) (nI k) f_submitted (nI th) f_poolSize f_sp f_failed (qa_i (qd_ic D)) (qa_i (qd_ox D)) (qa_b (qd_se D)) (qa_i (qd_fr D)) (qd_wt D) (qd_am D) (qd_lk D) (qa_i (qd_pa D)) (qa_i wk) (qa_i st) (qa_i od) (qa_i (qd_ct D)) (qa_i (qd_tx D)) (qa_i (qd_ht D)) (qa_i wg) (qa_i mn) (qa_b (qc_un D c)) (qc_h c) a_before a_path a_pool a_poolBefore a_inPool a_poolSpends a_stack a_seenLock a_seenWitness a_seen := by
  intro n hn
  obtain ⟨n, rfl⟩ : ∃ q, n = q + 1 := ⟨n - 1, by omega⟩
  rw [wX_submit_104]
  dsimp only
  rw [qa_at mn (show th < 2 ^ 31 by omega), e]
  exact br_f (nI_ge (b := 25) (by omega) (by decide)) ⟨vp_in_nI hth (by decide), br_t rfl K⟩
theorem qx_104 {post : Int32 → SX → Prop} (W : qd_W D) (V : qd_G D G) (hwg : ∀ b, wg b ≤ 345) (hod : ∀ b, od b ≤ 23) (O : ∀ a b, G a → G b → od a = od b → a = b)
    (K : ∀ (sp fa : Int32) (stk sl sw sn : Nat → Int32) (pth : Nat → Int32) (st mn : Nat → Nat) (th : Nat) (c : qc_T), qx_C sl sw sn → qt_S D G s0 st → qt_C D G mn th c → qb_X st wg od (mn th) → wX_submit_143 post (nI old) (nI oh) (nI (mn th)) f_submitted (nI th) f_poolSize sp fa (qa_i (qd_ic D)) (qa_i (qd_ox D)) (qa_b (qd_se D)) (qa_i (qd_fr D)) (qd_wt D) (qd_am D) (qd_lk D) (qa_i (qd_pa D)) (qa_i wk) (qa_i st) (qa_i od) (qa_i (qd_ct D)) (qa_i (qd_tx D)) (qa_i (qd_ht D)) (qa_i wg) (qa_i mn) (qa_b (qc_un D c)) (qc_h c) a_before pth a_pool a_poolBefore a_inPool a_poolSpends stk sl sw sn) :
    ∀ N (st mn : Nat → Nat) (th : Nat) (c : qc_T) (sp fa : Int32) (stk sl sw sn : Nat → Int32) (pth : Nat → Int32) (x k : Nat), qx_C sl sw sn → qt_S D G s0 st → qt_C D G mn th c → qb_X st wg od x → qt_n 3 st + k ≤ 24 → qt_n 3 st ≤ N → ∀ n, N + 1 < n → wX_submit_104 post (nI old) (nI oh) n (nI x) (nI k) f_submitted (nI th) f_poolSize sp fa (qa_i (qd_ic D)) (qa_i (qd_ox D)) (qa_b (qd_se D)) (qa_i (qd_fr D)) (qd_wt D) (qd_am D) (qd_lk D) (qa_i (qd_pa D)) (qa_i wk) (qa_i st) (qa_i od) (qa_i (qd_ct D)) (qa_i (qd_tx D)) (qa_i (qd_ht D)) (qa_i wg) (qa_i mn) (qa_b (qc_un D c)) (qc_h c) a_before pth a_pool a_poolBefore a_inPool a_poolSpends stk sl sw sn := by
  intro N
  induction N with
  | zero =>
    intro st mn th c sp fa stk sl sw sn pth x k _ S _ _ _ hN
    have : 1 ≤ qt_n 3 st := qa_cpos (a := 0) (by show decide (st 0 = 3) = true; exact decide_eq_true (qt_s0 W V S)) (by decide)
    omega
  | succ N ih =>
    intro st mn th c sp fa stk sl sw sn pth x k CC S C X hk hN n hn
    have q1 : 1 ≤ qt_n 3 st := qa_cpos (a := 0) (by show decide (st 0 = 3) = true; exact decide_eq_true (qt_s0 W V S)) (by decide)
    have hth : th < 24 := by have := W.2.2.2.2.2.2.2.2.2 (mn th); rw [C.2.1] at this; omega
    have m24 := C.2.2.2.1 th
    have x24 := X.1
    by_cases e : mn th = x
    · have X' := X
      rw [← e] at X'
      have KK := K sp fa stk sl sw sn pth st mn th c CC S C X'
      rw [e] at KK
      exact qx_104a hth x24 e (by omega) KK n (by omega)
    · obtain ⟨n, rfl⟩ : ∃ q, n = q + 1 := ⟨n - 1, by omega⟩
      rw [wX_submit_104]
      dsimp only
      rw [qa_at mn (show th < 2 ^ 31 by omega), nI_eq (by omega) (by omega), nI_1]
      refine br_f (nI_ge (b := 25) (by omega) (by decide)) ⟨vp_in_nI hth (by decide), br_f (fun z => e z.symm) ?_⟩
      refine qx_switch W V S ((S.1 x).mpr (by have := X.2.1; omega)) X.2.1 C CC (fun sp fa stk sl sw sn pth st' mn' th' c' CC S' C' h => ?_)
      refine qx_hv S'.2.1 hwg hod (qt_s0 W V S') (fun y y1 y2 y3 => nm_e ?_)
      have Y : qb_X st' wg od y := ⟨y1, y2, y3⟩
      rcases h with ⟨e1, e2⟩ | lt
      · subst e2
        have yx := qb_X_u S'.1 O Y X
        subst yx
        have hth' : th' < 24 := by have := W.2.2.2.2.2.2.2.2.2 (mn' th'); rw [C'.2.1] at this; omega
        have KK := K sp fa stk sl sw sn pth st' mn' th' c' CC S' C' (by rw [e1]; exact X)
        rw [e1] at KK
        exact qx_104a hth' y1 e1 (by omega) KK n (by omega)
      · exact ih st' mn' th' c' sp fa stk sl sw sn pth y (k + 1) CC S' C' Y (by omega) (by omega) n (by omega)
theorem qx_69 {post : Int32 → SX → Prop} {st mn : Nat → Nat} {th : Nat} {c : qc_T} (W : qd_W D) (V : qd_G D G) (S : qt_S D G s0 st) (C : qt_C D G mn th c) (CC : qx_C a_seenLock a_seenWitness a_seen) (hwg : ∀ b, wg b ≤ 345) (hod : ∀ b, od b ≤ 23) (O : ∀ a b, G a → G b → od a = od b → a = b)
    (K : ∀ (sp fa : Int32) (stk sl sw sn : Nat → Int32) (bf pth : Nat → Int32) (st' mn' : Nat → Nat) (th' : Nat) (c' : qc_T), (∀ i, i ≤ th → bf i = nI (mn i)) → qx_C sl sw sn → qt_S D G s0 st' → qt_C D G mn' th' c' → qb_X st' wg od (mn' th') → wX_submit_143 post (nI old) (nI th) (nI (mn' th')) f_submitted (nI th') f_poolSize sp fa (qa_i (qd_ic D)) (qa_i (qd_ox D)) (qa_b (qd_se D)) (qa_i (qd_fr D)) (qd_wt D) (qd_am D) (qd_lk D) (qa_i (qd_pa D)) (qa_i wk) (qa_i st') (qa_i od) (qa_i (qd_ct D)) (qa_i (qd_tx D)) (qa_i (qd_ht D)) (qa_i wg) (qa_i mn') (qa_b (qc_un D c')) (qc_h c') bf pth a_pool a_poolBefore a_inPool a_poolSpends stk sl sw sn) :
    ∀ d i (bf : Nat → Int32), i + d = th + 1 → (∀ j, j < i → bf j = nI (mn j)) → ∀ n, d < n → wX_submit_69 post (nI old) (nI th) f_submitted (nI th) f_poolSize f_sp f_failed n (nI i) (qa_i (qd_ic D)) (qa_i (qd_ox D)) (qa_b (qd_se D)) (qa_i (qd_fr D)) (qd_wt D) (qd_am D) (qd_lk D) (qa_i (qd_pa D)) (qa_i wk) (qa_i st) (qa_i od) (qa_i (qd_ct D)) (qa_i (qd_tx D)) (qa_i (qd_ht D)) (qa_i wg) (qa_i mn) (qa_b (qc_un D c)) (qc_h c) bf a_path a_pool a_poolBefore a_inPool a_poolSpends a_stack a_seenLock a_seenWitness a_seen := by
  have hth : th < 24 := by have := W.2.2.2.2.2.2.2.2.2 (mn th); rw [C.2.1] at this; omega
  intro d
  induction d with
  | zero =>
    intro i bf hi hb n hn
    obtain ⟨n, rfl⟩ : ∃ q, n = q + 1 := ⟨n - 1, by omega⟩
    rw [wX_submit_69]
    refine br_t (nI_lt (by omega) (by omega)) ?_
    refine qx_hv S.2.1 hwg hod (qt_s0 W V S) (fun y y1 y2 y3 => ⟨26, ?_⟩)
    have h24 := qt_n_le 3 st
    exact qx_104 W V hwg hod O (fun sp fa stk sl sw sn pth st' mn' th' c' CC S' C' X => K sp fa stk sl sw sn bf pth st' mn' th' c' (fun i hi => hb i (by omega)) CC S' C' X) 24 st mn th c _ _ _ _ _ _ _ y 0 CC S C ⟨y1, y2, y3⟩ (by omega) h24 26 (by decide)
  | succ d ih =>
    intro i bf hi hb n hn
    obtain ⟨n, rfl⟩ : ∃ q, n = q + 1 := ⟨n - 1, by omega⟩
    have mi := C.2.2.2.1 i
    rw [wX_submit_69]
    dsimp only
    rw [qa_at mn (show i < 2 ^ 31 by omega), nI_clamp (show i < 2 ^ 31 by omega), nI_1, qa_by (by omega)]
    refine br_f (nI_nlt (by omega) (by omega)) ⟨vp_in_nI (by omega) (by decide), vp_in_nI (by omega) (by decide), fun y ey => nm_e ?_⟩
    refine ih (i + 1) y (by omega) (fun j hj => ?_) n (by omega)
    rw [ey]
    by_cases z : j = i
    · subst z; exact pk_us
    · rw [pk_un z]; exact hb j (by omega)
/-- submit behind grow -/
theorem qx_sub {post : Int32 → SX → Prop} {st mn : Nat → Nat} {th : Nat} {c : qc_T} {P : qe_T} {ip psd : Nat → Bool} (W : qd_W D) (V : qd_G D G) (S : qt_S D G s0 st) (C : qt_C D G mn th c) (CC : qx_C a_seenLock a_seenWitness a_seen) (hwg : ∀ b, wg b ≤ 345) (hod : ∀ b, od b ≤ 23) (O : ∀ a b, G a → G b → od a = od b → a = b) (hP : qe_V D (th + 1) c P) (X : qx_P c P.2.2 ip psd)
    (K0 : ∀ (sp fa : Int32) (stk sl sw sn : Nat → Int32) (bf pth : Nat → Int32) (st' mn' : Nat → Nat), qx_C sl sw sn → qt_S D G s0 st' → qt_C D G mn' th c → qb_X st' wg od (mn th) → mn' th = mn th → post 0 (f_submitted, nI th, nI P.1, sp, fa, (qa_i (qd_ic D)), (qa_i (qd_ox D)), (qa_b (qd_se D)), (qa_i (qd_fr D)), (qd_wt D), (qd_am D), (qd_lk D), (qa_i (qd_pa D)), (qa_i wk), (qa_i st'), (qa_i od), (qa_i (qd_ct D)), (qa_i (qd_tx D)), (qa_i (qd_ht D)), (qa_i wg), (qa_i mn'), (qa_b (qc_un D c)), (qc_h c), bf, pth, (qa_i P.2.1), a_poolBefore, (qa_b ip), (qa_b psd), stk, sl, sw, sn))
    (K1 : ∀ (sp fa : Int32) (stk sl sw sn : Nat → Int32) (bf pth pb : Nat → Int32) (st' mn' : Nat → Nat) (th' : Nat) (c' : qc_T) (ip' psd' : Nat → Bool), qx_C sl sw sn → qt_S D G s0 st' → qt_C D G mn' th' c' → qb_X st' wg od (mn' th') → mn' th' ≠ mn th → qx_P c' (qe_F D (mn' th') (mn th) c' P.1 P.2.1).2.2 ip' psd' → post 1 (f_submitted, nI th', nI (qe_F D (mn' th') (mn th) c' P.1 P.2.1).1, sp, fa, (qa_i (qd_ic D)), (qa_i (qd_ox D)), (qa_b (qd_se D)), (qa_i (qd_fr D)), (qd_wt D), (qd_am D), (qd_lk D), (qa_i (qd_pa D)), (qa_i wk), (qa_i st'), (qa_i od), (qa_i (qd_ct D)), (qa_i (qd_tx D)), (qa_i (qd_ht D)), (qa_i wg), (qa_i mn'), (qa_b (qc_un D c')), (qc_h c'), bf, pth, (qa_i (qe_F D (mn' th') (mn th) c' P.1 P.2.1).2.1), pb, (qa_b ip'), (qa_b psd'), stk, sl, sw, sn)) :
    ∃ n, wX_submit_69 post (nI (mn th)) (nI th) f_submitted (nI th) (nI P.1) f_sp f_failed n 0 (qa_i (qd_ic D)) (qa_i (qd_ox D)) (qa_b (qd_se D)) (qa_i (qd_fr D)) (qd_wt D) (qd_am D) (qd_lk D) (qa_i (qd_pa D)) (qa_i wk) (qa_i st) (qa_i od) (qa_i (qd_ct D)) (qa_i (qd_tx D)) (qa_i (qd_ht D)) (qa_i wg) (qa_i mn) (qa_b (qc_un D c)) (qc_h c) a_before a_path (qa_i P.2.1) a_poolBefore (qa_b ip) (qa_b psd) a_stack a_seenLock a_seenWitness a_seen := by
  refine ⟨th + 2, qx_69 (old := mn th) W V S C CC hwg hod O (fun sp fa stk sl sw sn bf pth st' mn' th' c' hb CC S' C' B => ?_) (th + 1) 0 _ (by omega) (fun j hj => by omega) _ (Nat.lt_succ_self _)⟩
  have m24 := C.2.2.2.1 th
  have m24' := C'.2.2.2.1 th'
  unfold wX_submit_143
  rw [nI_eq (by omega) (by omega)]
  refine br_c (fun q => ?_) (fun q => ?_)
  · have e1 := C'.2.1
    have e2 := C'.2.2.2.2
    have C2 := C'
    rw [q] at e1 e2 B
    have et : th' = th := by rw [← e1, C.2.1]
    subst et
    rw [C.2.2.2.2] at e2
    cases e2
    exact K0 sp fa stk sl sw sn bf pth st' mn' CC S' C2 B q
  · obtain ⟨M1, M2, M3⟩ := qc_mainR W V C'.1 C'.2.2.2.2
    obtain ⟨N1, N2, N3⟩ := qc_mainR W V C.1 C.2.2.2.2
    have hP' : qe_V D (qd_ht D (mn th) + 1) c P := by rw [C.2.1]; exact hP
    have goal := qx_refill (f_submitted := f_submitted) (f_sp := sp) (f_failed := fa) (a_work := qa_i wk) (a_state := qa_i st') (a_order := qa_i od) (a_weight := qa_i wg) (a_before := bf) (a_path := pth) (a_poolBefore := a_poolBefore) (a_stack := stk) (a_seenLock := sl) (a_seenWitness := sw) (a_seen := sn) (post := fun u => post 1 u) (b := mn' th') (old := mn th) (P := P) (mn := mn') W V C'.1 C.1 CC (fun t h => by have := M2.2 t h; omega) M1 (by omega) N1 (by omega) hP' X C'.2.2.2.1 (fun i hi => C'.2.2.1 i (by rw [C'.2.1] at hi; exact hi)) (fun i hi => (hb i (by rw [C.2.1] at hi; exact hi)).trans (by rw [C.2.2.1 i (by rw [C.2.1] at hi; exact hi)])) (fun sp fa stk sl sw sn pb ip' psd' CC X' => by
      have KK := K1 sp fa stk sl sw sn bf pth pb st' mn' th' c' ip' psd' CC S' C' B q X'
      rw [C'.2.1]
      exact KK)
    rw [C'.2.1, C.2.1] at goal
    exact goal
end
end
section
/-! the relation -/
def qr_O (sb : Nat) (D : qd_T) (st wk od wg : Nat → Nat) : Prop := (∀ b, od b ≤ sb) ∧ (∀ a b, 2 ≤ st a → 2 ≤ st b → od a = od b → a = b) ∧ sb + qa_c (fun b => decide (st b ≤ 1)) 24 = 23 ∧ (∀ b, 3 ≤ st b → qd_ht D b + 1 ≤ qa_c (fun x => decide (3 ≤ st x)) 24 ∧ wg b ≤ 15 * qd_ht D b) ∧ (∀ b, wk b ≤ 15) ∧ (∀ b i, i < qd_ct D b → qd_se D (qd_tx D (3 * b + i)) = true) ∧ (∀ b, 1 ≤ st b → qd_oc D (32 + b) = 1) ∧ (∀ b, 24 ≤ b → st b = 0) ∧ (∀ t, 32 ≤ t → qd_se D t = false)
def qr_F (sb th : Nat) (D : qd_T) (st wk od wg mn : Nat → Nat) (c : qc_T) (P : qe_T) (ip psd : Nat → Bool) : Prop := qd_W D ∧ qd_G D (fun b => 3 ≤ st b) ∧ qt_S D (fun b => 3 ≤ st b) st st ∧ qt_C D (fun b => 3 ≤ st b) mn th c ∧ qe_V D (th + 1) c P ∧ qx_P c P.2.2 ip psd ∧ qt_T D (fun b => min 2 (st b)) wk wg (fun b => 3 ≤ st b) ∧ qb_X st wg od (mn th) ∧ qr_O sb D st wk od wg
section
variable {D D' : qd_T} {G : Nat → Prop} {c : qc_T}
theorem qc_r_se {g : Nat → Nat} {h b : Nat} : ∀ {n : Nat} {c' : qc_T}, qc_r D g h b c n = some c' → ∀ i, i < n → qd_se D (g i) = true
  | 0, _, _, i, hi => by omega
  | n + 1, c', e, i, hi => by
    obtain ⟨c1, e1, f, _⟩ := qc_r_inv e
    by_cases z : i = n
    · subst z; exact (qc_fit_iff.mp f).2.1
    · exact qc_r_se e1 i (by omega)
theorem qf_V {h : Nat} {P : qe_T} (W : qd_W D) (V : qd_G D G) (A : qf_A D D' G) (I : qc_I D G c) (hP : qe_V D h c P) : qe_V D' h c P := by
  refine ⟨?_, hP.2.1, hP.2.2⟩
  rw [(qf_r W V A I (g := P.2.1) (g' := P.2.1) (h := h) (b := 24) (n := P.1) (fun i hi => ⟨rfl, qc_r_se hP.1 i hi, hP.2.2 i⟩)).1]
  exact hP.1
theorem qf_a (V : qd_G D G) (A : qf_A D D' G) {x : Nat} (gx : G x) : ∀ k, k ≤ qd_ht D x → qp_a (qd_pa D') k x = qp_a (qd_pa D) k x
  | 0, _ => rfl
  | k + 1, hk => by
    show qd_pa D' (qp_a (qd_pa D') k x) = qd_pa D (qp_a (qd_pa D) k x)
    rw [qf_a V A gx k (by omega)]
    exact (A.2.1 _ (qp_s V gx k (by omega)).1).2.2.1
theorem qf_p (V : qd_G D G) (A : qf_A D D' G) {x i : Nat} (gx : G x) : qp_p D' x i = qp_p D x i := by
  unfold qp_p
  rw [(A.2.1 x gx).2.2.2.1]
  exact qf_a V A gx _ (by omega)
theorem qf_C {mn : Nat → Nat} {th : Nat} (W : qd_W D) (V : qd_G D G) (A : qf_A D D' G) (C : qt_C D G mn th c) : qt_C D' G mn th c := by
  refine ⟨C.1, ?_, fun i hi => ?_, C.2.2.2.1, ?_⟩
  · rw [(A.2.1 _ C.1).2.2.2.1]; exact C.2.1
  · rw [qf_p V A C.1]; exact C.2.2.1 i hi
  · rw [qf_R W V A C.1]; exact C.2.2.2.2
/-- drafts may change: what is sealed or submitted doesn't -/
theorem qr_D {sb th : Nat} {st st' wk wk' od wg mn : Nat → Nat} {P : qe_T} {ip psd : Nat → Bool} (F : qr_F sb th D st wk od wg mn c P ip psd) (W' : qd_W D') (A : qf_A D D' (fun b => 3 ≤ st b)) (hs : ∀ b, 2 ≤ st b ∨ 2 ≤ st' b → st' b = st b) (hp : ∀ b, 2 ≤ st b → qd_pa D' b = qd_pa D b) (hk : ∀ b, 2 ≤ st b → wk' b = wk b) (hk2 : ∀ b, wk' b ≤ 15) (hx : ∀ b i, i < qd_ct D' b → qd_se D' (qd_tx D' (3 * b + i)) = true) (ho : ∀ b, 1 ≤ st' b → qd_oc D' (32 + b) = 1) (h24 : ∀ b, 24 ≤ b → st' b = 0) (hse : ∀ t, 32 ≤ t → qd_se D' t = false) : qr_F sb th D' st' wk' od wg mn c P ip psd ∧ qc_un D' c = qc_un D c := by
  obtain ⟨W, V, S, C, hP, X, T, B, O⟩ := F
  have eG : (fun b => 3 ≤ st' b) = (fun b => 3 ≤ st b) := by
    funext b
    refine propext ⟨fun h => ?_, fun h => ?_⟩
    · have h' : 3 ≤ st' b := h
      rw [hs b (Or.inr (by omega))] at h'; exact h'
    · have h' : 3 ≤ st b := h
      show 3 ≤ st' b
      rw [hs b (Or.inl (by omega))]; exact h'
  have M := (qc_mainR W V C.1 C.2.2.2.2).1
  refine ⟨?_, qf_un A M⟩
  have s2 : ∀ b, 2 ≤ st b → st' b = st b := fun b h => hs b (Or.inl h)
  have lo : ∀ b, st b ≤ 1 → st' b ≤ 1 := fun b h => by
    by_cases z : st' b ≤ 1
    · exact z
    · have := hs b (Or.inr (by omega)); omega
  have V' : qd_G D' (fun b => 3 ≤ st b) := by
    refine ⟨V.1, fun b hb b0 => ?_, ⟨V.2.2.1.1, ?_⟩, fun b _ => hx b, fun b hb => ?_, ?_, ?_⟩
    · obtain ⟨x, y⟩ := V.2.1 b hb b0
      have a := (A.2.1 b hb).2.2
      rw [a.1]
      exact ⟨x, by rw [a.2.1, (A.2.1 _ x).2.2.2.1]; exact y⟩
    · rw [(A.2.1 0 V.2.2.1.1).2.2.2.1]; exact V.2.2.1.2
    · rw [(A.2.1 b hb).2.2.2.2.2.2]; exact V.2.2.2.2.1 b hb
    · rw [(A.2.1 0 V.2.2.1.1).1]; exact V.2.2.2.2.2.1
    · have := (A.2.1 0 V.2.2.1.1).2.2.2.2.1
      rw [show 64 + 2 * 0 = 64 from rfl] at this
      rw [this]; exact V.2.2.2.2.2.2
  unfold qr_F
  rw [eG]
  refine ⟨W', V', ⟨fun b => ?_, fun b => ?_, fun b h => ?_, fun b hb b0 h => ?_, fun b _ => rfl⟩, qf_C W V A C, qf_V W V A M hP, X, ⟨fun b hb => ?_, fun b hb gb h => ?_, fun b hb b0 => ?_, ⟨T.2.2.2.1.1, ?_⟩, T.2.2.2.2.1, fun b => Nat.min_le_left _ _⟩, ⟨B.1, ?_, fun b hb h => ?_⟩, O.1, fun a b ha hb => ?_, ?_, fun b hb => ?_, hk2, hx, ho, h24, hse⟩
  · rw [← eG]
  · by_cases z : st' b ≤ 1
    · omega
    · rw [hs b (Or.inr (by omega))]; exact S.2.1 b
  · have e := hs b (Or.inr (by omega))
    rw [qf_R W V A (by show 3 ≤ st b; omega)]
    exact S.2.2.1 b (by omega)
  · have hb' : 3 ≤ st b := hb
    rw [(A.2.1 b hb).2.2.1]
    have := S.2.2.2.1 b hb b0 (by rw [← s2 b (by omega)]; exact h)
    rw [s2 _ (by omega)]; exact this
  · have hb' : 3 ≤ st b := hb
    show min 2 (st' b) = 2
    rw [s2 b (by omega)]; omega
  · have h' : min 2 (st' b) = 2 := h
    have e := hs b (Or.inr (by omega))
    have := T.2.1 b hb gb (by show min 2 (st b) = 2; omega)
    rw [hp b (by omega)]; exact this
  · have hb' : 3 ≤ st b := hb
    rw [hp b (by omega), hk b (by omega)]; exact T.2.2.1 b hb b0
  · have z : 3 ≤ st 0 := V.2.2.1.1
    rw [hk 0 (by omega)]; exact T.2.2.2.1.2
  · have := B.2.1
    rw [s2 _ (by omega)]; exact this
  · exact B.2.2 b hb (by rw [← hs b (Or.inr (by omega))]; exact h)
  · intro e
    have e1 := hs a (Or.inr ha)
    have e2 := hs b (Or.inr hb)
    exact O.2.1 a b (by omega) (by omega) e
  · rw [← O.2.2.1]
    refine congrArg (fun z => sb + z) (qa_cc fun i _ => ?_)
    by_cases z : st i ≤ 1
    · rw [decide_eq_true z, decide_eq_true (lo i z)]
    · rw [s2 i (by omega)]
  · have e : qa_c (fun x => decide (3 ≤ st' x)) 24 = qa_c (fun x => decide (3 ≤ st x)) 24 := qa_cc fun i _ => by
      by_cases z : 2 ≤ st i
      · rw [s2 i z]
      · rw [decide_eq_false (show ¬ 3 ≤ st' i by have := lo i (by omega); omega), decide_eq_false (by omega)]
    have hb' : 3 ≤ st b := by
      have := hs b (Or.inr (by omega)); omega
    rw [e, (A.2.1 b hb').2.2.2.1]
    exact O.2.2.2.1 b hb'
end
/-- the data with other heights -/
def qd_h (D : qd_T) (ht : Nat → Nat) : qd_T := (D.1, D.2.1, D.2.2.1, D.2.2.2.1, D.2.2.2.2.1, D.2.2.2.2.2.1, D.2.2.2.2.2.2.1, D.2.2.2.2.2.2.2.1, D.2.2.2.2.2.2.2.2.1, D.2.2.2.2.2.2.2.2.2.1, ht)
/-- what a submitted block leads to, for both sides -/
def qr_sp (sb th : Nat) (D : qd_T) (st wk od mn : Nat → Nat) (P : qe_T) (b : Nat) (r : Int32) (th' : Nat) (ht' st' wg' mn' : Nat → Nat) (c' : qc_T) (P' : qe_T) (ip' psd' : Nat → Bool) : Prop := qr_F (sb + 1) th' (qd_h D ht') st' wk (qa_u od b (sb + 1)) wg' mn' c' P' ip' psd' ∧ ((fun x => min 2 (st' x)) = (fun x => min 2 (qa_u st b 2 x))) ∧ 3 ≤ st' (mn th) ∧ ((r = 0 ∧ mn' th' = mn th ∧ P' = P) ∨ (r = 1 ∧ mn' th' ≠ mn th ∧ P' = qe_F (qd_h D ht') (mn' th') (mn th) c' P.1 P.2.1))
section
variable {D : qd_T} {c : qc_T} {sb th : Nat} {st wk od wg mn : Nat → Nat} {P : qe_T} {ip psd : Nat → Bool}
/-- ahead of grow -/
theorem qr_g0 {b : Nat} (F : qr_F sb th D st wk od wg mn c P ip psd) (hb : b < 24) (b0 : b ≠ 0) (sb1 : st b = 1) : qt_I (qd_pa D) wk (qa_u st b 2) (qd_ht D) wg (qa_u st b 2) (qd_ht D) wg := by
  obtain ⟨W, V, S, C, hP, X, T, B, O⟩ := F
  have e : ∀ x, 3 ≤ qa_u st b 2 x → x ≠ b ∧ qa_u st b 2 x = st x := fun x h => by
    by_cases z : x = b
    · subst z; rw [qa_us] at h; omega
    · exact ⟨z, qa_un z⟩
  have e' : ∀ x, 3 ≤ st x → qa_u st b 2 x = st x := fun x h => qa_un (fun z => by subst z; omega)
  have cc : qa_c (fun x => decide (3 ≤ qa_u st b 2 x)) 24 = qa_c (fun x => decide (3 ≤ st x)) 24 := qa_cc fun i _ => by
    by_cases z : i = b
    · subst z; rw [qa_us, decide_eq_false (by decide), decide_eq_false (by omega)]
    · rw [qa_un z]
  refine ⟨fun x _ => ⟨rfl, rfl, rfl⟩, fun x hx h x0 => ?_, fun x hx h => ?_, fun x => ?_, W.2.2.2.2.2.2.2.2.2, T.2.2.2.2.1, fun x h => Or.inl h⟩
  · obtain ⟨xb, ex⟩ := e x h
    rw [ex] at h ⊢
    obtain ⟨g, hh⟩ := V.2.1 x h x0
    have ep := e' _ g
    rw [ep]
    exact ⟨g, hh, T.2.2.1 x h x0, fun z => S.2.2.2.1 x h x0 z, fun z => Or.inr z⟩
  · obtain ⟨xb, ex⟩ := e x h
    rw [cc]
    rw [ex] at h
    exact O.2.2.2.1 x h
  · by_cases z : x = b
    · subst z; rw [qa_us]; omega
    · rw [qa_un z]; exact S.2.1 x
/-- behind grow: all but the best tip -/
theorem qr_g1 {b : Nat} {st' ht' wg' : Nat → Nat} (F : qr_F sb th D st wk od wg mn c P ip psd) (hb : b < 24) (b0 : b ≠ 0) (sb1 : st b = 1) (I : qt_I (qd_pa D) wk (qa_u st b 2) (qd_ht D) wg st' ht' wg') (E : ∀ j, j < 24 → j ≠ 0 → ¬ (st' j = 2 ∧ 3 ≤ st' (qd_pa D j))) :
    qd_W (qd_h D ht') ∧ qd_G (qd_h D ht') (fun x => 3 ≤ st' x) ∧ qt_S (qd_h D ht') (fun x => 3 ≤ st' x) st' st' ∧ qt_C (qd_h D ht') (fun x => 3 ≤ st' x) mn th c ∧ qe_V (qd_h D ht') (th + 1) c P ∧ qt_T (qd_h D ht') (fun x => min 2 (st' x)) wk wg' (fun x => 3 ≤ st' x) ∧ ((fun x => min 2 (st' x)) = (fun x => min 2 (qa_u st b 2 x))) ∧ 3 ≤ st' (mn th) ∧ qr_O (sb + 1) (qd_h D ht') st' wk (qa_u od b (sb + 1)) wg' := by
  obtain ⟨W, V, S, C, hP, X, T, B, O⟩ := F
  obtain ⟨i1, i2, i3, i4, i5, i6, i7⟩ := I
  have e' : ∀ x, 3 ≤ st x → qa_u st b 2 x = st x := fun x h => qa_un (fun z => by subst z; omega)
  have old : ∀ x, 3 ≤ st x → st' x = st x ∧ ht' x = qd_ht D x ∧ wg' x = wg x := fun x h => by
    have e := e' x h
    have := i1 x (Or.inl (by omega))
    rw [e] at this
    exact this
  have st2 : ∀ x, 2 ≤ st' x ↔ 2 ≤ qa_u st b 2 x := fun x => by
    by_cases z : qa_u st b 2 x = 2
    · have := i7 x z; constructor <;> intro <;> omega
    · have := (i1 x (Or.inl z)).1; omega
  have st2b : ∀ x, 2 ≤ st' x → x = b ∨ 2 ≤ st x := fun x h => by
    have := (st2 x).mp h
    by_cases z : x = b
    · exact Or.inl z
    · rw [qa_un z] at this; exact Or.inr this
  have g24 : ∀ x, 24 ≤ x → st' x = 0 := fun x h => by
    have xb : x ≠ b := by omega
    have o := O.2.2.2.2.2.2.2.1 x h
    have := (i1 x (Or.inl (by rw [qa_un xb]; omega))).1
    rw [qa_un xb, o] at this
    exact this
  have lt24 : ∀ x, 3 ≤ st' x → x < 24 := fun x h => by
    by_cases z : x < 24
    · exact z
    · have := g24 x (by omega); omega
  have old1 : ∀ x, 1 ≤ st' x → 1 ≤ st x := fun x h => by
    by_cases z : x = b
    · subst z; omega
    · by_cases y : qa_u st b 2 x = 2
      · rw [qa_un z] at y; omega
      · have := (i1 x (Or.inl y)).1; rw [qa_un z] at this; omega
  have z0 : 3 ≤ st 0 := V.2.2.1.1
  have W' : qd_W (qd_h D ht') := ⟨W.1, W.2.1, W.2.2.1, W.2.2.2.1, W.2.2.2.2.1, W.2.2.2.2.2.1, W.2.2.2.2.2.2.1, W.2.2.2.2.2.2.2.1, W.2.2.2.2.2.2.2.2.1, i5⟩
  have V' : qd_G (qd_h D ht') (fun x => 3 ≤ st' x) := by
    refine ⟨lt24, fun x h x0 => ?_, ⟨?_, ?_⟩, fun x _ => O.2.2.2.2.2.1 x, fun x h => O.2.2.2.2.2.2.1 x (old1 x (by have h' : 3 ≤ st' x := h; omega)), V.2.2.2.2.2⟩
    · have := i2 x (lt24 x h) h x0
      exact ⟨this.1, this.2.1⟩
    · show 3 ≤ st' 0
      rw [(old 0 z0).1]; exact z0
    · show ht' 0 = 0
      rw [(old 0 z0).2.1]; exact V.2.2.1.2
  have A : qf_A D (qd_h D ht') (fun x => 3 ≤ st x) := ⟨fun t s => ⟨s, rfl, rfl, fun i _ => ⟨rfl, rfl, rfl, rfl⟩⟩, fun x h => ⟨rfl, fun i _ => rfl, rfl, (old x h).2.1, rfl, rfl, rfl⟩, fun t _ => rfl⟩
  have M := (qc_mainR W V C.1 C.2.2.2.2).1
  have C1 := qf_C W V A C
  have RN : ∀ n x, ht' x = n → 3 ≤ st' x → st' x = 4 → qc_R (qd_h D ht') x = none := by
    intro n
    induction n with
    | zero =>
      intro x hx h h4
      have := qp_0 V' h hx
      subst this
      have := (old 0 z0).1
      have := qt_s0 W V S
      omega
    | succ n ih =>
      intro x hx h h4
      have x0 : x ≠ 0 := fun z => by
        subst z
        have := (old 0 z0).1
        have := qt_s0 W V S
        omega
      obtain ⟨a1, a2, a3, a4, a5⟩ := i2 x (lt24 x h) h x0
      rcases a5 h4 with y | y
      · exact qc_R_n V' h x0 (ih _ (by show ht' (qd_pa D x) = n; omega) a1 y)
      · have xb : x ≠ b := fun z => by subst z; rw [qa_us] at y; omega
        rw [qa_un xb] at y
        rw [qf_R W V A (by show 3 ≤ st x; omega)]
        exact S.2.2.1 x y
  have om := O.2.2.1
  have cc : qa_c (fun x => decide (st x ≤ 1)) 24 = qa_c (fun x => decide (st' x ≤ 1)) 24 + 1 := by
    refine qa_c1 (a := b) ?_ (decide_eq_true (by omega)) hb (fun i _ hi => ?_)
    · have := (st2 b).mpr (by rw [qa_us]; omega)
      exact decide_eq_false (by omega)
    · have := st2 i
      rw [qa_un hi] at this
      by_cases z : st i ≤ 1
      · rw [decide_eq_true z, decide_eq_true (show st' i ≤ 1 by omega)]
      · rw [decide_eq_false z, decide_eq_false (show ¬ st' i ≤ 1 by omega)]
  refine ⟨W', V', ⟨fun x => Iff.rfl, i4, fun x h => RN _ x rfl (by omega) h, fun x h x0 h3 => (i2 x (lt24 x h) h x0).2.2.2.1 h3, fun x _ => rfl⟩, ⟨?_, C1.2.1, C1.2.2.1, C1.2.2.2.1, C1.2.2.2.2⟩, qf_V W V A M hP, ⟨fun x h => ?_, fun x hx gx h => ?_, fun x h x0 => ?_, ⟨?_, T.2.2.2.1.2⟩, i6, fun x => Nat.min_le_left _ _⟩, ?_, ?_, fun x => ?_, fun x y hx hy e => ?_, by omega, fun x h => i3 x (lt24 x h) h, O.2.2.2.2.1, O.2.2.2.2.2.1, fun x h => O.2.2.2.2.2.2.1 x (old1 x h), g24, O.2.2.2.2.2.2.2.2⟩
  · show 3 ≤ st' (mn th)
    rw [(old _ C.1).1]; exact C.1
  · have h' : 3 ≤ st' x := h
    show min 2 (st' x) = 2
    omega
  · have h' : min 2 (st' x) = 2 := h
    have gx' : ¬ 3 ≤ st' x := gx
    have x0 : x ≠ 0 := fun z => by subst z; have := (old 0 z0).1; omega
    refine ⟨x0, fun g => E x hx x0 ⟨by omega, g⟩⟩
  · exact (i2 x (lt24 x h) h x0).2.2.1
  · rw [(old 0 z0).2.2]; exact T.2.2.2.1.1
  · funext x
    have := st2 x
    by_cases z : qa_u st b 2 x = 2
    · have := i7 x z; omega
    · rw [(i1 x (Or.inl z)).1]
  · rw [(old _ C.1).1]; exact C.1
  · by_cases z : x = b
    · subst z; rw [qa_us]; omega
    · rw [qa_un z]; have := O.1 x; omega
  · by_cases zx : x = b
    · by_cases zy : y = b
      · rw [zx, zy]
      · rw [zx, qa_us, qa_un zy] at e
        have := O.1 y
        omega
    · by_cases zy : y = b
      · rw [zy, qa_us, qa_un zx] at e
        have := O.1 x
        omega
      · rw [qa_un zx, qa_un zy] at e
        have a1 := (st2b x hx).resolve_left zx
        have a2 := (st2b y hy).resolve_left zy
        exact O.2.1 x y a1 a2 e
end
end
section
/-! submit, both sides -/
def qr_x (sb th : Nat) (D : qd_T) (st wk od wg mn : Nat → Nat) (c : qc_T) (P : qe_T) (ip psd : Nat → Bool) (sp fa : Int32) (stk sl sw sn : Nat → Int32) (bf pth pb : Nat → Int32) : SX := (nI sb, nI th, nI P.1, sp, fa, (qa_i (qd_ic D)), (qa_i (qd_ox D)), (qa_b (qd_se D)), (qa_i (qd_fr D)), (qd_wt D), (qd_am D), (qd_lk D), (qa_i (qd_pa D)), (qa_i wk), (qa_i st), (qa_i od), (qa_i (qd_ct D)), (qa_i (qd_tx D)), (qa_i (qd_ht D)), (qa_i wg), (qa_i mn), (qa_b (qc_un D c)), (qc_h c), bf, pth, (qa_i P.2.1), pb, (qa_b ip), (qa_b psd), stk, sl, sw, sn)
def qr_y (sb x : Nat) (D : qd_T) (st wk od : Nat → Nat) (P : qe_T) (len w : Int32) (pth : Nat → Int32) (lis spe : Nat → Bool) (hO stk opl opt : Nat → Int32) : SY := (nI sb, len, w, nI P.1, nI x, (qa_i (qd_ic D)), (qa_i (fun k => qd_fr D k / 2)), (qa_i (fun k => qd_fr D k % 2)), (qd_wt D), (qa_i (qd_oc D)), (qd_am D), (qd_lk D), (qa_b (qd_se D)), (qa_i (fun b => min 2 (st b))), (qa_i (qd_pa D)), (qa_i wk), (qa_i (qd_ct D)), (qa_i (qd_tx D)), (qa_i od), pth, (qa_b lis), (qa_b spe), hO, stk, (qa_i P.2.1), opl, opt)
section
variable {D : qd_T} {c : qc_T} {sb th : Nat} {st wk od wg mn : Nat → Nat} {P : qe_T} {ip psd : Nat → Bool}
theorem qr_fin {D' : qd_T} {s1 st' od' wg' mn' : Nat → Nat} {th' n : Nat} {c' : qc_T} {P' : qe_T} {ip' psd' : Nat → Bool} (W : qd_W D') (V : qd_G D' (fun x => 3 ≤ s1 x)) (T : qt_T D' (fun x => min 2 (s1 x)) wk wg' (fun x => 3 ≤ s1 x)) (O : qr_O n D' s1 wk od' wg') (S : qt_S D' (fun x => 3 ≤ s1 x) s1 st') (C : qt_C D' (fun x => 3 ≤ s1 x) mn' th' c') (hP : qe_V D' (th' + 1) c' P') (X : qx_P c' P'.2.2 ip' psd') (B : qb_X st' wg' od' (mn' th')) : qr_F n th' D' st' wk od' wg' mn' c' P' ip' psd' ∧ ((fun x => min 2 (st' x)) = (fun x => min 2 (s1 x))) := by
  have g : ∀ x, 3 ≤ s1 x ↔ 3 ≤ st' x := S.1
  have eG : (fun x => 3 ≤ st' x) = (fun x => 3 ≤ s1 x) := funext fun x => propext (g x).symm
  have ne : ∀ x, ¬ 3 ≤ s1 x → st' x = s1 x := S.2.2.2.2
  have ey : (fun x => min 2 (st' x)) = (fun x => min 2 (s1 x)) := by
    funext x
    by_cases z : 3 ≤ s1 x
    · have := (g x).mp z; omega
    · rw [ne x z]
  have two : ∀ x, 2 ≤ st' x → 2 ≤ s1 x := fun x h => by
    by_cases z : 3 ≤ s1 x
    · omega
    · rw [← ne x z]; exact h
  refine ⟨?_, ey⟩
  unfold qr_F
  rw [eG, ey]
  refine ⟨W, V, ⟨S.1, S.2.1, S.2.2.1, S.2.2.2.1, fun _ _ => rfl⟩, C, hP, X, T, B, O.1, fun a b ha hb => O.2.1 a b (two a ha) (two b hb), ?_, fun x h => ?_, O.2.2.2.2.1, O.2.2.2.2.2.1, fun x h => ?_, fun x h => ?_, O.2.2.2.2.2.2.2.2⟩
  · rw [← O.2.2.1]
    refine congrArg (fun z => n + z) (qa_cc fun i _ => ?_)
    by_cases z : 3 ≤ s1 i
    · have := (g i).mp z
      rw [decide_eq_false (show ¬ st' i ≤ 1 by omega), decide_eq_false (show ¬ s1 i ≤ 1 by omega)]
    · rw [ne i z]
  · have e : qa_c (fun x => decide (3 ≤ st' x)) 24 = qa_c (fun x => decide (3 ≤ s1 x)) 24 := qa_cc fun i _ => decide_eq_decide.mpr (g i).symm
    rw [e]
    exact O.2.2.2.1 x ((g x).mpr h)
  · by_cases z : 3 ≤ s1 x
    · exact O.2.2.2.2.2.2.1 x (by omega)
    · exact O.2.2.2.2.2.2.1 x (by rw [← ne x z]; exact h)
  · have := O.2.2.2.2.2.2.2.1 x h
    rw [ne x (by omega)]; exact this
theorem qx_isBlk {post : Int32 → Prop} {b : Nat} (hb : b < 24) (b0 : b ≠ 0) (K : post 1) : wpX_isBlock post (nI b) := by
  unfold wpX_isBlock
  exact br_f (nI_nle (by omega) (by omega)) (br_f (nI_ge (b := 24) hb (by decide)) K)
theorem qr_sb {b : Nat} (F : qr_F sb th D st wk od wg mn c P ip psd) (hb : b < 24) (h : st b ≤ 1) : sb < 23 := by
  have a := F.2.2.2.2.2.2.2.2.2.2.1
  have : 1 ≤ qa_c (fun b => decide (st b ≤ 1)) 24 := qa_cpos (a := b) (decide_eq_true h) hb
  omega
theorem qx_submit {post : Int32 → SX → Prop} {b : Nat} {sp fa : Int32} {stk sl sw sn : Nat → Int32} {bf pth pb : Nat → Int32} (F : qr_F sb th D st wk od wg mn c P ip psd) (CC : qx_C sl sw sn) (hb : b < 24) (b0 : b ≠ 0) (sb1 : st b = 1)
    (K : ∀ (sp fa : Int32) (stk sl sw sn : Nat → Int32) (bf pth pb : Nat → Int32) (r : Int32) (th' : Nat) (ht' st' wg' mn' : Nat → Nat) (c' : qc_T) (P' : qe_T) (ip' psd' : Nat → Bool), qx_C sl sw sn → qr_sp sb th D st wk od mn P b r th' ht' st' wg' mn' c' P' ip' psd' → post r (qr_x (sb + 1) th' (qd_h D ht') st' wk (qa_u od b (sb + 1)) wg' mn' c' P' ip' psd' sp fa stk sl sw sn bf pth pb)) : wpX_submit post (qr_x sb th D st wk od wg mn c P ip psd sp fa stk sl sw sn bf pth pb) (nI b) := by
  have hsb := qr_sb F hb (by omega)
  have hth : th < 24 := by have := F.1.2.2.2.2.2.2.2.2.2 (mn th); rw [F.2.2.2.1.2.1] at this; omega
  have e2 : vp_nar .byte 2 = nI 2 := qa_by (v := 2) (by decide)
  unfold qr_x wpX_submit
  dsimp only
  refine qx_isBlk hb b0 (br_f (by decide) ?_)
  rw [qa_at st (show b < 2 ^ 31 by omega), sb1, nI_clamp (show b < 2 ^ 31 by omega), e2, qa_iu, nI_1]
  refine ⟨vp_in_nI hb (by decide), br_t rfl ⟨vp_in_nI hb (by decide), nm_e (nm_e ?_)⟩⟩
  rw [qa_byi (by omega), qa_iu]
  refine ⟨vp_in_nI hb (by decide), nm_e ?_⟩
  refine qx_grow F.1.2.2.2.2.2.2.2.2.1 F.2.2.2.2.2.2.2.2.2.2.2.2.1 (qr_g0 F hb b0 sb1) (fun st' ht' wg' I E => ?_)
  obtain ⟨W', V', S', C', hP', T', ey, g0, O'⟩ := qr_g1 F hb b0 sb1 I E
  have m24 := C'.2.2.2.1 th
  dsimp only
  rw [qa_at mn (show th < 2 ^ 31 by omega)]
  refine ⟨vp_in_nI hth (by decide), nm_e ?_⟩
  have hod : ∀ x, qa_u od b (sb + 1) x ≤ 23 := fun x => by have := O'.1 x; omega
  have OO : ∀ x y, 3 ≤ st' x → 3 ≤ st' y → qa_u od b (sb + 1) x = qa_u od b (sb + 1) y → x = y := fun x y hx hy => O'.2.1 x y (by omega) (by omega)
  refine qx_sub (D := qd_h D ht') (s0 := st') (wk := wk) (wg := wg') (od := qa_u od b (sb + 1)) W' V' S' C' CC T'.2.2.2.2.1 hod OO hP' F.2.2.2.2.2.1 (fun sp fa stk sl sw sn bf pth st2 mn2 CC S2 C2 B2 e => ?_) (fun sp fa stk sl sw sn bf pth pb st2 mn2 th2 c2 ip2 psd2 CC S2 C2 B2 ne X2 => ?_)
  · rw [← e] at B2
    obtain ⟨F2, e2⟩ := qr_fin W' V' T' O' S2 C2 hP' F.2.2.2.2.2.1 B2
    have g2 := (S2.1 (mn th)).mp g0
    exact K sp fa stk sl sw sn bf pth pb 0 th ht' st2 wg' mn2 c P ip psd CC ⟨F2, e2.trans ey, g2, Or.inl ⟨rfl, e, rfl⟩⟩
  · have hP2 : qe_V (qd_h D ht') (th2 + 1) c2 (qe_F (qd_h D ht') (mn2 th2) (mn th) c2 P.1 P.2.1) := by
      have := qe_V_F (D := qd_h D ht') (b := mn2 th2) (old := mn th) (ps := P.1) (pl := P.2.1) (c := c2) W' F.2.2.2.2.1.2.2
      rw [C2.2.1] at this
      exact this
    obtain ⟨F2, e2⟩ := qr_fin W' V' T' O' S2 C2 hP2 X2 B2
    have g2 := (S2.1 (mn th)).mp g0
    exact K sp fa stk sl sw sn bf pth pb 1 th2 ht' st2 wg' mn2 c2 _ ip2 psd2 CC ⟨F2, e2.trans ey, g2, Or.inr ⟨rfl, ne, rfl⟩⟩
theorem qb_u {G : Nat → Prop} {x y : Nat} (O : ∀ a b, G a → G b → od a = od b → a = b) (hx : qb_B D wg od G x) (hy : qb_B D wg od G y) : x = y := by
  have a := hx.2.2 y hy.1 hy.2.1
  have b := hy.2.2 x hx.1 hx.2.1
  unfold qb_gt at a b
  exact O x y hx.1 hy.1 (by omega)
theorem qr_best (F : qr_F sb th D st wk od wg mn c P ip psd) : qb_B D wg od (fun x => 3 ≤ st x) (mn th) := by
  obtain ⟨W, V, S, C, hP, X, T, B, O⟩ := F
  refine ⟨C.1, fun z => (by rw [C.2.2.2.2] at z; cases z), fun x hx rx => B.2.2 x (V.1 x hx) ?_⟩
  have a : 3 ≤ st x := hx
  have b := S.2.1 x
  have c : st x ≠ 4 := fun z => rx (S.2.2.1 x z)
  omega
theorem qy_st {b : Nat} : qa_u (fun x => min 2 (st x)) b 2 = (fun x => min 2 (qa_u st b 2 x)) := by
  funext x
  by_cases z : x = b
  · subst z; rw [qa_us, qa_us]; rfl
  · rw [qa_un z, qa_un z]
theorem qy_submit {post : Int32 → SY → Prop} {b : Nat} {len w : Int32} {pth : Nat → Int32} {lis spe : Nat → Bool} {hO stk opl opt : Nat → Int32} {r : Int32} {th' : Nat} {ht' st' wg' mn' : Nat → Nat} {c' : qc_T} {P' : qe_T} {ip' psd' : Nat → Bool} (F : qr_F sb th D st wk od wg mn c P ip psd) (TT : qy_T lis spe) (hb : b < 24) (b0 : b ≠ 0) (sb1 : st b = 1) (R : qr_sp sb th D st wk od mn P b r th' ht' st' wg' mn' c' P' ip' psd')
    (K : ∀ (len w : Int32) (pth : Nat → Int32) (lis spe : Nat → Bool) (hO stk opl opt : Nat → Int32), qy_T lis spe → post r (qr_y (sb + 1) (mn' th') (qd_h D ht') st' wk (qa_u od b (sb + 1)) P' len w pth lis spe hO stk opl opt)) : wpY_submit post (qr_y sb (mn th) D st wk od P len w pth lis spe hO stk opl opt) (nI b) := by
  have hsb := qr_sb F hb (by omega)
  obtain ⟨F', ey, g0, R⟩ := R
  have Bx := qr_best F'
  have F2 := F'
  obtain ⟨W', V', S', C', hP', X', T', B', O'⟩ := F2
  have hod : ∀ x, qa_u od b (sb + 1) x ≤ 23 := fun x => by have := O'.1 x; omega
  have OO : ∀ x y, 3 ≤ st' x → 3 ≤ st' y → qa_u od b (sb + 1) x = qa_u od b (sb + 1) y → x = y := fun x y hx hy => O'.2.1 x y (by omega) (by omega)
  unfold qr_y wpY_submit
  dsimp only
  refine qy_out0 (lo := 1) (hi := 23) (by omega) (by omega) (by decide) (br_t rfl ?_)
  have e1 : min 2 (st b) = 1 := by rw [sb1]; rfl
  have e2 : upd (qa_i (fun x => min 2 (st x))) b 2 = qa_i (fun x => min 2 (st' x)) := by
    rw [ey, ← qy_st]; exact qa_iu (v := 2)
  rw [qa_at _ (show b < 2 ^ 31 by omega), e1, nI_clamp (show b < 2 ^ 31 by omega), e2, nI_1]
  refine ⟨vp_in_nI hb (by decide), br_t rfl ⟨vp_in_nI hb (by decide), nm_e (nm_e ?_)⟩⟩
  rw [qa_iu]
  refine ⟨vp_in_nI hb (by decide), nm_e ?_⟩
  refine qy_adv (D := qd_h D ht') (wg := wg') (G := fun x => 3 ≤ st' x) W' V' T' hod g0 F.2.2.2.2.1.2.1 F.2.2.2.2.1.2.2 TT (fun len w pth lis spe hO stk opl opt TT' B => ?_) (fun y c0 len w pth lis spe hO stk opl opt TT' B ne e => ?_)
  · have u := qb_u OO B Bx
    rcases R with ⟨rfl, a1, rfl⟩ | ⟨_, a1, _⟩
    · have KK := K len w pth lis spe hO stk opl opt TT'
      rw [a1] at KK
      exact br_t rfl KK
    · exact absurd u.symm a1
  · have u := qb_u OO B Bx
    subst u
    rcases R with ⟨_, a1, _⟩ | ⟨rfl, a1, rfl⟩
    · exact absurd a1 ne
    · rw [C'.2.2.2.2] at e
      cases e
      exact br_f (by decide) (K len w pth lis spe hO stk opl opt TT')
end
end
section
/-! drafting: the edits keep the facts -/
def qd_in (D : qd_T) (t v : Nat) (w : Int32) : qd_T := (qa_u (qd_ic D) t (qd_ic D t + 1), qd_oc D, qd_se D, qa_u (qd_fr D) (2 * t + qd_ic D t) v, upd (qd_wt D) (2 * t + qd_ic D t) w, qd_am D, qd_lk D, qd_ct D, qd_tx D, qd_pa D, qd_ht D)
def qd_ou (D : qd_T) (t : Nat) (a l : Int32) : qd_T := (qd_ic D, qa_u (qd_oc D) t (qd_oc D t + 1), qd_se D, qd_fr D, qd_wt D, upd (qd_am D) (2 * t + qd_oc D t) a, upd (qd_lk D) (2 * t + qd_oc D t) l, qd_ct D, qd_tx D, qd_pa D, qd_ht D)
def qd_sl (D : qd_T) (t : Nat) : qd_T := (qd_ic D, qd_oc D, qa_v (qd_se D) t true, qd_fr D, qd_wt D, qd_am D, qd_lk D, qd_ct D, qd_tx D, qd_pa D, qd_ht D)
def qd_dr (D : qd_T) (b on : Nat) : qd_T := (qd_ic D, qa_u (qd_oc D) (32 + b) 1, qd_se D, qd_fr D, qd_wt D, upd (qd_am D) (64 + 2 * b) 50, upd (qd_lk D) (64 + 2 * b) 1, qa_u (qd_ct D) b 0, qd_tx D, qa_u (qd_pa D) b on, qd_ht D)
/-- a draft block's transactions, amount and lock -/
def qd_bl (D : qd_T) (am lk : Nat → Int32) (ct tx : Nat → Nat) : qd_T := (qd_ic D, qd_oc D, qd_se D, qd_fr D, qd_wt D, am, lk, ct, tx, qd_pa D, qd_ht D)
section
variable {D : qd_T} {c : qc_T} {sb th : Nat} {st wk od wg mn : Nat → Nat} {P : qe_T} {ip psd : Nat → Bool}
theorem qr_in {t v : Nat} {w : Int32} (F : qr_F sb th D st wk od wg mn c P ip psd) (ht : t < 32) (s : qd_se D t = false) (hi : qd_ic D t ≤ 1) (hv : v < 112) : qr_F sb th (qd_in D t v w) st wk od wg mn c P ip psd := by
  have F0 := F
  obtain ⟨W, V, S, C, hP, X, T, B, O⟩ := F0
  refine (qr_D (D' := qd_in D t v w) (st' := st) (wk' := wk) F ?_ ?_ (fun _ _ => rfl) (fun _ _ => rfl) (fun _ _ => rfl) O.2.2.2.2.1 O.2.2.2.2.2.1 O.2.2.2.2.2.2.1 O.2.2.2.2.2.2.2.1 O.2.2.2.2.2.2.2.2).1
  · refine ⟨fun x => ?_, fun x hx => ?_, W.2.2.1, fun k => ?_, W.2.2.2.2⟩
    · show qa_u (qd_ic D) t (qd_ic D t + 1) x ≤ 2
      by_cases z : x = t
      · subst z; rw [qa_us]; omega
      · rw [qa_un z]; exact W.1 x
    · show qa_u (qd_ic D) t (qd_ic D t + 1) x = 0
      rw [qa_un (by omega)]; exact W.2.1 x hx
    · show qa_u (qd_fr D) (2 * t + qd_ic D t) v k < 112
      by_cases z : k = 2 * t + qd_ic D t
      · rw [z, qa_us]; exact hv
      · rw [qa_un z]; exact W.2.2.2.1 k
  · refine ⟨fun x hx => ?_, fun b hb => ⟨rfl, fun _ _ => rfl, rfl, rfl, rfl, rfl, rfl⟩, fun x hx => ?_⟩
    · have xt : x ≠ t := fun e => by subst e; rw [s] at hx; cases hx
      refine ⟨hx, qa_un xt, rfl, fun i hi2 => ⟨?_, ?_, rfl, rfl⟩⟩
      · exact qa_un (by omega)
      · exact pk_un (by omega)
    · exact qa_un (by omega)
theorem qr_ou {t : Nat} {a l : Int32} (F : qr_F sb th D st wk od wg mn c P ip psd) (ht : t < 32) (s : qd_se D t = false) (hi : qd_oc D t ≤ 1) (ha : 0 ≤ a.toInt) (ha2 : a.toInt ≤ 1000) : qr_F sb th (qd_ou D t a l) st wk od wg mn c P ip psd ∧ qc_un (qd_ou D t a l) c = qc_un D c := by
  have F0 := F
  obtain ⟨W, V, S, C, hP, X, T, B, O⟩ := F0
  have h64 : 2 * t + qd_oc D t < 64 := by omega
  refine qr_D (D' := qd_ou D t a l) (st' := st) (wk' := wk) F ?_ ?_ (fun _ _ => rfl) (fun _ _ => rfl) (fun _ _ => rfl) O.2.2.2.2.1 O.2.2.2.2.2.1 (fun b hb => ?_) O.2.2.2.2.2.2.2.1 O.2.2.2.2.2.2.2.2
  · refine ⟨W.1, W.2.1, fun x => ?_, W.2.2.2.1, fun o => ?_, fun o ho => ?_, W.2.2.2.2.2.2⟩
    · show qa_u (qd_oc D) t (qd_oc D t + 1) x ≤ 2
      by_cases z : x = t
      · subst z; rw [qa_us]; omega
      · rw [qa_un z]; exact W.2.2.1 x
    · show 0 ≤ (upd (qd_am D) (2 * t + qd_oc D t) a o).toInt
      by_cases z : o = 2 * t + qd_oc D t
      · rw [z, pk_us]; exact ha
      · rw [pk_un z]; exact W.2.2.2.2.1 o
    · show (upd (qd_am D) (2 * t + qd_oc D t) a o).toInt ≤ 1000
      by_cases z : o = 2 * t + qd_oc D t
      · rw [z, pk_us]; exact ha2
      · rw [pk_un z]; exact W.2.2.2.2.2.1 o ho
  · refine ⟨fun x hx => ?_, fun b hb => ⟨rfl, fun _ _ => rfl, rfl, rfl, ?_, ?_, ?_⟩, fun x hx => rfl⟩
    · have xt : x ≠ t := fun e => by subst e; rw [s] at hx; cases hx
      refine ⟨hx, rfl, qa_un xt, fun i hi2 => ⟨rfl, rfl, ?_, ?_⟩⟩
      · exact pk_un (by omega)
      · exact pk_un (by omega)
    · exact pk_un (by omega)
    · exact pk_un (by omega)
    · exact qa_un (by omega)
  · show qa_u (qd_oc D) t (qd_oc D t + 1) (32 + b) = 1
    rw [qa_un (by omega)]; exact O.2.2.2.2.2.2.1 b hb
theorem qr_sl {t : Nat} (F : qr_F sb th D st wk od wg mn c P ip psd) (ht : t < 32) : qr_F sb th (qd_sl D t) st wk od wg mn c P ip psd := by
  have F0 := F
  obtain ⟨W, V, S, C, hP, X, T, B, O⟩ := F0
  have m : ∀ x, qd_se D x = true → qa_v (qd_se D) t true x = true := fun x h => by
    by_cases z : x = t
    · subst z; exact qa_vs
    · rw [qa_vn z]; exact h
  refine (qr_D (D' := qd_sl D t) (st' := st) (wk' := wk) F W ?_ (fun _ _ => rfl) (fun _ _ => rfl) (fun _ _ => rfl) O.2.2.2.2.1 (fun b i hi => m _ (O.2.2.2.2.2.1 b i hi)) O.2.2.2.2.2.2.1 O.2.2.2.2.2.2.2.1 (fun x hx => ?_)).1
  · exact ⟨fun x hx => ⟨m x hx, rfl, rfl, fun i _ => ⟨rfl, rfl, rfl, rfl⟩⟩, fun b hb => ⟨rfl, fun _ _ => rfl, rfl, rfl, rfl, rfl, rfl⟩, fun x hx => rfl⟩
  · show qa_v (qd_se D) t true x = false
    rw [qa_vn (by omega)]; exact O.2.2.2.2.2.2.2.2 x hx
theorem qr_dr {b on pw : Nat} (F : qr_F sb th D st wk od wg mn c P ip psd) (hb : b < 24) (b0 : b ≠ 0) (s : st b ≤ 1) (hon : on < 24) (hpw : pw ≤ 15) : qr_F sb th (qd_dr D b on) (qa_u st b 1) (qa_u wk b pw) od wg mn c P ip psd ∧ qc_un (qd_dr D b on) c = qc_un D c := by
  have F0 := F
  obtain ⟨W, V, S, C, hP, X, T, B, O⟩ := F0
  refine qr_D (D' := qd_dr D b on) (st' := qa_u st b 1) (wk' := qa_u wk b pw) F ?_ ?_ (fun x hx => ?_) (fun x hx => ?_) (fun x hx => ?_) (fun x => ?_) (fun x i hi => ?_) (fun x hx => ?_) (fun x hx => ?_) O.2.2.2.2.2.2.2.2
  · refine ⟨W.1, W.2.1, fun x => ?_, W.2.2.2.1, fun o => ?_, fun o ho => ?_, fun x => ?_, W.2.2.2.2.2.2.2.1, fun x => ?_, W.2.2.2.2.2.2.2.2.2⟩
    · show qa_u (qd_oc D) (32 + b) 1 x ≤ 2
      by_cases z : x = 32 + b
      · rw [z, qa_us]; omega
      · rw [qa_un z]; exact W.2.2.1 x
    · show 0 ≤ (upd (qd_am D) (64 + 2 * b) 50 o).toInt
      by_cases z : o = 64 + 2 * b
      · rw [z, pk_us]; decide
      · rw [pk_un z]; exact W.2.2.2.2.1 o
    · show (upd (qd_am D) (64 + 2 * b) 50 o).toInt ≤ 1000
      rw [pk_un (by omega)]; exact W.2.2.2.2.2.1 o ho
    · show qa_u (qd_ct D) b 0 x ≤ 3
      by_cases z : x = b
      · rw [z, qa_us]; omega
      · rw [qa_un z]; exact W.2.2.2.2.2.2.1 x
    · show qa_u (qd_pa D) b on x < 24
      by_cases z : x = b
      · rw [z, qa_us]; exact hon
      · rw [qa_un z]; exact W.2.2.2.2.2.2.2.2.1 x
  · refine ⟨fun x hx => ?_, fun y hy => ?_, fun x hx => rfl⟩
    · have x32 : x < 32 := by
        by_cases z : x < 32
        · exact z
        · rw [O.2.2.2.2.2.2.2.2 x (by omega)] at hx; cases hx
      refine ⟨hx, rfl, qa_un (by omega), fun i hi2 => ⟨rfl, rfl, ?_, ?_⟩⟩
      · exact pk_un (by omega)
      · exact pk_un (by omega)
    · have hy' : 3 ≤ st y := hy
      have yb : y ≠ b := fun e => by subst e; omega
      exact ⟨qa_un yb, fun _ _ => rfl, qa_un yb, rfl, pk_un (by omega), pk_un (by omega), qa_un (by omega)⟩
  · by_cases z : x = b
    · subst z; rw [qa_us] at hx; omega
    · exact qa_un z
  · exact qa_un (fun e => by subst e; omega)
  · exact qa_un (fun e => by subst e; omega)
  · by_cases z : x = b
    · subst z; rw [qa_us]; exact hpw
    · rw [qa_un z]; exact O.2.2.2.2.1 x
  · have hi' : i < qa_u (qd_ct D) b 0 x := hi
    by_cases z : x = b
    · subst z; rw [qa_us] at hi'; omega
    · rw [qa_un z] at hi'; exact O.2.2.2.2.2.1 x i hi'
  · show qa_u (qd_oc D) (32 + b) 1 (32 + x) = 1
    by_cases z : x = b
    · subst z; rw [qa_us]
    · rw [qa_un z] at hx
      rw [qa_un (by omega)]; exact O.2.2.2.2.2.2.1 x hx
  · rw [qa_un (by omega)]; exact O.2.2.2.2.2.2.2.1 x hx
theorem qr_bl {b : Nat} {am lk : Nat → Int32} {ct tx : Nat → Nat} (F : qr_F sb th D st wk od wg mn c P ip psd) (s : st b ≤ 1) (ham : ∀ o, o ≠ 64 + 2 * b → am o = qd_am D o) (ha0 : 0 ≤ (am (64 + 2 * b)).toInt) (hlk : ∀ o, o ≠ 64 + 2 * b → lk o = qd_lk D o) (hct : ∀ x, x ≠ b → ct x = qd_ct D x) (hc3 : ct b ≤ 3) (htx : ∀ k, (k < 3 * b ∨ 3 * b + 3 ≤ k) → tx k = qd_tx D k) (h32 : ∀ k, tx k < 32) (hse : ∀ i, i < ct b → qd_se D (tx (3 * b + i)) = true) : qr_F sb th (qd_bl D am lk ct tx) st wk od wg mn c P ip psd := by
  have F0 := F
  obtain ⟨W, V, S, C, hP, X, T, B, O⟩ := F0
  refine (qr_D (D' := qd_bl D am lk ct tx) (st' := st) (wk' := wk) F ?_ ?_ (fun _ _ => rfl) (fun _ _ => rfl) (fun _ _ => rfl) O.2.2.2.2.1 (fun x i hi => ?_) O.2.2.2.2.2.2.1 O.2.2.2.2.2.2.2.1 O.2.2.2.2.2.2.2.2).1
  · refine ⟨W.1, W.2.1, W.2.2.1, W.2.2.2.1, fun o => ?_, fun o ho => ?_, fun x => ?_, h32, W.2.2.2.2.2.2.2.2⟩
    · show 0 ≤ (am o).toInt
      by_cases z : o = 64 + 2 * b
      · rw [z]; exact ha0
      · rw [ham o z]; exact W.2.2.2.2.1 o
    · show (am o).toInt ≤ 1000
      rw [ham o (by omega)]; exact W.2.2.2.2.2.1 o ho
    · show ct x ≤ 3
      by_cases z : x = b
      · rw [z]; exact hc3
      · rw [hct x z]; exact W.2.2.2.2.2.2.1 x
  · refine ⟨fun x hx => ?_, fun y hy => ?_, fun x hx => rfl⟩
    · have x32 : x < 32 := by
        by_cases z : x < 32
        · exact z
        · rw [O.2.2.2.2.2.2.2.2 x (by omega)] at hx; cases hx
      exact ⟨hx, rfl, rfl, fun i hi2 => ⟨rfl, rfl, ham _ (by omega), hlk _ (by omega)⟩⟩
    · have hy' : 3 ≤ st y := hy
      have yb : y ≠ b := fun e => by subst e; omega
      exact ⟨hct y yb, fun i hi => htx _ (by omega), rfl, rfl, ham _ (by omega), hlk _ (by omega), rfl⟩
  · have hi' : i < ct x := hi
    show qd_se D (tx (3 * x + i)) = true
    by_cases z : x = b
    · subst z; exact hse i hi'
    · rw [hct x z] at hi'
      have := W.2.2.2.2.2.2.1 x
      rw [htx _ (by omega)]; exact O.2.2.2.2.2.1 x i hi'
end
/-- booleans of places, ranges of arguments -/
def qa_t (x : Int32) (i : Nat) : Bool := x.toBitVec.getLsbD i
theorem qa_t_ext {x y : Int32} (h : ∀ i, i < 32 → qa_t x i = qa_t y i) : x = y := Int32.toBitVec_inj.mp (BitVec.eq_of_getLsbD_eq (fun i hi => h i hi))
theorem qa_t_and (x y : Int32) (i : Nat) : qa_t (x &&& y) i = (qa_t x i && qa_t y i) := by unfold qa_t; rw [Int32.toBitVec_and, BitVec.getLsbD_and]
theorem qa_t_m2 : ∀ i, i < 32 → qa_t (-2) i = decide (i ≠ 0) := by decide +kernel
theorem qa_t_0 : ∀ i, i < 32 → qa_t 0 i = false := by decide +kernel
theorem qa_t_1 : ∀ i, i < 32 → qa_t 1 i = decide (i = 0) := by decide +kernel
theorem qa_pl (x : Int32) : (x &&& (-2)) = 0 ↔ ∃ p, p < 2 ∧ x = nI p := by
  constructor
  · intro h
    have z : ∀ i, i < 32 → i ≠ 0 → qa_t x i = false := by
      intro i hi i0
      have a := qa_t_and x (-2) i
      rw [h, qa_t_0 i hi, qa_t_m2 i hi, decide_eq_true i0, Bool.and_true] at a
      exact a.symm
    cases q : qa_t x 0 with
    | false =>
      refine ⟨0, by decide, qa_t_ext fun i hi => ?_⟩
      by_cases i0 : i = 0
      · subst i0; rw [q]; rfl
      · rw [z i hi i0]; exact (qa_t_0 i hi).symm
    | true =>
      refine ⟨1, by decide, qa_t_ext fun i hi => ?_⟩
      by_cases i0 : i = 0
      · subst i0; rw [q]; rfl
      · rw [z i hi i0]
        have := qa_t_1 i hi
        rw [decide_eq_false i0] at this
        exact this.symm
  · rintro ⟨p, hp, rfl⟩
    have : p = 0 ∨ p = 1 := by omega
    rcases this with rfl | rfl <;> decide
theorem qa_rg {x M : Int32} {n : Nat} (hM : M.toInt = n) (h0 : ¬ x < 0) (h : ¬ M < x) : ∃ j, j ≤ n ∧ x = nI j := nI_of2 hM h0 (Int32.not_lt.mp h)
theorem qx_txc {post : Int32 → Prop} {x : Int32} (f : ∀ t, t < 32 → x = nI t → post 1) (g : (¬ ∃ t, t < 32 ∧ x = nI t) → post 0) : wpX_isTx post x := by
  unfold wpX_isTx
  refine br_c (fun q => g ?_) (fun q => br_c (fun p => g ?_) (fun p => ?_))
  · rintro ⟨t, ht, rfl⟩
    exact nI_pos (by omega) q
  · rintro ⟨t, ht, rfl⟩
    exact nI_ge (b := 32) ht (by decide) p
  · obtain ⟨t, ht, rfl⟩ := nI_of q
    have : ¬ 32 ≤ t := fun z => p (nI_le (a := 32) z ht)
    exact f t (by omega) rfl
theorem qx_bkc {post : Int32 → Prop} {x : Int32} (f : ∀ b, b < 24 → b ≠ 0 → x = nI b → post 1) (g : (¬ ∃ b, 1 ≤ b ∧ b ≤ 23 ∧ x = nI b) → post 0) : wpX_isBlock post x := by
  unfold wpX_isBlock
  refine br_c (fun q => g ?_) (fun q => br_c (fun p => g ?_) (fun p => ?_))
  · rintro ⟨t, h1, ht, rfl⟩
    exact nI_nle (by omega) (by omega) q
  · rintro ⟨t, h1, ht, rfl⟩
    exact nI_ge (b := 24) (by omega) (by decide) p
  · have q0 : ¬ x < 0 := fun z => q (Int32.le_of_lt z)
    obtain ⟨t, ht, rfl⟩ := nI_of q0
    have a : ¬ 24 ≤ t := fun z => p (nI_le (a := 24) z ht)
    have b : t ≠ 0 := fun z => q (by subst z; decide)
    exact f t (by omega) b rfl
theorem qy_oc {post : Int32 → Prop} {x : Int32} (lo hi : Nat) (h : hi < 2 ^ 31) (hl : lo ≤ hi) (f : ∀ t, lo ≤ t → t ≤ hi → x = nI t → post 0) (g : (¬ ∃ t, lo ≤ t ∧ t ≤ hi ∧ x = nI t) → post 1) : wpY_out post x (nI lo) (nI hi) := by
  unfold wpY_out
  refine br_c (fun q => g ?_) (fun q => br_c (fun p => ?_) (fun p => g ?_))
  · rintro ⟨t, h1, h2, rfl⟩
    exact nI_nlt h1 (by omega) q
  · have q0 : ¬ x < 0 := fun z => q (Int32.lt_of_lt_of_le z (nI_pos' (by omega)))
    obtain ⟨t, ht, rfl⟩ := nI_of q0
    exact f t ((Nat.not_lt.mp fun z => q (nI_lt z (by omega)))) ((nI_leI ht h).mp p) rfl
  · rintro ⟨t, h1, h2, rfl⟩
    exact p (nI_le h2 h)
end
section
/-! drafting calls, both sides -/
theorem qa_ud {f : Nat → Nat} {k v a : Nat} (h : v / 2 = a) : qa_u (fun j => f j / 2) k a = (fun j => qa_u f k v j / 2) := by
  funext j
  by_cases z : j = k
  · subst z; rw [qa_us, qa_us, h]
  · rw [qa_un z, qa_un z]
theorem qa_um {f : Nat → Nat} {k v a : Nat} (h : v % 2 = a) : qa_u (fun j => f j % 2) k a = (fun j => qa_u f k v j % 2) := by
  funext j
  by_cases z : j = k
  · subst z; rw [qa_us, qa_us, h]
  · rw [qa_un z, qa_un z]
theorem qa_u2 {st : Nat → Nat} {b v : Nat} (h : v ≤ 2) : qa_u (fun j => min 2 (st j)) b v = (fun j => min 2 (qa_u st b v j)) := by
  funext j
  by_cases z : j = b
  · subst z; rw [qa_us, qa_us]; omega
  · rw [qa_un z, qa_un z]
theorem qd_ox_u {D D' : qd_T} {t v : Nat} (ht : t < 32) (h : qd_oc D' = qa_u (qd_oc D) t v) : qa_u (qd_ox D) t v = qd_ox D' := by
  funext j
  unfold qd_ox
  rw [h]
  by_cases z : j = t
  · subst z; rw [qa_us, if_pos ht, qa_us]
  · rw [qa_un z]
    by_cases y : j < 32
    · rw [if_pos y, if_pos y, qa_un z]
    · rw [if_neg y, if_neg y]
theorem qd_ox_k {D D' : qd_T} {t v : Nat} (ht : 32 ≤ t) (h : qd_oc D' = qa_u (qd_oc D) t v) : qd_ox D' = qd_ox D := by
  funext j
  unfold qd_ox
  rw [h]
  by_cases y : j < 32
  · rw [if_pos y, if_pos y, qa_un (by omega)]
  · rw [if_neg y, if_neg y]
section
variable {D : qd_T} {c : qc_T} {sb th x : Nat} {st wk od wg mn : Nat → Nat} {P : qe_T} {ip psd : Nat → Bool} {sp fa : Int32} {stk sl sw sn : Nat → Int32} {bf pth pb : Nat → Int32} {len w : Int32} {lis spe : Nat → Bool} {hO opl opt : Nat → Int32}
theorem qx_in_no {post : Int32 → SX → Prop} {v1 v2 v3 v4 : Int32} (N : ∀ t f p, t < 32 → v1 = nI t → f ≤ 55 → v2 = nI f → p < 2 → v3 = nI p → qd_se D t = true) (K : post (-1) (qr_x sb th D st wk od wg mn c P ip psd sp fa stk sl sw sn bf pth pb)) : wpX_input post (qr_x sb th D st wk od wg mn c P ip psd sp fa stk sl sw sn bf pth pb) v1 v2 v3 v4 := by
  unfold qr_x wpX_input
  dsimp only
  refine qx_txc (fun t ht e => br_f (by decide) (br_c (fun _ => K) (fun q1 => br_c (fun _ => K) (fun q2 => br_c (fun q3 => ?_) (fun _ => K))))) (fun _ => br_t rfl K)
  obtain ⟨f, hf, ef⟩ := qa_rg (M := 55) (n := 55) (by decide) q1 q2
  obtain ⟨p, hp, ep⟩ := (qa_pl v3).mp q3
  have s := N t f p ht e hf ef hp ep
  rw [e, qa_bt _ (show t < 2 ^ 31 by omega), s]
  exact ⟨vp_in_nI ht (by decide), br_f (by decide) K⟩
theorem qy_in_no {post : Int32 → SY → Prop} {v1 v2 v3 v4 : Int32} (N : ∀ t f p, t < 32 → v1 = nI t → f ≤ 55 → v2 = nI f → p < 2 → v3 = nI p → qd_se D t = true) (K : post (-1) (qr_y sb x D st wk od P len w pth lis spe hO stk opl opt)) : wpY_input post (qr_y sb x D st wk od P len w pth lis spe hO stk opl opt) v1 v2 v3 v4 := by
  unfold qr_y wpY_input
  dsimp only
  refine qy_oc 0 31 (by decide) (by decide) (fun t _ ht e => br_t rfl (qy_oc 0 55 (by decide) (by decide) (fun f _ hf ef => br_t rfl (qy_oc 0 1 (by decide) (by decide) (fun p _ hp ep => br_t rfl ?_) (fun _ => br_f (by decide) K))) (fun _ => br_f (by decide) K))) (fun _ => br_f (by decide) K)
  have s := N t f p (by omega) e hf ef (by omega) ep
  rw [e, qa_bt _ (show t < 2 ^ 31 by omega), s]
  exact ⟨vp_in_nI (by omega) (by decide), br_f (by decide) K⟩
theorem qx_in_full {post : Int32 → SX → Prop} {t f p : Nat} {v4 : Int32} (ht : t < 32) (hf : f ≤ 55) (hp : p < 2) (s : qd_se D t = false) (h : qd_ic D t = 2) (K : post (-2) (qr_x sb th D st wk od wg mn c P ip psd sp fa stk sl sw sn bf pth pb)) : wpX_input post (qr_x sb th D st wk od wg mn c P ip psd sp fa stk sl sw sn bf pth pb) (nI t) (nI f) (nI p) v4 := by
  unfold qr_x wpX_input
  dsimp only
  rw [qa_bt _ (show t < 2 ^ 31 by omega), qa_at _ (show t < 2 ^ 31 by omega), s, h]
  exact qx_isTx ht (br_f (by decide) (br_f (nI_pos (by omega)) (br_f (nI_nlt (b := f) (a := 55) hf (by decide)) (br_t ((qa_pl _).mpr ⟨p, hp, rfl⟩) ⟨vp_in_nI ht (by decide), br_t rfl ⟨vp_in_nI ht (by decide), br_t rfl K⟩⟩))))
theorem qy_in_full {post : Int32 → SY → Prop} {t f p : Nat} {v4 : Int32} (ht : t < 32) (hf : f ≤ 55) (hp : p < 2) (s : qd_se D t = false) (h : qd_ic D t = 2) (K : post (-2) (qr_y sb x D st wk od P len w pth lis spe hO stk opl opt)) : wpY_input post (qr_y sb x D st wk od P len w pth lis spe hO stk opl opt) (nI t) (nI f) (nI p) v4 := by
  unfold qr_y wpY_input
  dsimp only
  rw [qa_bt _ (show t < 2 ^ 31 by omega), qa_at _ (show t < 2 ^ 31 by omega), s, h]
  exact qy_out0 (lo := 0) (hi := 31) (by omega) (by omega) (by decide) (br_t rfl (qy_out0 (lo := 0) (hi := 55) (by omega) hf (by decide) (br_t rfl (qy_out0 (lo := 0) (hi := 1) (by omega) (by omega) (by decide) (br_t rfl ⟨vp_in_nI ht (by decide), br_t rfl ⟨vp_in_nI ht (by decide), br_t rfl K⟩⟩)))))
theorem qx_in_ok {post : Int32 → SX → Prop} {t f p : Nat} {v4 : Int32} (ht : t < 32) (hf : f ≤ 55) (hp : p < 2) (s : qd_se D t = false) (h : qd_ic D t ≤ 1) (K : post (nI (qd_ic D t + 1)) (qr_x sb th (qd_in D t (2 * f + p) v4) st wk od wg mn c P ip psd sp fa stk sl sw sn bf pth pb)) : wpX_input post (qr_x sb th D st wk od wg mn c P ip psd sp fa stk sl sw sn bf pth pb) (nI t) (nI f) (nI p) v4 := by
  unfold qr_x wpX_input
  dsimp only
  rw [qa_bt _ (show t < 2 ^ 31 by omega), qa_at _ (show t < 2 ^ 31 by omega), s, nI_1, qa_2, qa_2, nI_clamp (show t < 2 ^ 31 by omega), qa_byi (show qd_ic D t + 1 < 128 by omega), qa_byi (show 2 * f + p < 128 by omega), qa_iu]
  refine qx_isTx ht (br_f (by decide) (br_f (nI_pos (by omega)) (br_f (nI_nlt (b := f) (a := 55) hf (by decide)) (br_t ((qa_pl _).mpr ⟨p, hp, rfl⟩) ⟨vp_in_nI ht (by decide), br_t rfl ⟨vp_in_nI ht (by decide), br_f ?_ ⟨vp_in_nI ht (by decide), vp_in_nI ht (by decide), nm_e (nm_e ?_)⟩⟩⟩))))
  · exact fun z => by have := (nI_eq (a := qd_ic D t) (b := 2) (by omega) (by decide)).mp z; omega
  · rw [nI_clamp (show 2 * t + qd_ic D t < 2 ^ 31 by omega), qa_iu]
    refine ⟨vp_in_nI (by omega) (by decide), nm_e ⟨vp_in_nI (by omega) (by decide), nm_e ⟨vp_in_nI ht (by decide), ?_⟩⟩⟩
    have e : qa_i (qa_u (qd_ic D) t (qd_ic D t + 1)) t = nI (qd_ic D t + 1) := by show nI (qa_u (qd_ic D) t (qd_ic D t + 1) t) = _; rw [qa_us]
    rw [e]
    exact K
theorem qy_in_ok {post : Int32 → SY → Prop} {t f p : Nat} {v4 : Int32} (ht : t < 32) (hf : f ≤ 55) (hp : p < 2) (s : qd_se D t = false) (h : qd_ic D t ≤ 1) (K : post (nI (qd_ic D t + 1)) (qr_y sb x (qd_in D t (2 * f + p) v4) st wk od P len w pth lis spe hO stk opl opt)) : wpY_input post (qr_y sb x D st wk od P len w pth lis spe hO stk opl opt) (nI t) (nI f) (nI p) v4 := by
  unfold qr_y wpY_input
  dsimp only
  rw [qa_bt _ (show t < 2 ^ 31 by omega), qa_at _ (show t < 2 ^ 31 by omega), s, nI_1, qa_2', nI_clamp (show t < 2 ^ 31 by omega), qa_iu]
  refine qy_out0 (lo := 0) (hi := 31) (by omega) (by omega) (by decide) (br_t rfl (qy_out0 (lo := 0) (hi := 55) (by omega) hf (by decide) (br_t rfl (qy_out0 (lo := 0) (hi := 1) (by omega) (by omega) (by decide) (br_t rfl ⟨vp_in_nI ht (by decide), br_t rfl ⟨vp_in_nI ht (by decide), br_f ?_ ⟨vp_in_nI ht (by decide), nm_e ?_⟩⟩⟩)))))
  · exact fun z => by have := (nI_eq (a := qd_ic D t) (b := 2) (by omega) (by decide)).mp z; omega
  · rw [nI_clamp (show 2 * t + qd_ic D t < 2 ^ 31 by omega), qa_iu, qa_iu, qa_ud (v := 2 * f + p) (by omega), qa_um (v := 2 * f + p) (by omega)]
    have v64 : vp_in (nI (2 * t + qd_ic D t)) 64 := vp_in_nI (by omega) (by decide)
    refine ⟨v64, nm_e ⟨v64, nm_e ⟨v64, nm_e ⟨vp_in_nI ht (by decide), vp_in_nI ht (by decide), nm_e ⟨vp_in_nI ht (by decide), ?_⟩⟩⟩⟩⟩
    have e : qa_i (qa_u (qd_ic D) t (qd_ic D t + 1)) t = nI (qd_ic D t + 1) := by show nI (qa_u (qd_ic D) t (qd_ic D t + 1) t) = _; rw [qa_us]
    rw [e]
    exact K
theorem qa_am {y : Int32} (h1 : ¬ y < 1) (h2 : ¬ 1000 < y) : ∃ a, 1 ≤ a ∧ a ≤ 1000 ∧ y = nI a := by
  obtain ⟨a, ha, e⟩ := qa_rg (M := 1000) (n := 1000) (by decide) (fun z => h1 (Int32.lt_of_lt_of_le z (by decide))) h2
  exact ⟨a, Nat.not_lt.mp fun z => h1 (by have : a = 0 := by omega
                                          subst this; rw [e]; decide), ha, e⟩
theorem qx_ou_no {post : Int32 → SX → Prop} {v1 v2 v3 : Int32} (N : ∀ t a, t < 32 → v1 = nI t → 1 ≤ a → a ≤ 1000 → v2 = nI a → qd_se D t = true) (K : post (-1) (qr_x sb th D st wk od wg mn c P ip psd sp fa stk sl sw sn bf pth pb)) : wpX_output post (qr_x sb th D st wk od wg mn c P ip psd sp fa stk sl sw sn bf pth pb) v1 v2 v3 := by
  unfold qr_x wpX_output
  dsimp only
  refine qx_txc (fun t ht e => br_f (by decide) (br_c (fun _ => K) (fun q1 => br_c (fun _ => K) (fun q2 => ?_)))) (fun _ => br_t rfl K)
  obtain ⟨a, h1, h2, ea⟩ := qa_am q1 q2
  have s := N t a ht e h1 h2 ea
  rw [e, qa_bt _ (show t < 2 ^ 31 by omega), s]
  exact ⟨vp_in_nI ht (by decide), br_f (by decide) K⟩
theorem qy_ou_no {post : Int32 → SY → Prop} {v1 v2 v3 : Int32} (N : ∀ t a, t < 32 → v1 = nI t → 1 ≤ a → a ≤ 1000 → v2 = nI a → qd_se D t = true) (K : post (-1) (qr_y sb x D st wk od P len w pth lis spe hO stk opl opt)) : wpY_output post (qr_y sb x D st wk od P len w pth lis spe hO stk opl opt) v1 v2 v3 := by
  unfold qr_y wpY_output
  dsimp only
  refine qy_oc 0 31 (by decide) (by decide) (fun t _ ht e => br_t rfl (qy_oc 1 1000 (by decide) (by decide) (fun a h1 h2 ea => br_t rfl ?_) (fun _ => br_f (by decide) K))) (fun _ => br_f (by decide) K)
  have s := N t a (by omega) e h1 h2 ea
  rw [e, qa_bt _ (show t < 2 ^ 31 by omega), s]
  exact ⟨vp_in_nI (by omega) (by decide), br_f (by decide) K⟩
theorem qx_ou_full {post : Int32 → SX → Prop} {t a : Nat} {v3 : Int32} (ht : t < 32) (h1 : 1 ≤ a) (h2 : a ≤ 1000) (s : qd_se D t = false) (h : qd_oc D t = 2) (K : post (-2) (qr_x sb th D st wk od wg mn c P ip psd sp fa stk sl sw sn bf pth pb)) : wpX_output post (qr_x sb th D st wk od wg mn c P ip psd sp fa stk sl sw sn bf pth pb) (nI t) (nI a) v3 := by
  unfold qr_x wpX_output
  dsimp only
  rw [qa_bt _ (show t < 2 ^ 31 by omega), qa_at _ (show t < 2 ^ 31 by omega), qd_ox_lt ht, s, h]
  exact qx_isTx ht (br_f (by decide) (br_f (nI_nlt (b := 1) h1 (by omega)) (br_f (nI_nlt (b := a) (a := 1000) h2 (by decide)) ⟨vp_in_nI ht (by decide), br_t rfl ⟨vp_in_nI (by omega) (by decide), br_t rfl K⟩⟩)))
theorem qy_ou_full {post : Int32 → SY → Prop} {t a : Nat} {v3 : Int32} (ht : t < 32) (h1 : 1 ≤ a) (h2 : a ≤ 1000) (s : qd_se D t = false) (h : qd_oc D t = 2) (K : post (-2) (qr_y sb x D st wk od P len w pth lis spe hO stk opl opt)) : wpY_output post (qr_y sb x D st wk od P len w pth lis spe hO stk opl opt) (nI t) (nI a) v3 := by
  unfold qr_y wpY_output
  dsimp only
  rw [qa_bt _ (show t < 2 ^ 31 by omega), qa_at _ (show t < 2 ^ 31 by omega), s, h]
  exact qy_out0 (lo := 0) (hi := 31) (by omega) (by omega) (by decide) (br_t rfl (qy_out0 (lo := 1) (hi := 1000) h1 h2 (by decide) (br_t rfl ⟨vp_in_nI ht (by decide), br_t rfl ⟨vp_in_nI (by omega) (by decide), br_t rfl K⟩⟩)))
theorem qx_ou_ok {post : Int32 → SX → Prop} {t a : Nat} {v3 : Int32} (ht : t < 32) (h1 : 1 ≤ a) (h2 : a ≤ 1000) (s : qd_se D t = false) (h : qd_oc D t ≤ 1) (eu : qc_un (qd_ou D t (nI a) v3) c = qc_un D c) (K : post (nI (qd_oc D t + 1)) (qr_x sb th (qd_ou D t (nI a) v3) st wk od wg mn c P ip psd sp fa stk sl sw sn bf pth pb)) : wpX_output post (qr_x sb th D st wk od wg mn c P ip psd sp fa stk sl sw sn bf pth pb) (nI t) (nI a) v3 := by
  have K' := K
  unfold qr_x at K'
  rw [eu] at K'
  unfold qr_x wpX_output
  dsimp only
  rw [qa_bt _ (show t < 2 ^ 31 by omega), qa_at _ (show t < 2 ^ 31 by omega), qd_ox_lt ht, s, nI_1, qa_2, nI_clamp (show t < 2 ^ 31 by omega), qa_byi (show qd_oc D t + 1 < 128 by omega), qa_iu, qd_ox_u (D' := qd_ou D t (nI a) v3) ht rfl]
  refine qx_isTx ht (br_f (by decide) (br_f (nI_nlt (b := 1) h1 (by omega)) (br_f (nI_nlt (b := a) (a := 1000) h2 (by decide)) ⟨vp_in_nI ht (by decide), br_t rfl ⟨vp_in_nI (by omega) (by decide), br_f ?_ ⟨vp_in_nI (by omega) (by decide), vp_in_nI (by omega) (by decide), nm_e (nm_e ?_)⟩⟩⟩)))
  · exact fun z => by have := (nI_eq (a := qd_oc D t) (b := 2) (by omega) (by decide)).mp z; omega
  · rw [nI_clamp (show 2 * t + qd_oc D t < 2 ^ 31 by omega)]
    refine ⟨vp_in_nI (by omega) (by decide), nm_e ⟨vp_in_nI (by omega) (by decide), nm_e ⟨vp_in_nI (by omega) (by decide), ?_⟩⟩⟩
    have e : qa_i (qd_ox (qd_ou D t (nI a) v3)) t = nI (qd_oc D t + 1) := by
      show nI (qd_ox (qd_ou D t (nI a) v3) t) = _
      rw [qd_ox_lt ht]
      show nI (qa_u (qd_oc D) t (qd_oc D t + 1) t) = _
      rw [qa_us]
    rw [e]
    exact K'
theorem qy_ou_ok {post : Int32 → SY → Prop} {t a : Nat} {v3 : Int32} (ht : t < 32) (h1 : 1 ≤ a) (h2 : a ≤ 1000) (s : qd_se D t = false) (h : qd_oc D t ≤ 1) (K : post (nI (qd_oc D t + 1)) (qr_y sb x (qd_ou D t (nI a) v3) st wk od P len w pth lis spe hO stk opl opt)) : wpY_output post (qr_y sb x D st wk od P len w pth lis spe hO stk opl opt) (nI t) (nI a) v3 := by
  unfold qr_y wpY_output
  dsimp only
  rw [qa_bt _ (show t < 2 ^ 31 by omega), qa_at _ (show t < 2 ^ 31 by omega), s, nI_1, qa_2', nI_clamp (show t < 2 ^ 31 by omega), qa_iu]
  refine qy_out0 (lo := 0) (hi := 31) (by omega) (by omega) (by decide) (br_t rfl (qy_out0 (lo := 1) (hi := 1000) h1 h2 (by decide) (br_t rfl ⟨vp_in_nI ht (by decide), br_t rfl ⟨vp_in_nI (by omega) (by decide), br_f ?_ ⟨vp_in_nI (by omega) (by decide), nm_e ?_⟩⟩⟩)))
  · exact fun z => by have := (nI_eq (a := qd_oc D t) (b := 2) (by omega) (by decide)).mp z; omega
  · rw [nI_clamp (show 2 * t + qd_oc D t < 2 ^ 31 by omega)]
    have v56 : vp_in (nI t) 56 := vp_in_nI (by omega) (by decide)
    refine ⟨vp_in_nI (by omega) (by decide), nm_e ⟨vp_in_nI (by omega) (by decide), nm_e ⟨v56, v56, nm_e ⟨v56, ?_⟩⟩⟩⟩
    have e : qa_i (qa_u (qd_oc D) t (qd_oc D t + 1)) t = nI (qd_oc D t + 1) := by show nI (qa_u (qd_oc D) t (qd_oc D t + 1) t) = _; rw [qa_us]
    rw [e]
    exact K
theorem qx_sl_no {post : Int32 → SX → Prop} {v1 : Int32} (N : ∀ t, t < 32 → v1 = nI t → qd_se D t = true) (K : post (-1) (qr_x sb th D st wk od wg mn c P ip psd sp fa stk sl sw sn bf pth pb)) : wpX_seal post (qr_x sb th D st wk od wg mn c P ip psd sp fa stk sl sw sn bf pth pb) v1 := by
  unfold qr_x wpX_seal
  dsimp only
  refine qx_txc (fun t ht e => br_f (by decide) ?_) (fun _ => br_t rfl K)
  have s := N t ht e
  rw [e, qa_bt _ (show t < 2 ^ 31 by omega), s]
  exact ⟨vp_in_nI ht (by decide), br_f (by decide) K⟩
theorem qy_sl_no {post : Int32 → SY → Prop} {v1 : Int32} (N : ∀ t, t < 32 → v1 = nI t → qd_se D t = true) (K : post (-1) (qr_y sb x D st wk od P len w pth lis spe hO stk opl opt)) : wpY_seal post (qr_y sb x D st wk od P len w pth lis spe hO stk opl opt) v1 := by
  unfold qr_y wpY_seal
  dsimp only
  refine qy_oc 0 31 (by decide) (by decide) (fun t _ ht e => br_t rfl ?_) (fun _ => br_f (by decide) K)
  have s := N t (by omega) e
  rw [e, qa_bt _ (show t < 2 ^ 31 by omega), s]
  exact ⟨vp_in_nI (by omega) (by decide), br_f (by decide) K⟩
theorem qx_sl_ok {post : Int32 → SX → Prop} {t : Nat} (ht : t < 32) (s : qd_se D t = false) (K : post (nI (qd_ic D t) + nI (qd_oc D t)) (qr_x sb th (qd_sl D t) st wk od wg mn c P ip psd sp fa stk sl sw sn bf pth pb)) : wpX_seal post (qr_x sb th D st wk od wg mn c P ip psd sp fa stk sl sw sn bf pth pb) (nI t) := by
  unfold qr_x wpX_seal
  dsimp only
  rw [qa_bt _ (show t < 2 ^ 31 by omega), qa_at _ (show t < 2 ^ 31 by omega), qa_at _ (show t < 2 ^ 31 by omega), qd_ox_lt ht, s, nI_clamp (show t < 2 ^ 31 by omega), qa_bo1, qa_bu]
  exact qx_isTx ht (br_f (by decide) ⟨vp_in_nI ht (by decide), br_t rfl ⟨vp_in_nI ht (by decide), nm_e ⟨vp_in_nI ht (by decide), vp_in_nI (by omega) (by decide), K⟩⟩⟩)
theorem qy_sl_ok {post : Int32 → SY → Prop} {t : Nat} (ht : t < 32) (s : qd_se D t = false) (K : post (nI (qd_ic D t) + nI (qd_oc D t)) (qr_y sb x (qd_sl D t) st wk od P len w pth lis spe hO stk opl opt)) : wpY_seal post (qr_y sb x D st wk od P len w pth lis spe hO stk opl opt) (nI t) := by
  unfold qr_y wpY_seal
  dsimp only
  rw [qa_bt _ (show t < 2 ^ 31 by omega), qa_at _ (show t < 2 ^ 31 by omega), qa_at _ (show t < 2 ^ 31 by omega), s, nI_clamp (show t < 2 ^ 31 by omega), qa_bo1, qa_bu]
  exact qy_out0 (lo := 0) (hi := 31) (by omega) (by omega) (by decide) (br_t rfl ⟨vp_in_nI ht (by decide), br_t rfl ⟨vp_in_nI ht (by decide), nm_e ⟨vp_in_nI ht (by decide), vp_in_nI (by omega) (by decide), K⟩⟩⟩)
end
end
section
/-! blocks, their transactions and rewards, both sides -/
section
variable {D : qd_T} {c : qc_T} {sb th x : Nat} {st wk od wg mn : Nat → Nat} {P : qe_T} {ip psd : Nat → Bool} {sp fa : Int32} {stk sl sw sn : Nat → Int32} {bf pth pb : Nat → Int32} {len w : Int32} {lis spe : Nat → Bool} {hO opl opt : Nat → Int32}
theorem qx_draft {post : SX → Prop} {b on pw : Nat} (hb : b < 24) (hon : on < 24) (hpw : pw ≤ 15) (eu : qc_un (qd_dr D b on) c = qc_un D c) (K : post (qr_x sb th (qd_dr D b on) (qa_u st b 1) (qa_u wk b pw) od wg mn c P ip psd sp fa stk sl sw sn bf pth pb)) : wpX_draft post (qr_x sb th D st wk od wg mn c P ip psd sp fa stk sl sw sn bf pth pb) (nI b) (nI on) (nI pw) := by
  have K' := K
  unfold qr_x at K'
  rw [eu, qd_ox_k (D' := qd_dr D b on) (D := D) (t := 32 + b) (v := 1) (by omega) rfl] at K'
  have e1 : vp_nar .byte 1 = nI 1 := qa_by (v := 1) (by decide)
  have e0 : vp_nar .byte 0 = nI 0 := qa_by (v := 0) (by decide)
  have v24 : vp_in (nI b) 24 := vp_in_nI hb (by decide)
  have v112 : vp_in (nI (64 + 2 * b)) 112 := vp_in_nI (by omega) (by decide)
  unfold qr_x wpX_draft
  dsimp only
  rw [nI_clamp (show b < 2 ^ 31 by omega), e1, e0, qa_byi (show on < 128 by omega), qa_byi (show pw < 128 by omega), qa_64, nI_clamp (show 64 + 2 * b < 2 ^ 31 by omega), qa_iu, qa_iu, qa_iu, qa_iu]
  exact ⟨v24, nm_e ⟨v24, nm_e ⟨v24, nm_e ⟨v24, nm_e ⟨v112, nm_e ⟨v112, nm_e K'⟩⟩⟩⟩⟩⟩
theorem qy_draft {post : SY → Prop} {b on pw : Nat} (hb : b < 24) (K : post (qr_y sb x (qd_dr D b on) (qa_u st b 1) (qa_u wk b pw) od P len w pth lis spe hO stk opl opt)) : wpY_draft post (qr_y sb x D st wk od P len w pth lis spe hO stk opl opt) (nI b) (nI on) (nI pw) := by
  have K' := K
  unfold qr_y at K'
  rw [← qa_u2 (by decide)] at K'
  have v24 : vp_in (nI b) 24 := vp_in_nI hb (by decide)
  have v56 : vp_in (nI (32 + b)) 56 := vp_in_nI (by omega) (by decide)
  have v112 : vp_in (nI (64 + 2 * b)) 112 := vp_in_nI (by omega) (by decide)
  have e1 : upd (qa_i (fun b => min 2 (st b))) b 1 = qa_i (qa_u (fun b => min 2 (st b)) b 1) := qa_iu (v := 1)
  have e0 : upd (qa_i (qd_ct D)) b 0 = qa_i (qa_u (qd_ct D) b 0) := qa_iu (v := 0)
  have e2 : upd (qa_i (qd_oc D)) (32 + b) 1 = qa_i (qa_u (qd_oc D) (32 + b) 1) := qa_iu (v := 1)
  unfold qr_y wpY_draft
  dsimp only
  rw [nI_clamp (show b < 2 ^ 31 by omega), qa_64', qa_32, nI_clamp (show 64 + 2 * b < 2 ^ 31 by omega), nI_clamp (show 32 + b < 2 ^ 31 by omega), qa_iu, qa_iu, e1, e0, e2]
  exact ⟨v24, nm_e ⟨v24, nm_e ⟨v24, nm_e ⟨v24, nm_e ⟨v56, nm_e ⟨v112, nm_e ⟨v112, nm_e K'⟩⟩⟩⟩⟩⟩⟩
theorem qx_bk_no {post : Int32 → SX → Prop} {v1 v2 v3 : Int32} (N : ∀ b on pw, b < 24 → b ≠ 0 → v1 = nI b → on ≤ 23 → v2 = nI on → on ≠ b → 1 ≤ pw → pw ≤ 15 → v3 = nI pw → 2 ≤ st b) (h4 : ∀ b, st b ≤ 4) (K : post (-1) (qr_x sb th D st wk od wg mn c P ip psd sp fa stk sl sw sn bf pth pb)) : wpX_block post (qr_x sb th D st wk od wg mn c P ip psd sp fa stk sl sw sn bf pth pb) v1 v2 v3 := by
  unfold qr_x wpX_block
  dsimp only
  refine qx_bkc (fun b hb b0 e => br_f (by decide) (br_c (fun _ => K) (fun q1 => br_c (fun _ => K) (fun q2 => br_c (fun _ => K) (fun q3 => br_c (fun _ => K) (fun q4 => br_c (fun q5 => ?_) (fun _ => K))))))) (fun _ => br_t rfl K)
  obtain ⟨on, h1, eo⟩ := qa_rg (M := 23) (n := 23) (by decide) q1 q2
  obtain ⟨pw, h2, ep⟩ := qa_rg (M := 15) (n := 15) (by decide) (fun z => q4 (Int32.lt_of_lt_of_le z (by decide))) (Int32.not_lt.mpr q5)
  have p0 : pw ≠ 0 := fun z => q4 (by rw [ep, z]; decide)
  have s := N b on pw hb b0 e h1 eo (fun z => q3 (by rw [e, eo, z])) (by omega) h2 ep
  have s4 := h4 b
  rw [e, qa_at _ (show b < 2 ^ 31 by omega)]
  exact ⟨vp_in_nI hb (by decide), br_f (nI_ge (a := 1) (by omega) (by omega)) K⟩
theorem qy_bk_no {post : Int32 → SY → Prop} {v1 v2 v3 : Int32} (N : ∀ b on pw, b < 24 → b ≠ 0 → v1 = nI b → on ≤ 23 → v2 = nI on → on ≠ b → 1 ≤ pw → pw ≤ 15 → v3 = nI pw → 2 ≤ st b) (K : post (-1) (qr_y sb x D st wk od P len w pth lis spe hO stk opl opt)) : wpY_block post (qr_y sb x D st wk od P len w pth lis spe hO stk opl opt) v1 v2 v3 := by
  unfold qr_y wpY_block
  dsimp only
  refine qy_oc 1 23 (by decide) (by decide) (fun b b0 hb e => br_t rfl (qy_oc 0 23 (by decide) (by decide) (fun on _ h1 eo => br_t rfl (br_c (fun _ => K) (fun q3 => qy_oc 1 15 (by decide) (by decide) (fun pw h2 h3 ep => br_t rfl ?_) (fun _ => br_f (by decide) K)))) (fun _ => br_f (by decide) K))) (fun _ => br_f (by decide) K)
  have s := N b on pw (by omega) (by omega) e h1 eo (fun z => q3 (by rw [e, eo, z])) h2 h3 ep
  have e2 : min 2 (st b) = 2 := by omega
  rw [e, qa_at _ (show b < 2 ^ 31 by omega), e2]
  exact ⟨vp_in_nI (by omega) (by decide), br_t rfl K⟩
theorem qx_bk_ok {post : Int32 → SX → Prop} {b on pw : Nat} (hb : b < 24) (b0 : b ≠ 0) (hon : on ≤ 23) (ne : on ≠ b) (h1 : 1 ≤ pw) (h2 : pw ≤ 15) (s : st b ≤ 1) (eu : qc_un (qd_dr D b on) c = qc_un D c) (K : post 1 (qr_x sb th (qd_dr D b on) (qa_u st b 1) (qa_u wk b pw) od wg mn c P ip psd sp fa stk sl sw sn bf pth pb)) : wpX_block post (qr_x sb th D st wk od wg mn c P ip psd sp fa stk sl sw sn bf pth pb) (nI b) (nI on) (nI pw) := by
  have dr : wpX_draft (fun u => post 1 u) (qr_x sb th D st wk od wg mn c P ip psd sp fa stk sl sw sn bf pth pb) (nI b) (nI on) (nI pw) := qx_draft hb (by omega) h2 eu K
  unfold qr_x at dr
  unfold qr_x wpX_block
  dsimp only
  rw [qa_at _ (show b < 2 ^ 31 by omega)]
  refine qx_isBlk hb b0 (br_f (by decide) (br_f (nI_pos (by omega)) (br_f (nI_nlt (b := on) (a := 23) hon (by decide)) (br_f (fun z => ne ((nI_eq (by omega) (by omega)).mp z)) (br_f (nI_nlt (b := 1) h1 (by omega)) (br_t (nI_le (b := 15) h2 (by decide)) ⟨vp_in_nI hb (by decide), br_t (nI_le (b := 1) s (by decide)) ?_⟩))))))
  exact dr
theorem qy_bk_ok {post : Int32 → SY → Prop} {b on pw : Nat} (hb : b < 24) (b0 : b ≠ 0) (hon : on ≤ 23) (ne : on ≠ b) (h1 : 1 ≤ pw) (h2 : pw ≤ 15) (s : st b ≤ 1) (K : post 1 (qr_y sb x (qd_dr D b on) (qa_u st b 1) (qa_u wk b pw) od P len w pth lis spe hO stk opl opt)) : wpY_block post (qr_y sb x D st wk od P len w pth lis spe hO stk opl opt) (nI b) (nI on) (nI pw) := by
  have dr : wpY_draft (fun u => post 1 u) (qr_y sb x D st wk od P len w pth lis spe hO stk opl opt) (nI b) (nI on) (nI pw) := qy_draft hb K
  unfold qr_y at dr
  unfold qr_y wpY_block
  dsimp only
  have e2 : ¬ nI (min 2 (st b)) = 2 := fun z => by
    have := (nI_eq (a := min 2 (st b)) (b := 2) (by omega) (by decide)).mp z
    omega
  rw [qa_at _ (show b < 2 ^ 31 by omega)]
  refine qy_out0 (lo := 1) (hi := 23) (by omega) (by omega) (by decide) (br_t rfl (qy_out0 (lo := 0) (hi := 23) (by omega) hon (by decide) (br_t rfl (br_f (fun z => ne ((nI_eq (by omega) (by omega)).mp z)) (qy_out0 (lo := 1) (hi := 15) h1 h2 (by decide) (br_t rfl ⟨vp_in_nI hb (by decide), br_f e2 ?_⟩))))))
  exact dr
theorem qx_ic_no {post : Int32 → SX → Prop} {v1 v2 : Int32} (N : ∀ b t, b < 24 → b ≠ 0 → v1 = nI b → t < 32 → v2 = nI t → st b = 1 → qd_se D t = false) (h4 : ∀ b, st b ≤ 4) (K : post (-1) (qr_x sb th D st wk od wg mn c P ip psd sp fa stk sl sw sn bf pth pb)) : wpX_include post (qr_x sb th D st wk od wg mn c P ip psd sp fa stk sl sw sn bf pth pb) v1 v2 := by
  unfold qr_x wpX_include
  dsimp only
  refine qx_bkc (fun b hb b0 e => br_f (by decide) (qx_txc (fun t ht e2 => br_f (by decide) ?_) (fun _ => br_t rfl K))) (fun _ => br_t rfl K)
  have s4 := h4 b
  rw [e, e2, qa_at _ (show b < 2 ^ 31 by omega), qa_bt _ (show t < 2 ^ 31 by omega)]
  refine ⟨vp_in_nI hb (by decide), br_c (fun q => ⟨vp_in_nI ht (by decide), ?_⟩) (fun _ => K)⟩
  have s := N b t hb b0 e ht e2 ((nI_eq (a := st b) (b := 1) (by omega) (by decide)).mp q)
  rw [s]
  exact br_t rfl K
theorem qy_ic_no {post : Int32 → SY → Prop} {v1 v2 : Int32} (N : ∀ b t, b < 24 → b ≠ 0 → v1 = nI b → t < 32 → v2 = nI t → st b = 1 → qd_se D t = false) (K : post (-1) (qr_y sb x D st wk od P len w pth lis spe hO stk opl opt)) : wpY_include post (qr_y sb x D st wk od P len w pth lis spe hO stk opl opt) v1 v2 := by
  unfold qr_y wpY_include
  dsimp only
  refine qy_oc 1 23 (by decide) (by decide) (fun b b0 hb e => br_t rfl (qy_oc 0 31 (by decide) (by decide) (fun t _ ht e2 => br_t rfl ?_) (fun _ => br_f (by decide) K))) (fun _ => br_f (by decide) K)
  rw [e, e2, qa_at _ (show b < 2 ^ 31 by omega), qa_bt _ (show t < 2 ^ 31 by omega)]
  refine ⟨vp_in_nI (by omega) (by decide), br_c (fun q => ⟨vp_in_nI (by omega) (by decide), ?_⟩) (fun _ => K)⟩
  have q' := (nI_eq (a := min 2 (st b)) (b := 1) (by omega) (by decide)).mp q
  have s := N b t (by omega) (by omega) e (by omega) e2 (by omega)
  rw [s]
  exact br_t rfl K
theorem qx_ic_full {post : Int32 → SX → Prop} {b t : Nat} (hb : b < 24) (b0 : b ≠ 0) (ht : t < 32) (s : st b = 1) (se : qd_se D t = true) (h : qd_ct D b = 3) (K : post (-2) (qr_x sb th D st wk od wg mn c P ip psd sp fa stk sl sw sn bf pth pb)) : wpX_include post (qr_x sb th D st wk od wg mn c P ip psd sp fa stk sl sw sn bf pth pb) (nI b) (nI t) := by
  unfold qr_x wpX_include
  dsimp only
  rw [qa_at st (show b < 2 ^ 31 by omega), qa_at (qd_ct D) (show b < 2 ^ 31 by omega), qa_bt _ (show t < 2 ^ 31 by omega), s, se, h]
  exact qx_isBlk hb b0 (br_f (by decide) (qx_isTx ht (br_f (by decide) ⟨vp_in_nI hb (by decide), br_t rfl ⟨vp_in_nI ht (by decide), br_f (by decide) ⟨vp_in_nI hb (by decide), br_t rfl K⟩⟩⟩)))
theorem qy_ic_full {post : Int32 → SY → Prop} {b t : Nat} (hb : b < 24) (b0 : b ≠ 0) (ht : t < 32) (s : st b = 1) (se : qd_se D t = true) (h : qd_ct D b = 3) (K : post (-2) (qr_y sb x D st wk od P len w pth lis spe hO stk opl opt)) : wpY_include post (qr_y sb x D st wk od P len w pth lis spe hO stk opl opt) (nI b) (nI t) := by
  unfold qr_y wpY_include
  dsimp only
  have e1 : min 2 (st b) = 1 := by omega
  rw [qa_at _ (show b < 2 ^ 31 by omega), qa_at (qd_ct D) (show b < 2 ^ 31 by omega), qa_bt _ (show t < 2 ^ 31 by omega), e1, se, h]
  exact qy_out0 (lo := 1) (hi := 23) (by omega) (by omega) (by decide) (br_t rfl (qy_out0 (lo := 0) (hi := 31) (by omega) (by omega) (by decide) (br_t rfl ⟨vp_in_nI hb (by decide), br_t rfl ⟨vp_in_nI ht (by decide), br_f (by decide) ⟨vp_in_nI hb (by decide), br_t rfl K⟩⟩⟩)))
theorem qx_ic_ok {post : Int32 → SX → Prop} {b t : Nat} (hb : b < 24) (b0 : b ≠ 0) (ht : t < 32) (s : st b = 1) (se : qd_se D t = true) (h : qd_ct D b < 3) (K : post (nI (qd_ct D b + 1)) (qr_x sb th (qd_bl D (qd_am D) (qd_lk D) (qa_u (qd_ct D) b (qd_ct D b + 1)) (qa_u (qd_tx D) (3 * b + qd_ct D b) t)) st wk od wg mn c P ip psd sp fa stk sl sw sn bf pth pb)) : wpX_include post (qr_x sb th D st wk od wg mn c P ip psd sp fa stk sl sw sn bf pth pb) (nI b) (nI t) := by
  unfold qr_x wpX_include
  dsimp only
  have v24 : vp_in (nI b) 24 := vp_in_nI hb (by decide)
  rw [qa_at st (show b < 2 ^ 31 by omega), qa_at (qd_ct D) (show b < 2 ^ 31 by omega), qa_bt _ (show t < 2 ^ 31 by omega), s, se, nI_1, qa_3, nI_clamp (show b < 2 ^ 31 by omega), nI_clamp (show 3 * b + qd_ct D b < 2 ^ 31 by omega), qa_byi (show qd_ct D b + 1 < 128 by omega), qa_byi (show t < 128 by omega), qa_iu, qa_iu]
  refine qx_isBlk hb b0 (br_f (by decide) (qx_isTx ht (br_f (by decide) ⟨v24, br_t rfl ⟨vp_in_nI ht (by decide), br_f (by decide) ⟨v24, br_f ?_ ⟨v24, v24, nm_e ⟨vp_in_nI (by omega) (by decide), nm_e ⟨v24, ?_⟩⟩⟩⟩⟩⟩)))
  · exact fun z => by have := (nI_eq (a := qd_ct D b) (b := 3) (by omega) (by decide)).mp z; omega
  · have e : qa_i (qa_u (qd_ct D) b (qd_ct D b + 1)) b = nI (qd_ct D b + 1) := by show nI (qa_u (qd_ct D) b (qd_ct D b + 1) b) = _; rw [qa_us]
    rw [e]
    exact K
theorem qy_ic_ok {post : Int32 → SY → Prop} {b t : Nat} (hb : b < 24) (b0 : b ≠ 0) (ht : t < 32) (s : st b = 1) (se : qd_se D t = true) (h : qd_ct D b < 3) (K : post (nI (qd_ct D b + 1)) (qr_y sb x (qd_bl D (qd_am D) (qd_lk D) (qa_u (qd_ct D) b (qd_ct D b + 1)) (qa_u (qd_tx D) (3 * b + qd_ct D b) t)) st wk od P len w pth lis spe hO stk opl opt)) : wpY_include post (qr_y sb x D st wk od P len w pth lis spe hO stk opl opt) (nI b) (nI t) := by
  unfold qr_y wpY_include
  dsimp only
  have v24 : vp_in (nI b) 24 := vp_in_nI hb (by decide)
  have e1 : min 2 (st b) = 1 := by omega
  rw [qa_at _ (show b < 2 ^ 31 by omega), qa_at (qd_ct D) (show b < 2 ^ 31 by omega), qa_bt _ (show t < 2 ^ 31 by omega), e1, se, nI_1, qa_3', nI_clamp (show b < 2 ^ 31 by omega), nI_clamp (show 3 * b + qd_ct D b < 2 ^ 31 by omega), qa_iu, qa_iu]
  refine qy_out0 (lo := 1) (hi := 23) (by omega) (by omega) (by decide) (br_t rfl (qy_out0 (lo := 0) (hi := 31) (by omega) (by omega) (by decide) (br_t rfl ⟨v24, br_t rfl ⟨vp_in_nI ht (by decide), br_f (by decide) ⟨v24, br_f ?_ ⟨v24, vp_in_nI (by omega) (by decide), nm_e ⟨v24, v24, nm_e ⟨v24, ?_⟩⟩⟩⟩⟩⟩)))
  · exact fun z => by have := (nI_eq (a := qd_ct D b) (b := 3) (by omega) (by decide)).mp z; omega
  · have e : qa_i (qa_u (qd_ct D) b (qd_ct D b + 1)) b = nI (qd_ct D b + 1) := by show nI (qa_u (qd_ct D) b (qd_ct D b + 1) b) = _; rw [qa_us]
    rw [e]
    exact K
theorem qx_rw_no {post : Int32 → SX → Prop} {v1 v2 v3 : Int32} (N : ∀ b a, b < 24 → b ≠ 0 → v1 = nI b → 1 ≤ a → a ≤ 1000 → v2 = nI a → st b ≠ 1) (h4 : ∀ b, st b ≤ 4) (K : post (-1) (qr_x sb th D st wk od wg mn c P ip psd sp fa stk sl sw sn bf pth pb)) : wpX_reward post (qr_x sb th D st wk od wg mn c P ip psd sp fa stk sl sw sn bf pth pb) v1 v2 v3 := by
  unfold qr_x wpX_reward
  dsimp only
  refine qx_bkc (fun b hb b0 e => br_f (by decide) (br_c (fun _ => K) (fun q1 => br_c (fun _ => K) (fun q2 => ?_)))) (fun _ => br_t rfl K)
  obtain ⟨a, h1, h2, ea⟩ := qa_am q1 q2
  have s := N b a hb b0 e h1 h2 ea
  have s4 := h4 b
  rw [e, qa_at _ (show b < 2 ^ 31 by omega)]
  exact ⟨vp_in_nI hb (by decide), br_f (fun z => s ((nI_eq (a := st b) (b := 1) (by omega) (by decide)).mp z)) K⟩
theorem qy_rw_no {post : Int32 → SY → Prop} {v1 v2 v3 : Int32} (N : ∀ b a, b < 24 → b ≠ 0 → v1 = nI b → 1 ≤ a → a ≤ 1000 → v2 = nI a → st b ≠ 1) (K : post (-1) (qr_y sb x D st wk od P len w pth lis spe hO stk opl opt)) : wpY_reward post (qr_y sb x D st wk od P len w pth lis spe hO stk opl opt) v1 v2 v3 := by
  unfold qr_y wpY_reward
  dsimp only
  refine qy_oc 1 23 (by decide) (by decide) (fun b b0 hb e => br_t rfl (qy_oc 1 1000 (by decide) (by decide) (fun a h1 h2 ea => br_t rfl ?_) (fun _ => br_f (by decide) K))) (fun _ => br_f (by decide) K)
  have s := N b a (by omega) (by omega) e h1 h2 ea
  rw [e, qa_at _ (show b < 2 ^ 31 by omega)]
  refine ⟨vp_in_nI (by omega) (by decide), br_f (fun z => ?_) K⟩
  have := (nI_eq (a := min 2 (st b)) (b := 1) (by omega) (by decide)).mp z
  omega
theorem qx_rw_ok {post : Int32 → SX → Prop} {b a : Nat} {v3 : Int32} (hb : b < 24) (b0 : b ≠ 0) (h1 : 1 ≤ a) (h2 : a ≤ 1000) (s : st b = 1) (K : post 1 (qr_x sb th (qd_bl D (upd (qd_am D) (64 + 2 * b) (nI a)) (upd (qd_lk D) (64 + 2 * b) v3) (qd_ct D) (qd_tx D)) st wk od wg mn c P ip psd sp fa stk sl sw sn bf pth pb)) : wpX_reward post (qr_x sb th D st wk od wg mn c P ip psd sp fa stk sl sw sn bf pth pb) (nI b) (nI a) v3 := by
  unfold qr_x wpX_reward
  dsimp only
  rw [qa_at _ (show b < 2 ^ 31 by omega), s, qa_64, nI_clamp (show 64 + 2 * b < 2 ^ 31 by omega)]
  exact qx_isBlk hb b0 (br_f (by decide) (br_f (nI_nlt (b := 1) h1 (by omega)) (br_f (nI_nlt (b := a) (a := 1000) h2 (by decide)) ⟨vp_in_nI hb (by decide), br_t rfl ⟨vp_in_nI (by omega) (by decide), nm_e ⟨vp_in_nI (by omega) (by decide), nm_e K⟩⟩⟩)))
theorem qy_rw_ok {post : Int32 → SY → Prop} {b a : Nat} {v3 : Int32} (hb : b < 24) (b0 : b ≠ 0) (h1 : 1 ≤ a) (h2 : a ≤ 1000) (s : st b = 1) (K : post 1 (qr_y sb x (qd_bl D (upd (qd_am D) (64 + 2 * b) (nI a)) (upd (qd_lk D) (64 + 2 * b) v3) (qd_ct D) (qd_tx D)) st wk od P len w pth lis spe hO stk opl opt)) : wpY_reward post (qr_y sb x D st wk od P len w pth lis spe hO stk opl opt) (nI b) (nI a) v3 := by
  unfold qr_y wpY_reward
  dsimp only
  have e1 : min 2 (st b) = 1 := by omega
  rw [qa_at _ (show b < 2 ^ 31 by omega), e1, qa_64', nI_clamp (show 64 + 2 * b < 2 ^ 31 by omega)]
  exact qy_out0 (lo := 1) (hi := 23) (by omega) (by omega) (by decide) (br_t rfl (qy_out0 (lo := 1) (hi := 1000) h1 h2 (by decide) (br_t rfl ⟨vp_in_nI hb (by decide), br_t rfl ⟨vp_in_nI (by omega) (by decide), nm_e ⟨vp_in_nI (by omega) (by decide), nm_e K⟩⟩⟩)))
end
end
section
/-! mine, both sides -/
def qm_tx (tx : Nat → Nat) (b : Nat) (pl : Nat → Nat) : Nat → Nat → Nat
  | 0 => tx
  | k + 1 => qa_u (qm_tx tx b pl k) (3 * b + k) (pl k)
theorem qm_out {tx pl : Nat → Nat} {b : Nat} : ∀ {n k : Nat}, n ≤ 3 → (k < 3 * b ∨ 3 * b + 3 ≤ k) → qm_tx tx b pl n k = tx k
  | 0, _, _, _ => rfl
  | n + 1, k, hn, hk => by
    show qa_u (qm_tx tx b pl n) (3 * b + n) (pl n) k = tx k
    rw [qa_un (by omega)]
    exact qm_out (by omega) hk
theorem qm_in {tx pl : Nat → Nat} {b : Nat} : ∀ {n i : Nat}, i < n → qm_tx tx b pl n (3 * b + i) = pl i
  | 0, _, h => by omega
  | n + 1, i, h => by
    show qa_u (qm_tx tx b pl n) (3 * b + n) (pl n) (3 * b + i) = pl i
    by_cases z : i = n
    · subst z; rw [qa_us]
    · rw [qa_un (by omega)]
      exact qm_in (by omega)
theorem qm_32 {tx pl : Nat → Nat} {b : Nat} (h1 : ∀ k, tx k < 32) (h2 : ∀ k, pl k < 32) : ∀ {n : Nat} (k : Nat), qm_tx tx b pl n k < 32
  | 0, k => h1 k
  | n + 1, k => by
    show qa_u (qm_tx tx b pl n) (3 * b + n) (pl n) k < 32
    by_cases z : k = 3 * b + n
    · rw [z, qa_us]; exact h2 n
    · rw [qa_un z]; exact qm_32 h1 h2 k
theorem qa_uu {f : Nat → Nat} {b v w : Nat} : qa_u (qa_u f b v) b w = qa_u f b w := by
  funext j
  by_cases z : j = b
  · subst z; rw [qa_us, qa_us]
  · rw [qa_un z, qa_un z, qa_un z]
theorem qa_u0 {f : Nat → Nat} {b v : Nat} (h : f b = v) : qa_u f b v = f := by
  funext j
  by_cases z : j = b
  · subst z; rw [qa_us, h]
  · rw [qa_un z]
/-- the block's transactions from the pool, so far -/
def qm_D (D : qd_T) (b : Nat) (pl : Nat → Nat) (k : Nat) : qd_T := qd_bl D (qd_am D) (qd_lk D) (qa_u (qd_ct D) b k) (qm_tx (qd_tx D) b pl k)
/-- the mined block whole -/
def qm_E (D : qd_T) (b : Nat) (pl : Nat → Nat) (n : Nat) (lock : Int32) : qd_T := qd_bl D (upd (qd_am D) (64 + 2 * b) (50 + qc_fe D pl n)) (upd (qd_lk D) (64 + 2 * b) lock) (qa_u (qd_ct D) b n) (qm_tx (qd_tx D) b pl n)
theorem qm_W {D : qd_T} {b k : Nat} {pl : Nat → Nat} (W : qd_W D) (hk : k ≤ 3) (hp : ∀ i, pl i < 32) : qd_W (qm_D D b pl k) := ⟨W.1, W.2.1, W.2.2.1, W.2.2.2.1, W.2.2.2.2.1, W.2.2.2.2.2.1, fun x => by
    show qa_u (qd_ct D) b k x ≤ 3
    by_cases z : x = b
    · rw [z, qa_us]; exact hk
    · rw [qa_un z]; exact W.2.2.2.2.2.2.1 x, fun j => qm_32 W.2.2.2.2.2.2.2.1 hp j, W.2.2.2.2.2.2.2.2⟩
section
variable {D : qd_T} {c : qc_T} {sb th x : Nat} {st wk od wg mn : Nat → Nat} {P : qe_T} {ip psd : Nat → Bool} {sp fa : Int32} {stk sl sw sn : Nat → Int32} {bf pth pb : Nat → Int32} {len w : Int32} {lis spe : Nat → Bool} {hO opl opt : Nat → Int32}
theorem qr_E {b : Nat} {lock : Int32} (F : qr_F sb th D st wk od wg mn c P ip psd) (s : st b ≤ 1) : qr_F sb th (qm_E D b P.2.1 (min 3 P.1) lock) st wk od wg mn c P ip psd := by
  have F0 := F
  obtain ⟨W, V, S, C, hP, X, T, B, O⟩ := F0
  obtain ⟨M1, M2, M3⟩ := qc_mainR W V C.1 C.2.2.2.2
  obtain ⟨c1, e1⟩ := qc_r_pre hP.1 (show min 3 P.1 ≤ P.1 by omega)
  obtain ⟨_, f0, u1⟩ := qu_r W M1 (by omega) (fun i _ => hP.2.2 i) e1
  have u0 := qu_0 (D := D) (u := qc_un D c1) W
  refine qr_bl F s (fun o ho => pk_un ho) ?_ (fun o ho => pk_un ho) (fun y hy => qa_un hy) ?_ (fun k hk => qm_out (by omega) hk) (fun k => qm_32 W.2.2.2.2.2.2.2.1 hP.2.2 k) (fun i hi => ?_)
  · rw [pk_us, qu_add (x := 50) (by decide) f0 (by rw [show (50 : Int32).toInt = 50 from by decide]; omega), show (50 : Int32).toInt = 50 from by decide]
    omega
  · rw [qa_us]; omega
  · rw [qa_us] at hi
    rw [qm_in hi]
    exact qc_r_se e1 i hi
theorem qx_m51 {post : Int32 → SX → Prop} {b : Nat} {lock : Int32} (W : qd_W D) (hb : b < 24) (h8 : P.1 ≤ 8) (hp : ∀ i, P.2.1 i < 32)
    (K : wpX_submit (fun r u => match u with | (f_submitted, f_tipHeight, f_poolSize, f_sp, f_failed, a_inCount, a_outCount, a_sealed, a_inFrom, a_inWitness, a_amounts, a_locks, a_parent, a_work, a_state, a_order, a_txCount, a_txs, a_height, a_weight, a_main, a_unspent, a_home, a_before, a_path, a_pool, a_poolBefore, a_inPool, a_poolSpends, a_stack, a_seenLock, a_seenWitness, a_seen) => (vp_in (nI b) 24 ∧ (post (a_txCount (nI b).toNatClampNeg) (f_submitted, f_tipHeight, f_poolSize, f_sp, f_failed, a_inCount, a_outCount, a_sealed, a_inFrom, a_inWitness, a_amounts, a_locks, a_parent, a_work, a_state, a_order, a_txCount, a_txs, a_height, a_weight, a_main, a_unspent, a_home, a_before, a_path, a_pool, a_poolBefore, a_inPool, a_poolSpends, a_stack, a_seenLock, a_seenWitness, a_seen)))) (qr_x sb th (qm_E D b P.2.1 (min 3 P.1) lock) st wk od wg mn c P ip psd sp fa stk sl sw sn bf pth pb) (nI b)) :
    ∀ d k, k + d = min 3 P.1 → ∀ n, d < n → wX_mine_51 post (nI b) lock (nI sb) (nI th) (nI P.1) sp fa n (qc_fe D P.2.1 k) (nI k) (qa_i (qd_ic D)) (qa_i (qd_ox D)) (qa_b (qd_se D)) (qa_i (qd_fr D)) (qd_wt D) (qd_am D) (qd_lk D) (qa_i (qd_pa D)) (qa_i wk) (qa_i st) (qa_i od) (qa_i (qa_u (qd_ct D) b k)) (qa_i (qm_tx (qd_tx D) b P.2.1 k)) (qa_i (qd_ht D)) (qa_i wg) (qa_i mn) (qa_b (qc_un D c)) (qc_h c) bf pth (qa_i P.2.1) pb (qa_b ip) (qa_b psd) stk sl sw sn := by
  intro d
  induction d with
  | zero =>
    intro k hk n hn
    obtain ⟨n, rfl⟩ : ∃ q, n = q + 1 := ⟨n - 1, by omega⟩
    have hk' : k = min 3 P.1 := by omega
    subst hk'
    have G : wX_mine_117 post (nI b) lock (qc_fe D P.2.1 (min 3 P.1)) (nI sb) (nI th) (nI P.1) sp fa (qa_i (qd_ic D)) (qa_i (qd_ox D)) (qa_b (qd_se D)) (qa_i (qd_fr D)) (qd_wt D) (qd_am D) (qd_lk D) (qa_i (qd_pa D)) (qa_i wk) (qa_i st) (qa_i od) (qa_i (qa_u (qd_ct D) b (min 3 P.1))) (qa_i (qm_tx (qd_tx D) b P.2.1 (min 3 P.1))) (qa_i (qd_ht D)) (qa_i wg) (qa_i mn) (qa_b (qc_un D c)) (qc_h c) bf pth (qa_i P.2.1) pb (qa_b ip) (qa_b psd) stk sl sw sn := by
      unfold wX_mine_117
      rw [qa_64, nI_clamp (show 64 + 2 * b < 2 ^ 31 by omega)]
      exact ⟨vp_in_nI (by omega) (by decide), nm_e ⟨vp_in_nI (by omega) (by decide), nm_e K⟩⟩
    rw [wX_mine_51]
    by_cases z : 3 ≤ min 3 P.1
    · exact br_t (nI_le (a := 3) z (by omega)) G
    · exact br_f (nI_ge (b := 3) (by omega) (by decide)) (br_t (nI_le (by omega) (by omega)) G)
  | succ d ih =>
    intro k hk n hn
    obtain ⟨n, rfl⟩ : ∃ q, n = q + 1 := ⟨n - 1, by omega⟩
    have pk := hp k
    have v24 : vp_in (nI b) 24 := vp_in_nI hb (by decide)
    have e : qa_i (qa_u (qd_ct D) b k) b = nI k := by show nI (qa_u (qd_ct D) b k b) = _; rw [qa_us]
    rw [wX_mine_51]
    dsimp only
    rw [qa_at P.2.1 (show k < 2 ^ 31 by omega), qa_3, nI_clamp (show 3 * b + k < 2 ^ 31 by omega), qa_by (by omega), qa_iu, nI_clamp (show b < 2 ^ 31 by omega), e, nI_1, qa_byi (by omega), qa_iu, qa_uu]
    refine br_f (nI_ge (b := 3) (by omega) (by decide)) (br_f (nI_ge (by omega) (by omega)) ⟨vp_in_nI (by omega) (by decide), vp_in_nI (by omega) (by decide), nm_e ⟨v24, v24, nm_e ⟨vp_in_nI (by omega) (by decide), ?_⟩⟩⟩)
    exact qx_fee (D := qm_D D b P.2.1 (k + 1)) (qm_W W (by omega) hp) pk (nm_e (nm_e (ih (k + 1) (by omega) n (by omega))))
theorem qx_mine_ok {post : Int32 → SX → Prop} {b pw : Nat} {lock : Int32} (F : qr_F sb th D st wk od wg mn c P ip psd) (CC : qx_C sl sw sn) (hb : b < 24) (b0 : b ≠ 0) (h1 : 1 ≤ pw) (h2 : pw ≤ 15) (s : st b ≤ 1)
    (K : ∀ (sp fa : Int32) (stk sl sw sn : Nat → Int32) (bf pth pb : Nat → Int32) (r : Int32) (th' : Nat) (ht' st' wg' mn' : Nat → Nat) (c' : qc_T) (P' : qe_T) (ip' psd' : Nat → Bool), qx_C sl sw sn → qr_sp sb th (qm_E (qd_dr D b (mn th)) b P.2.1 (min 3 P.1) lock) (qa_u st b 1) (qa_u wk b pw) od mn P b r th' ht' st' wg' mn' c' P' ip' psd' → post (nI (min 3 P.1)) (qr_x (sb + 1) th' (qd_h (qm_E (qd_dr D b (mn th)) b P.2.1 (min 3 P.1) lock) ht') st' (qa_u wk b pw) (qa_u od b (sb + 1)) wg' mn' c' P' ip' psd' sp fa stk sl sw sn bf pth pb)) : wpX_mine post (qr_x sb th D st wk od wg mn c P ip psd sp fa stk sl sw sn bf pth pb) (nI b) (nI pw) lock := by
  have m24 := F.2.2.2.1.2.2.2.1 th
  have hth : th < 24 := by have := F.1.2.2.2.2.2.2.2.2.2 (mn th); rw [F.2.2.2.1.2.1] at this; omega
  obtain ⟨F1, eu⟩ := qr_dr (on := mn th) (pw := pw) F hb b0 s m24 h2
  have F2 := qr_E (b := b) (lock := lock) F1 (by rw [qa_us]; omega)
  have sub := qx_submit (b := b) (bf := bf) (pth := pth) (pb := pb) (sp := sp) (fa := fa) (stk := stk) (post := fun r u => match u with | (f_submitted, f_tipHeight, f_poolSize, f_sp, f_failed, a_inCount, a_outCount, a_sealed, a_inFrom, a_inWitness, a_amounts, a_locks, a_parent, a_work, a_state, a_order, a_txCount, a_txs, a_height, a_weight, a_main, a_unspent, a_home, a_before, a_path, a_pool, a_poolBefore, a_inPool, a_poolSpends, a_stack, a_seenLock, a_seenWitness, a_seen) => (vp_in (nI b) 24 ∧ (post (a_txCount (nI b).toNatClampNeg) (f_submitted, f_tipHeight, f_poolSize, f_sp, f_failed, a_inCount, a_outCount, a_sealed, a_inFrom, a_inWitness, a_amounts, a_locks, a_parent, a_work, a_state, a_order, a_txCount, a_txs, a_height, a_weight, a_main, a_unspent, a_home, a_before, a_path, a_pool, a_poolBefore, a_inPool, a_poolSpends, a_stack, a_seenLock, a_seenWitness, a_seen)))) F2 CC hb b0 qa_us (fun sp fa stk sl sw sn bf pth pb r th' ht' st' wg' mn' c' P' ip' psd' CC R => by
    have KK := K sp fa stk sl sw sn bf pth pb r th' ht' st' wg' mn' c' P' ip' psd' CC R
    refine ⟨vp_in_nI hb (by decide), ?_⟩
    have e : qa_i (qd_ct (qd_h (qm_E (qd_dr D b (mn th)) b P.2.1 (min 3 P.1) lock) ht')) (nI b).toNatClampNeg = nI (min 3 P.1) := by
      rw [qa_at _ (show b < 2 ^ 31 by omega)]
      show nI (qa_u (qd_ct (qd_dr D b (mn th))) b (min 3 P.1) b) = _
      rw [qa_us]
    rw [← e] at KK
    exact KK)
  have dr : wpX_draft (fun u => match u with | (f_submitted, f_tipHeight, f_poolSize, f_sp, f_failed, a_inCount, a_outCount, a_sealed, a_inFrom, a_inWitness, a_amounts, a_locks, a_parent, a_work, a_state, a_order, a_txCount, a_txs, a_height, a_weight, a_main, a_unspent, a_home, a_before, a_path, a_pool, a_poolBefore, a_inPool, a_poolSpends, a_stack, a_seenLock, a_seenWitness, a_seen) => (∃ n51 : Nat, wX_mine_51 post (nI b) lock f_submitted f_tipHeight f_poolSize f_sp f_failed n51 0 0 a_inCount a_outCount a_sealed a_inFrom a_inWitness a_amounts a_locks a_parent a_work a_state a_order a_txCount a_txs a_height a_weight a_main a_unspent a_home a_before a_path a_pool a_poolBefore a_inPool a_poolSpends a_stack a_seenLock a_seenWitness a_seen)) (qr_x sb th D st wk od wg mn c P ip psd sp fa stk sl sw sn bf pth pb) (nI b) (nI (mn th)) (nI pw) := by
    refine qx_draft hb m24 h2 eu ⟨min 3 P.1 + 1, ?_⟩
    have := qx_m51 (D := qd_dr D b (mn th)) F1.1 hb F.2.2.2.2.1.2.1 F.2.2.2.2.1.2.2 sub (min 3 P.1) 0 (by omega) _ (Nat.lt_succ_self _)
    rw [qa_u0 (f := qd_ct (qd_dr D b (mn th))) (b := b) (v := 0) qa_us] at this
    exact this
  unfold qr_x at dr
  unfold qr_x wpX_mine
  dsimp only
  rw [qa_at st (show b < 2 ^ 31 by omega), qa_at mn (show th < 2 ^ 31 by omega)]
  exact qx_isBlk hb b0 (br_f (by decide) (br_f (nI_nlt (b := 1) h1 (by omega)) (br_f (nI_nlt (b := pw) (a := 15) h2 (by decide)) ⟨vp_in_nI hb (by decide), br_t (nI_le (b := 1) s (by decide)) ⟨vp_in_nI hth (by decide), dr⟩⟩)))
theorem qx_mine_no {post : Int32 → SX → Prop} {v1 v2 v3 : Int32} (N : ∀ b pw, b < 24 → b ≠ 0 → v1 = nI b → 1 ≤ pw → pw ≤ 15 → v2 = nI pw → 2 ≤ st b) (h4 : ∀ b, st b ≤ 4) (K : post (-1) (qr_x sb th D st wk od wg mn c P ip psd sp fa stk sl sw sn bf pth pb)) : wpX_mine post (qr_x sb th D st wk od wg mn c P ip psd sp fa stk sl sw sn bf pth pb) v1 v2 v3 := by
  unfold qr_x wpX_mine
  dsimp only
  refine qx_bkc (fun b hb b0 e => br_f (by decide) (br_c (fun _ => K) (fun q1 => br_c (fun _ => K) (fun q2 => ?_)))) (fun _ => br_t rfl K)
  obtain ⟨pw, h2, ep⟩ := qa_rg (M := 15) (n := 15) (by decide) (fun z => q1 (Int32.lt_of_lt_of_le z (by decide))) q2
  have p0 : pw ≠ 0 := fun z => q1 (by rw [ep, z]; decide)
  have s := N b pw hb b0 e (by omega) h2 ep
  have s4 := h4 b
  rw [e, qa_at st (show b < 2 ^ 31 by omega)]
  exact ⟨vp_in_nI hb (by decide), br_f (nI_ge (a := 1) (by omega) (by omega)) K⟩
theorem qy_mine_no {post : Int32 → SY → Prop} {v1 v2 v3 : Int32} (N : ∀ b pw, b < 24 → b ≠ 0 → v1 = nI b → 1 ≤ pw → pw ≤ 15 → v2 = nI pw → 2 ≤ st b) (K : post (-1) (qr_y sb x D st wk od P len w pth lis spe hO stk opl opt)) : wpY_mine post (qr_y sb x D st wk od P len w pth lis spe hO stk opl opt) v1 v2 v3 := by
  unfold qr_y wpY_mine
  dsimp only
  refine qy_oc 1 23 (by decide) (by decide) (fun b b0 hb e => br_t rfl (qy_oc 1 15 (by decide) (by decide) (fun pw h2 h3 ep => br_t rfl ?_) (fun _ => br_f (by decide) K))) (fun _ => br_f (by decide) K)
  have s := N b pw (by omega) (by omega) e h2 h3 ep
  have e2 : min 2 (st b) = 2 := by omega
  rw [e, qa_at _ (show b < 2 ^ 31 by omega), e2]
  exact ⟨vp_in_nI (by omega) (by decide), br_t rfl K⟩
theorem qy_m45 {post : Int32 → SY → Prop} {b : Nat} {lock : Int32} (W : qd_W D) (hb : b < 24) (h8 : P.1 ≤ 8) (hp : ∀ i, P.2.1 i < 32)
    (K : wpY_submit (fun r u => match u with | (f_submitted, f_length, f_weight, f_pooledCount, f_tipBlock, a_inputs, a_inFrom, a_inPlace, a_witness, a_outputs, a_amount, a_lock, a_sealed, a_state, a_parent, a_work, a_count, a_tx, a_order, a_path, a_listed, a_spent, a_heightOf, a_stack, a_pool, a_oldPool, a_oldPath) => (vp_in (nI b) 24 ∧ (post (a_count (nI b).toNatClampNeg) (f_submitted, f_length, f_weight, f_pooledCount, f_tipBlock, a_inputs, a_inFrom, a_inPlace, a_witness, a_outputs, a_amount, a_lock, a_sealed, a_state, a_parent, a_work, a_count, a_tx, a_order, a_path, a_listed, a_spent, a_heightOf, a_stack, a_pool, a_oldPool, a_oldPath)))) (qr_y sb x (qm_E D b P.2.1 (min 3 P.1) lock) st wk od P len w pth lis spe hO stk opl opt) (nI b)) :
    ∀ d k, k + d = min 3 P.1 → ∀ n, d < n → wY_mine_45 post (nI b) lock (nI sb) len w (nI P.1) (nI x) n (qc_fe D P.2.1 k) (qa_i (qd_ic D)) (qa_i (fun k => qd_fr D k / 2)) (qa_i (fun k => qd_fr D k % 2)) (qd_wt D) (qa_i (qd_oc D)) (qd_am D) (qd_lk D) (qa_b (qd_se D)) (qa_i (fun b => min 2 (st b))) (qa_i (qd_pa D)) (qa_i wk) (qa_i (qa_u (qd_ct D) b k)) (qa_i (qm_tx (qd_tx D) b P.2.1 k)) (qa_i od) pth (qa_b lis) (qa_b spe) hO stk (qa_i P.2.1) opl opt := by
  intro d
  induction d with
  | zero =>
    intro k hk n hn
    obtain ⟨n, rfl⟩ : ∃ q, n = q + 1 := ⟨n - 1, by omega⟩
    have hk' : k = min 3 P.1 := by omega
    subst hk'
    have e : qa_i (qa_u (qd_ct D) b (min 3 P.1)) b = nI (min 3 P.1) := by show nI (qa_u (qd_ct D) b (min 3 P.1) b) = _; rw [qa_us]
    have G : wY_mine_129 post (nI b) lock (qc_fe D P.2.1 (min 3 P.1)) (nI sb) len w (nI P.1) (nI x) (qa_i (qd_ic D)) (qa_i (fun k => qd_fr D k / 2)) (qa_i (fun k => qd_fr D k % 2)) (qd_wt D) (qa_i (qd_oc D)) (qd_am D) (qd_lk D) (qa_b (qd_se D)) (qa_i (fun b => min 2 (st b))) (qa_i (qd_pa D)) (qa_i wk) (qa_i (qa_u (qd_ct D) b (min 3 P.1))) (qa_i (qm_tx (qd_tx D) b P.2.1 (min 3 P.1))) (qa_i od) pth (qa_b lis) (qa_b spe) hO stk (qa_i P.2.1) opl opt := by
      unfold wY_mine_129
      rw [qa_64', nI_clamp (show 64 + 2 * b < 2 ^ 31 by omega)]
      exact ⟨vp_in_nI (by omega) (by decide), nm_e ⟨vp_in_nI (by omega) (by decide), nm_e K⟩⟩
    rw [wY_mine_45]
    dsimp only
    rw [nI_clamp (show b < 2 ^ 31 by omega), e]
    refine ⟨vp_in_nI hb (by decide), ?_⟩
    by_cases z : 3 ≤ min 3 P.1
    · exact br_t (nI_le (a := 3) z (by omega)) G
    · exact br_f (nI_ge (b := 3) (by omega) (by decide)) ⟨vp_in_nI hb (by decide), br_t (nI_le (by omega) (by omega)) G⟩
  | succ d ih =>
    intro k hk n hn
    obtain ⟨n, rfl⟩ : ∃ q, n = q + 1 := ⟨n - 1, by omega⟩
    have pk := hp k
    have v24 : vp_in (nI b) 24 := vp_in_nI hb (by decide)
    have e : qa_i (qa_u (qd_ct D) b k) b = nI k := by show nI (qa_u (qd_ct D) b k b) = _; rw [qa_us]
    rw [wY_mine_45]
    dsimp only
    rw [nI_clamp (show b < 2 ^ 31 by omega), e, qa_at P.2.1 (show k < 2 ^ 31 by omega), qa_3', nI_clamp (show 3 * b + k < 2 ^ 31 by omega), nI_1, qa_iu, qa_uu]
    refine ⟨v24, br_f (nI_ge (b := 3) (by omega) (by decide)) ⟨v24, br_f (nI_ge (by omega) (by omega)) ⟨v24, vp_in_nI (by omega) (by decide), nm_e ?_⟩⟩⟩
    rw [qa_iu]
    refine ⟨v24, vp_in_nI (by omega) (by decide), nm_e ⟨v24, v24, nm_e ?_⟩⟩
    exact qy_spends (D := qm_D D b P.2.1 (k + 1)) (qm_W W (by omega) hp) pk (qy_gives (D := qm_D D b P.2.1 (k + 1)) (qm_W W (by omega) hp) pk (nm_e (ih (k + 1) (by omega) n (by omega))))
theorem qy_mine_ok {post : Int32 → SY → Prop} {b pw : Nat} {lock r : Int32} {th' : Nat} {ht' st' wg' mn' : Nat → Nat} {c' : qc_T} {P' : qe_T} {ip' psd' : Nat → Bool} (F : qr_F sb th D st wk od wg mn c P ip psd) (TT : qy_T lis spe) (hb : b < 24) (b0 : b ≠ 0) (h1 : 1 ≤ pw) (h2 : pw ≤ 15) (s : st b ≤ 1)
    (R : qr_sp sb th (qm_E (qd_dr D b (mn th)) b P.2.1 (min 3 P.1) lock) (qa_u st b 1) (qa_u wk b pw) od mn P b r th' ht' st' wg' mn' c' P' ip' psd')
    (K : ∀ (len w : Int32) (pth : Nat → Int32) (lis spe : Nat → Bool) (hO stk opl opt : Nat → Int32), qy_T lis spe → post (nI (min 3 P.1)) (qr_y (sb + 1) (mn' th') (qd_h (qm_E (qd_dr D b (mn th)) b P.2.1 (min 3 P.1) lock) ht') st' (qa_u wk b pw) (qa_u od b (sb + 1)) P' len w pth lis spe hO stk opl opt)) : wpY_mine post (qr_y sb (mn th) D st wk od P len w pth lis spe hO stk opl opt) (nI b) (nI pw) lock := by
  have m24 := F.2.2.2.1.2.2.2.1 th
  obtain ⟨F1, eu⟩ := qr_dr (on := mn th) (pw := pw) F hb b0 s m24 h2
  have F2 := qr_E (b := b) (lock := lock) F1 (by rw [qa_us]; omega)
  have sub := qy_submit (b := b) (len := len) (w := w) (pth := pth) (hO := hO) (stk := stk) (opl := opl) (opt := opt) (post := fun r u => match u with | (f_submitted, f_length, f_weight, f_pooledCount, f_tipBlock, a_inputs, a_inFrom, a_inPlace, a_witness, a_outputs, a_amount, a_lock, a_sealed, a_state, a_parent, a_work, a_count, a_tx, a_order, a_path, a_listed, a_spent, a_heightOf, a_stack, a_pool, a_oldPool, a_oldPath) => (vp_in (nI b) 24 ∧ (post (a_count (nI b).toNatClampNeg) (f_submitted, f_length, f_weight, f_pooledCount, f_tipBlock, a_inputs, a_inFrom, a_inPlace, a_witness, a_outputs, a_amount, a_lock, a_sealed, a_state, a_parent, a_work, a_count, a_tx, a_order, a_path, a_listed, a_spent, a_heightOf, a_stack, a_pool, a_oldPool, a_oldPath)))) F2 TT hb b0 qa_us R (fun len w pth lis spe hO stk opl opt TT => by
    have KK := K len w pth lis spe hO stk opl opt TT
    refine ⟨vp_in_nI hb (by decide), ?_⟩
    have e : qa_i (qd_ct (qd_h (qm_E (qd_dr D b (mn th)) b P.2.1 (min 3 P.1) lock) ht')) (nI b).toNatClampNeg = nI (min 3 P.1) := by
      rw [qa_at _ (show b < 2 ^ 31 by omega)]
      show nI (qa_u (qd_ct (qd_dr D b (mn th))) b (min 3 P.1) b) = _
      rw [qa_us]
    rw [← e] at KK
    exact KK)
  have dr : wpY_draft (fun u => match u with | (f_submitted, f_length, f_weight, f_pooledCount, f_tipBlock, a_inputs, a_inFrom, a_inPlace, a_witness, a_outputs, a_amount, a_lock, a_sealed, a_state, a_parent, a_work, a_count, a_tx, a_order, a_path, a_listed, a_spent, a_heightOf, a_stack, a_pool, a_oldPool, a_oldPath) => (∃ n45 : Nat, wY_mine_45 post (nI b) lock f_submitted f_length f_weight f_pooledCount f_tipBlock n45 0 a_inputs a_inFrom a_inPlace a_witness a_outputs a_amount a_lock a_sealed a_state a_parent a_work a_count a_tx a_order a_path a_listed a_spent a_heightOf a_stack a_pool a_oldPool a_oldPath)) (qr_y sb (mn th) D st wk od P len w pth lis spe hO stk opl opt) (nI b) (nI (mn th)) (nI pw) := by
    refine qy_draft hb ⟨min 3 P.1 + 1, ?_⟩
    have := qy_m45 (D := qd_dr D b (mn th)) F1.1 hb F.2.2.2.2.1.2.1 F.2.2.2.2.1.2.2 sub (min 3 P.1) 0 (by omega) _ (Nat.lt_succ_self _)
    rw [qa_u0 (f := qd_ct (qd_dr D b (mn th))) (b := b) (v := 0) qa_us] at this
    exact this
  unfold qr_y at dr
  unfold qr_y wpY_mine
  dsimp only
  have e2 : ¬ nI (min 2 (st b)) = 2 := fun z => by
    have := (nI_eq (a := min 2 (st b)) (b := 2) (by omega) (by decide)).mp z
    omega
  rw [qa_at _ (show b < 2 ^ 31 by omega)]
  exact qy_out0 (lo := 1) (hi := 23) (by omega) (by omega) (by decide) (br_t rfl (qy_out0 (lo := 1) (hi := 15) h1 h2 (by decide) (br_t rfl ⟨vp_in_nI hb (by decide), br_f e2 dr⟩)))
end
end
section
/-! questions, both sides -/
section
variable {f_submitted f_tipHeight f_poolSize f_sp f_failed : Int32} {a_inCount a_outCount a_sealed a_inFrom a_inWitness a_amounts a_locks a_parent a_work a_state a_order a_txCount a_txs a_height a_weight a_main a_unspent a_home a_before a_path a_pool a_poolBefore a_inPool a_poolSpends a_stack a_seenLock a_seenWitness a_seen : Nat → Int32}
variable {D : qd_T} {c : qc_T} {st : Nat → Nat}
theorem qx_c58 {post : Int32 → Prop} (h4 : ∀ b, st b ≤ 4) (K : post (nI (qa_c (fun b => decide (st b = 2)) 24))) : ∀ d i, i + d = 24 → ∀ n, d < n → wX_count_58 post f_submitted f_tipHeight f_poolSize f_sp f_failed a_inCount a_outCount a_sealed a_inFrom a_inWitness a_amounts a_locks a_parent a_work (qa_i st) a_order a_txCount a_txs a_height a_weight a_main a_unspent a_home a_before a_path a_pool a_poolBefore a_inPool a_poolSpends a_stack a_seenLock a_seenWitness a_seen n (nI (qa_c (fun b => decide (st b = 2)) i)) (nI i) := by
  intro d
  induction d with
  | zero =>
    intro i hi n hn
    obtain ⟨n, rfl⟩ : ∃ q, n = q + 1 := ⟨n - 1, by omega⟩
    have e : i = 24 := by omega
    subst e
    rw [wX_count_58]
    exact br_t (by decide) K
  | succ d ih =>
    intro i hi n hn
    obtain ⟨n, rfl⟩ : ∃ q, n = q + 1 := ⟨n - 1, by omega⟩
    have s := h4 i
    have e2 : nI (st i) = 2 ↔ st i = 2 := nI_eq (b := 2) (by omega) (by decide)
    have ih' := ih (i + 1) (by omega) n (by omega)
    have es : qa_c (fun b => decide (st b = 2)) (i + 1) = qa_c (fun b => decide (st b = 2)) i + (if decide (st i = 2) = true then 1 else 0) := rfl
    rw [es] at ih'
    rw [wX_count_58]
    dsimp only
    rw [qa_at st (show i < 2 ^ 31 by omega), nI_1, nI_1, e2]
    refine br_f (nI_ge (b := 24) (by omega) (by decide)) ⟨vp_in_nI (by omega) (by decide), br_c (fun q => nm_e (nm_e ?_)) (fun q => nm_e ?_)⟩
    · rw [decide_eq_true q] at ih'; exact ih'
    · rw [decide_eq_false q] at ih'; exact ih'
/-- the sum of what is unspent -/
def qk_f (D : qd_T) (c : qc_T) (o : Nat) : Int32 := if qc_un D c o = true then qd_am D o else 0
theorem qx_c92 {post : Int32 → Prop} (K : post (qa_s (qk_f D c) 112)) : ∀ d i, i + d = 112 → ∀ n, d < n → wX_count_92 post f_submitted f_tipHeight f_poolSize f_sp f_failed (qa_i (qd_ic D)) (qa_i (qd_ox D)) (qa_b (qd_se D)) (qa_i (qd_fr D)) (qd_wt D) (qd_am D) (qd_lk D) (qa_i (qd_pa D)) a_work a_state a_order (qa_i (qd_ct D)) (qa_i (qd_tx D)) (qa_i (qd_ht D)) a_weight a_main (qa_b (qc_un D c)) (qc_h c) a_before a_path a_pool a_poolBefore a_inPool a_poolSpends a_stack a_seenLock a_seenWitness a_seen n (qa_s (qk_f D c) i) (nI i) := by
  intro d
  induction d with
  | zero =>
    intro i hi n hn
    obtain ⟨n, rfl⟩ : ∃ q, n = q + 1 := ⟨n - 1, by omega⟩
    have e : i = 112 := by omega
    subst e
    rw [wX_count_92]
    exact br_t (by decide) K
  | succ d ih =>
    intro i hi n hn
    obtain ⟨n, rfl⟩ : ∃ q, n = q + 1 := ⟨n - 1, by omega⟩
    have ih' := ih (i + 1) (by omega) n (by omega)
    have es : qa_s (qk_f D c) (i + 1) = qa_s (qk_f D c) i + qk_f D c i := rfl
    rw [es] at ih'
    unfold qk_f at ih' ⊢
    rw [wX_count_92]
    dsimp only
    rw [qa_bt _ (show i < 2 ^ 31 by omega), nI_clamp (show i < 2 ^ 31 by omega), nI_1]
    refine br_f (nI_ge (b := 112) (by omega) (by decide)) ⟨vp_in_nI (by omega) (by decide), br_c (fun q => nm_e ?_) (fun q => ⟨vp_in_nI (by omega) (by decide), nm_e (nm_e ?_)⟩)⟩
    · rw [qa_Bz.mp q, if_neg (by decide), Int32.add_zero] at ih'; exact ih'
    · rw [qa_Bn.mp q, if_pos rfl] at ih'; exact ih'
end
section
variable {f_submitted f_length f_weight f_pooledCount f_tipBlock : Int32} {a_inputs a_inFrom a_inPlace a_witness a_outputs a_amount a_lock a_sealed a_state a_parent a_work a_count a_tx a_order a_path a_listed a_spent a_heightOf a_stack a_pool a_oldPool a_oldPath : Nat → Int32}
variable {D : qd_T} {c : qc_T} {ys wk wg od : Nat → Nat} {G : Nat → Prop}
theorem qy_isu {post : Int32 → Prop} {o : Nat} (W : qd_W D) (ho : o < 112) (K : post (qa_B (qc_un D c o))) : wpY_isUnspent post (f_submitted, f_length, f_weight, f_pooledCount, f_tipBlock, (qa_i (qd_ic D)), (qa_i (fun k => qd_fr D k / 2)), (qa_i (fun k => qd_fr D k % 2)), (qd_wt D), (qa_i (qd_oc D)), (qd_am D), (qd_lk D), (qa_b (qd_se D)), a_state, (qa_i (qd_pa D)), a_work, (qa_i (qd_ct D)), (qa_i (qd_tx D)), a_order, a_path, (qa_b c.1), (qa_b c.2.1), a_heightOf, a_stack, a_pool, a_oldPool, a_oldPath) (nI o) := by
  have e1 : nI o / 2 = nI (o / 2) := pk_div (d := 2) (by omega) (by decide) (by decide)
  have e2 : nI o - nI o / 2 * 2 = nI (o % 2) := pk_rem (d := 2) (by omega) (by decide) (by decide)
  have w := W.2.2.1 (o / 2)
  unfold wpY_isUnspent
  dsimp only
  rw [e2, e1, qa_bt _ (show o / 2 < 2 ^ 31 by omega), qa_at _ (show o / 2 < 2 ^ 31 by omega), qa_bt _ (show o < 2 ^ 31 by omega), nI_leI (by omega) (by omega)]
  unfold qc_un at K
  refine ⟨by decide, vp_in_nI (by omega) (by decide), br_c (fun q => ?_) (fun q => ⟨by decide, by decide, vp_in_nI (by omega) (by decide), br_c (fun p => ?_) (fun p => ⟨vp_in_nI ho (by decide), br_c (fun r => ?_) (fun r => ?_)⟩)⟩)⟩
  · rw [qa_Bz.mp q] at K; exact K
  · rw [qa_Bn.mp q, decide_eq_false (show ¬ o % 2 < qd_oc D (o / 2) by omega)] at K; exact K
  · rw [qa_Bn.mp q, decide_eq_true (show o % 2 < qd_oc D (o / 2) by omega), qa_Bz.mp r] at K; exact K
  · rw [qa_Bn.mp q, decide_eq_true (show o % 2 < qd_oc D (o / 2) by omega), qa_Bn.mp r] at K; exact K
theorem qy_c94 {post : Int32 → SY → Prop} (W : qd_W D) (K : post (qa_s (qk_f D c) 112) (f_submitted, f_length, f_weight, f_pooledCount, f_tipBlock, (qa_i (qd_ic D)), (qa_i (fun k => qd_fr D k / 2)), (qa_i (fun k => qd_fr D k % 2)), (qd_wt D), (qa_i (qd_oc D)), (qd_am D), (qd_lk D), (qa_b (qd_se D)), a_state, (qa_i (qd_pa D)), a_work, (qa_i (qd_ct D)), (qa_i (qd_tx D)), a_order, a_path, (qa_b c.1), (qa_b c.2.1), a_heightOf, a_stack, a_pool, a_oldPool, a_oldPath)) : ∀ d i, i + d = 112 → ∀ n, d < n → wY_count_94 post f_submitted f_length f_weight f_pooledCount f_tipBlock (qa_i (qd_ic D)) (qa_i (fun k => qd_fr D k / 2)) (qa_i (fun k => qd_fr D k % 2)) (qd_wt D) (qa_i (qd_oc D)) (qd_am D) (qd_lk D) (qa_b (qd_se D)) a_state (qa_i (qd_pa D)) a_work (qa_i (qd_ct D)) (qa_i (qd_tx D)) a_order a_path (qa_b c.1) (qa_b c.2.1) a_heightOf a_stack a_pool a_oldPool a_oldPath n (qa_s (qk_f D c) i) (nI i) := by
  intro d
  induction d with
  | zero =>
    intro i hi n hn
    obtain ⟨n, rfl⟩ : ∃ q, n = q + 1 := ⟨n - 1, by omega⟩
    have e : i = 112 := by omega
    subst e
    rw [wY_count_94]
    exact br_t (by decide) K
  | succ d ih =>
    intro i hi n hn
    obtain ⟨n, rfl⟩ : ∃ q, n = q + 1 := ⟨n - 1, by omega⟩
    have ih' := ih (i + 1) (by omega) n (by omega)
    have es : qa_s (qk_f D c) (i + 1) = qa_s (qk_f D c) i + qk_f D c i := rfl
    rw [es] at ih'
    unfold qk_f at ih' ⊢
    rw [wY_count_94]
    dsimp only
    rw [nI_1]
    refine br_f (nI_ge (b := 112) (by omega) (by decide)) (qy_isu W (by omega) ?_)
    rw [nI_clamp (show i < 2 ^ 31 by omega)]
    refine br_c (fun q => nm_e (nm_e ?_)) (fun q => ⟨vp_in_nI (by omega) (by decide), nm_e (nm_e ?_)⟩)
    · rw [qa_Bz.mp q, if_neg (by decide)] at ih'; exact ih'
    · rw [qa_Bn.mp q, if_pos rfl] at ih'; exact ih'
theorem qy_c9 {post : Int32 → SY → Prop} {st : Nat → Nat} (W : qd_W D) (V : qd_G D (fun b => 3 ≤ st b)) (T : qt_T D (fun b => min 2 (st b)) wk wg (fun b => 3 ≤ st b))
    (K : ∀ (len w : Int32) (pth : Nat → Int32), post (nI (qa_c (fun b => decide (st b = 2)) 24)) (f_submitted, len, w, f_pooledCount, f_tipBlock, (qa_i (qd_ic D)), (qa_i (fun k => qd_fr D k / 2)), (qa_i (fun k => qd_fr D k % 2)), (qd_wt D), (qa_i (qd_oc D)), (qd_am D), (qd_lk D), (qa_b (qd_se D)), (qa_i (fun b => min 2 (st b))), (qa_i (qd_pa D)), (qa_i wk), (qa_i (qd_ct D)), (qa_i (qd_tx D)), (qa_i od), pth, a_listed, a_spent, a_heightOf, a_stack, a_pool, a_oldPool, a_oldPath)) :
    ∀ d i (len w : Int32) (pth : Nat → Int32), i + d = 24 → ∀ n, d < n → wY_count_9 post n (nI (qa_c (fun b => decide (st b = 2)) i)) (nI i) f_submitted len w f_pooledCount f_tipBlock (qa_i (qd_ic D)) (qa_i (fun k => qd_fr D k / 2)) (qa_i (fun k => qd_fr D k % 2)) (qd_wt D) (qa_i (qd_oc D)) (qd_am D) (qd_lk D) (qa_b (qd_se D)) (qa_i (fun b => min 2 (st b))) (qa_i (qd_pa D)) (qa_i wk) (qa_i (qd_ct D)) (qa_i (qd_tx D)) (qa_i od) pth a_listed a_spent a_heightOf a_stack a_pool a_oldPool a_oldPath := by
  intro d
  induction d with
  | zero =>
    intro i len w pth hi n hn
    obtain ⟨n, rfl⟩ : ∃ q, n = q + 1 := ⟨n - 1, by omega⟩
    have e : i = 24 := by omega
    subst e
    rw [wY_count_9]
    exact br_t (by decide) (K _ _ _)
  | succ d ih =>
    intro i len w pth hi n hn
    obtain ⟨n, rfl⟩ : ∃ q, n = q + 1 := ⟨n - 1, by omega⟩
    have ih' := fun len w pth => ih (i + 1) len w pth (by omega) n (by omega)
    have es : qa_c (fun b => decide (st b = 2)) (i + 1) = qa_c (fun b => decide (st b = 2)) i + (if decide (st i = 2) = true then 1 else 0) := rfl
    rw [es] at ih'
    have e2 : nI (min 2 (st i)) = 2 ↔ min 2 (st i) = 2 := nI_eq (b := 2) (by omega) (by decide)
    rw [wY_count_9]
    dsimp only
    rw [qa_at _ (show i < 2 ^ 31 by omega), nI_1, nI_1, e2, Int32.add_zero]
    refine br_f (nI_ge (b := 24) (by omega) (by decide)) ⟨vp_in_nI (by omega) (by decide), br_c (fun q => ?_) (fun q => nm_e (nm_e ?_))⟩
    · by_cases g : 3 ≤ st i
      · have z : ¬ st i = 2 := by omega
        rw [decide_eq_false z] at ih'
        exact qy_chain W V T g (fun pth P => br_f (by decide) (nm_e (nm_e (ih' _ _ _))))
      · have z : st i = 2 := by omega
        rw [decide_eq_true z] at ih'
        exact qy_chain0 W T (by omega) g (fun len w pth => br_t rfl (nm_e (nm_e (ih' _ _ _))))
    · have z : ¬ st i = 2 := by omega
      rw [decide_eq_false z] at ih'
      exact ih' _ _ _
end
section
variable {D : qd_T} {c : qc_T} {sb th x : Nat} {st wk od wg mn : Nat → Nat} {P : qe_T} {ip psd : Nat → Bool} {sp fa : Int32} {stk sl sw sn : Nat → Int32} {bf pth pb : Nat → Int32} {len w : Int32} {lis spe : Nat → Bool} {hO opl opt : Nat → Int32}
/-- the reference after a replay of its tip's chain -/
theorem qy_rtF {post : SY → Prop} (F : qr_F sb th D st wk od wg mn c P ip psd) (TT : qy_T lis spe) (K : ∀ (pth hO stk : Nat → Int32), qy_H D c hO → qy_T c.1 c.2.1 → post (qr_y sb (mn th) D st wk od P (nI (th + 1)) (nI (wg (mn th))) pth c.1 c.2.1 hO stk opl opt)) : wpY_replayTip post (qr_y sb (mn th) D st wk od P len w pth lis spe hO stk opl opt) 0 := by
  obtain ⟨W, V, S, C, hP, X, T, B, O⟩ := F
  unfold qr_y
  refine qy_rt0 W V T C.1 TT C.2.2.2.2 (fun pth hO stk H => ?_)
  have M := (qc_mainR W V C.1 C.2.2.2.2).1
  rw [C.2.1]
  exact K pth hO stk H (qy_T_I V M)
theorem qx_at_v {post : Int32 → Prop} {v : Int32} (F : qr_F sb th D st wk od wg mn c P ip psd) (f : ∀ i, i ≤ th → v = nI i → post (nI (mn i))) (g : (¬ ∃ i, i ≤ th ∧ v = nI i) → post (-1)) : wpX_at post (qr_x sb th D st wk od wg mn c P ip psd sp fa stk sl sw sn bf pth pb) v := by
  have hth : th < 24 := by have := F.1.2.2.2.2.2.2.2.2.2 (mn th); rw [F.2.2.2.1.2.1] at this; omega
  unfold qr_x wpX_at
  dsimp only
  refine br_c (fun q => g ?_) (fun q => ?_)
  · rintro ⟨i, hi, rfl⟩; exact nI_pos (by omega) q
  · obtain ⟨i, hi, rfl⟩ := nI_of q
    rw [nI_leI hi (by omega), qa_at mn hi]
    refine br_c (fun p => ⟨vp_in_nI (by omega) (by decide), f i p rfl⟩) (fun p => g ?_)
    rintro ⟨j, hj, e⟩
    exact p (by have := (nI_eq hi (by omega)).mp e; omega)
theorem qy_at_v {post : Int32 → SY → Prop} {v : Int32} (F : qr_F sb th D st wk od wg mn c P ip psd) (f : ∀ i (len w : Int32) (pth : Nat → Int32), i ≤ th → v = nI i → post (nI (mn i)) (qr_y sb (mn th) D st wk od P len w pth lis spe hO stk opl opt)) (g : ∀ (len w : Int32) (pth : Nat → Int32), (¬ ∃ i, i ≤ th ∧ v = nI i) → post (-1) (qr_y sb (mn th) D st wk od P len w pth lis spe hO stk opl opt)) : wpY_at post (qr_y sb (mn th) D st wk od P len w pth lis spe hO stk opl opt) v := by
  obtain ⟨W, V, S, C, hP, X, T, B, O⟩ := F
  have hth : th < 24 := by have := W.2.2.2.2.2.2.2.2.2 (mn th); rw [C.2.1] at this; omega
  unfold qr_y wpY_at
  dsimp only
  refine qy_chain W V T C.1 (fun pth P => ?_)
  have e1 : nI (qd_ht D (mn th) + 1) - 1 = nI th := by rw [C.2.1]; exact nI_pred _
  dsimp only
  rw [e1]
  refine qy_oc 0 th (by omega) (by omega) (fun i _ hi e => br_t rfl ?_) (fun z => br_f (by decide) (g _ _ _ (fun ⟨i, hi, e⟩ => z ⟨i, Nat.zero_le _, hi, e⟩)))
  rw [e, nI_clamp (by omega), P i (by rw [C.2.1]; exact hi), ← C.2.2.1 i hi]
  exact ⟨vp_in_nI (by omega) (by decide), f i _ _ _ hi e⟩
theorem qx_po_v {post : Int32 → Prop} {v : Int32} (h8 : P.1 ≤ 8) (f : ∀ i, i < P.1 → v = nI i → post (nI (P.2.1 i))) (g : (¬ ∃ i, i < P.1 ∧ v = nI i) → post (-1)) : wpX_pooled post (qr_x sb th D st wk od wg mn c P ip psd sp fa stk sl sw sn bf pth pb) v := by
  unfold qr_x wpX_pooled
  dsimp only
  refine br_c (fun q => g ?_) (fun q => ?_)
  · rintro ⟨i, hi, rfl⟩; exact nI_pos (by omega) q
  · obtain ⟨i, hi, rfl⟩ := nI_of q
    rw [nI_ltI hi (by omega), qa_at P.2.1 hi]
    refine br_c (fun p => ⟨vp_in_nI (by omega) (by decide), f i p rfl⟩) (fun p => g ?_)
    rintro ⟨j, hj, e⟩
    exact p (by have := (nI_eq hi (by omega)).mp e; omega)
theorem qy_po_v {post : Int32 → Prop} {v : Int32} (h8 : P.1 ≤ 8) (f : ∀ i, i < P.1 → v = nI i → post (nI (P.2.1 i))) (g : (¬ ∃ i, i < P.1 ∧ v = nI i) → post (-1)) : wpY_pooled post (qr_y sb (mn th) D st wk od P len w pth lis spe hO stk opl opt) v := by
  unfold qr_y wpY_pooled
  dsimp only
  unfold wpY_out
  refine br_c (fun q => br_f (by decide) (g ?_)) (fun q => ?_)
  · rintro ⟨i, hi, rfl⟩; exact nI_pos (by omega) q
  · obtain ⟨i, hi, rfl⟩ := nI_of q
    have key : nI i ≤ nI P.1 - 1 ↔ i < P.1 := by
      by_cases z : P.1 = 0
      · rw [z]
        refine ⟨fun h => absurd (Int32.le_trans (nI_pos' hi) h) (by decide), fun h => by omega⟩
      · have e : nI P.1 - 1 = nI (P.1 - 1) := pk_sub (b := 1) (by omega)
        rw [e, nI_leI hi (by omega)]
        omega
    rw [key, qa_at P.2.1 hi]
    refine br_c (fun p => br_t rfl ⟨vp_in_nI (by omega) (by decide), f i p rfl⟩) (fun p => br_f (by decide) (g ?_))
    rintro ⟨j, hj, e⟩
    exact p (by have := (nI_eq hi (by omega)).mp e; omega)
theorem qx_us_v {post : Int32 → Prop} {v1 v2 : Int32} (f : ∀ t p, t ≤ 55 → v1 = nI t → p < 2 → v2 = nI p → post (qk_f D c (2 * t + p))) (g : (¬ ∃ t p, t ≤ 55 ∧ v1 = nI t ∧ p < 2 ∧ v2 = nI p) → post (-1)) : wpX_unspent post (qr_x sb th D st wk od wg mn c P ip psd sp fa stk sl sw sn bf pth pb) v1 v2 := by
  unfold qr_x wpX_unspent
  dsimp only
  refine br_c (fun q => g ?_) (fun q1 => br_c (fun q => g ?_) (fun q2 => br_c (fun q3 => ?_) (fun q => g ?_)))
  · rintro ⟨t, p, ht, rfl, _⟩; exact nI_pos (by omega) q
  · rintro ⟨t, p, ht, rfl, _⟩; exact nI_nlt (b := t) (a := 55) ht (by decide) q
  · obtain ⟨t, ht, e1⟩ := qa_rg (M := 55) (n := 55) (by decide) q1 q2
    obtain ⟨p, hp, e2⟩ := (qa_pl v2).mp q3
    have ff := f t p ht e1 hp e2
    unfold qk_f at ff
    rw [e1, e2, qa_2]
    refine nm_e ?_
    rw [qa_bt _ (show 2 * t + p < 2 ^ 31 by omega), nI_clamp (show 2 * t + p < 2 ^ 31 by omega)]
    refine ⟨vp_in_nI (by omega) (by decide), br_c (fun z => ?_) (fun z => ⟨vp_in_nI (by omega) (by decide), ?_⟩)⟩
    · rw [qa_Bz.mp z] at ff; exact ff
    · rw [qa_Bn.mp z] at ff; exact ff
  · rintro ⟨t, p, ht, _, hp, e⟩; exact q ((qa_pl v2).mpr ⟨p, hp, e⟩)
theorem qy_us_v {post : Int32 → SY → Prop} {v1 v2 : Int32} (F : qr_F sb th D st wk od wg mn c P ip psd) (TT : qy_T lis spe) (f : ∀ t p (len w : Int32) (pth : Nat → Int32) (lis spe : Nat → Bool) (hO stk : Nat → Int32), qy_T lis spe → t ≤ 55 → v1 = nI t → p < 2 → v2 = nI p → post (qk_f D c (2 * t + p)) (qr_y sb (mn th) D st wk od P len w pth lis spe hO stk opl opt)) (g : (¬ ∃ t p, t ≤ 55 ∧ v1 = nI t ∧ p < 2 ∧ v2 = nI p) → post (-1) (qr_y sb (mn th) D st wk od P len w pth lis spe hO stk opl opt)) : wpY_unspent post (qr_y sb (mn th) D st wk od P len w pth lis spe hO stk opl opt) v1 v2 := by
  have W := F.1
  have rt : ∀ t p, t ≤ 55 → v1 = nI t → p < 2 → v2 = nI p → wpY_replayTip (fun u => match u with | (f_submitted, f_length, f_weight, f_pooledCount, f_tipBlock, a_inputs, a_inFrom, a_inPlace, a_witness, a_outputs, a_amount, a_lock, a_sealed, a_state, a_parent, a_work, a_count, a_tx, a_order, a_path, a_listed, a_spent, a_heightOf, a_stack, a_pool, a_oldPool, a_oldPath) => (wpY_isUnspent (fun r_33 => (((r_33 = 0 → (post 0 (f_submitted, f_length, f_weight, f_pooledCount, f_tipBlock, a_inputs, a_inFrom, a_inPlace, a_witness, a_outputs, a_amount, a_lock, a_sealed, a_state, a_parent, a_work, a_count, a_tx, a_order, a_path, a_listed, a_spent, a_heightOf, a_stack, a_pool, a_oldPool, a_oldPath))) ∧ (¬ r_33 = 0 → (vp_in ((2 * v1) + v2) 112 ∧ (post (a_amount ((2 * v1) + v2).toNatClampNeg) (f_submitted, f_length, f_weight, f_pooledCount, f_tipBlock, a_inputs, a_inFrom, a_inPlace, a_witness, a_outputs, a_amount, a_lock, a_sealed, a_state, a_parent, a_work, a_count, a_tx, a_order, a_path, a_listed, a_spent, a_heightOf, a_stack, a_pool, a_oldPool, a_oldPath))))))) (f_submitted, f_length, f_weight, f_pooledCount, f_tipBlock, a_inputs, a_inFrom, a_inPlace, a_witness, a_outputs, a_amount, a_lock, a_sealed, a_state, a_parent, a_work, a_count, a_tx, a_order, a_path, a_listed, a_spent, a_heightOf, a_stack, a_pool, a_oldPool, a_oldPath) ((2 * v1) + v2))) (qr_y sb (mn th) D st wk od P len w pth lis spe hO stk opl opt) 0 := by
    intro t p ht e1 hp e2
    refine qy_rtF F TT (fun pth hO stk H T' => ?_)
    have ff := f t p (nI (th + 1)) (nI (wg (mn th))) pth c.1 c.2.1 hO stk T' ht e1 hp e2
    unfold qk_f at ff
    unfold qr_y
    dsimp only
    rw [e1, e2, qa_2']
    refine qy_isu W (by omega) ?_
    rw [nI_clamp (show 2 * t + p < 2 ^ 31 by omega)]
    refine br_c (fun z => ?_) (fun z => ⟨vp_in_nI (by omega) (by decide), ?_⟩)
    · rw [qa_Bz.mp z] at ff; exact ff
    · rw [qa_Bn.mp z] at ff; exact ff
  unfold qr_y at rt
  unfold qr_y wpY_unspent
  dsimp only
  refine qy_oc 0 55 (by decide) (by decide) (fun t _ ht e => br_t rfl (qy_oc 0 1 (by decide) (by decide) (fun p _ hp e2 => br_t rfl ?_) (fun z => br_f (by decide) (g ?_)))) (fun z => br_f (by decide) (g ?_))
  · exact rt t p ht e (by omega) e2
  · rintro ⟨t, p, ht, _, hp, e⟩; exact z ⟨p, Nat.zero_le _, by omega, e⟩
  · rintro ⟨t, p, ht, e, _⟩; exact z ⟨t, Nat.zero_le _, ht, e⟩
/-- the depth of a transaction -/
def qk_d (D : qd_T) (c : qc_T) (th t : Nat) : Int32 := if c.1 t = true then nI th - nI (qd_ht D (c.2.2 t)) + 1 else 0
theorem qx_de_v {post : Int32 → Prop} {v : Int32} (F : qr_F sb th D st wk od wg mn c P ip psd) (f : ∀ t, t ≤ 55 → v = nI t → post (qk_d D c th t)) (g : (¬ ∃ t, t ≤ 55 ∧ v = nI t) → post (-1)) : wpX_depth post (qr_x sb th D st wk od wg mn c P ip psd sp fa stk sl sw sn bf pth pb) v := by
  obtain ⟨W, V, S, C, hP, X, T, B, O⟩ := F
  have M := (qc_mainR W V C.1 C.2.2.2.2).2.1.2
  unfold qr_x wpX_depth
  dsimp only
  refine br_c (fun q => g ?_) (fun q => ?_)
  · rintro ⟨t, ht, rfl⟩; exact nI_pos (by omega) q
  · obtain ⟨t, ht, rfl⟩ := nI_of q
    have e55 : nI t ≤ 55 ↔ t ≤ 55 := nI_leI (b := 55) ht (by decide)
    rw [e55, nI_clamp ht]
    refine br_c (fun p => ⟨vp_in_nI (by omega) (by decide), nm_e ?_⟩) (fun p => g ?_)
    · have ff := f t p rfl
      unfold qk_d at ff
      rw [qc_h_pos (fun t h => by have := M t h; omega) (by omega)]
      refine br_c (fun z => ?_) (fun z => ?_)
      · have b24 := M t z
        have eh : qc_h c t = nI (c.2.2 t) := by unfold qc_h; rw [z]; rfl
        rw [eh, qa_at _ (show c.2.2 t < 2 ^ 31 by omega)]
        rw [if_pos z] at ff
        exact ⟨vp_in_nI b24 (by decide), ff⟩
      · rw [if_neg z] at ff; exact ff
    · rintro ⟨j, hj, e⟩
      exact p (by have := (nI_eq ht (by omega)).mp e; omega)
theorem qy_de_v {post : Int32 → SY → Prop} {v : Int32} (F : qr_F sb th D st wk od wg mn c P ip psd) (TT : qy_T lis spe) (f : ∀ t (len w : Int32) (pth : Nat → Int32) (lis spe : Nat → Bool) (hO stk : Nat → Int32), qy_T lis spe → t ≤ 55 → v = nI t → post (qk_d D c th t) (qr_y sb (mn th) D st wk od P len w pth lis spe hO stk opl opt)) (g : (¬ ∃ t, t ≤ 55 ∧ v = nI t) → post (-1) (qr_y sb (mn th) D st wk od P len w pth lis spe hO stk opl opt)) : wpY_depth post (qr_y sb (mn th) D st wk od P len w pth lis spe hO stk opl opt) v := by
  have M := (qc_mainR F.1 F.2.1 F.2.2.2.1.1 F.2.2.2.1.2.2.2.2).2.1.2
  have rt : ∀ t, t ≤ 55 → v = nI t → wpY_replayTip (fun u => match u with | (f_submitted, f_length, f_weight, f_pooledCount, f_tipBlock, a_inputs, a_inFrom, a_inPlace, a_witness, a_outputs, a_amount, a_lock, a_sealed, a_state, a_parent, a_work, a_count, a_tx, a_order, a_path, a_listed, a_spent, a_heightOf, a_stack, a_pool, a_oldPool, a_oldPath) => (vp_in v 56 ∧ ((((a_listed v.toNatClampNeg) = 0 → (post 0 (f_submitted, f_length, f_weight, f_pooledCount, f_tipBlock, a_inputs, a_inFrom, a_inPlace, a_witness, a_outputs, a_amount, a_lock, a_sealed, a_state, a_parent, a_work, a_count, a_tx, a_order, a_path, a_listed, a_spent, a_heightOf, a_stack, a_pool, a_oldPool, a_oldPath))) ∧ (¬ (a_listed v.toNatClampNeg) = 0 → (vp_in v 56 ∧ (post (((f_length - 1) - (a_heightOf v.toNatClampNeg)) + 1) (f_submitted, f_length, f_weight, f_pooledCount, f_tipBlock, a_inputs, a_inFrom, a_inPlace, a_witness, a_outputs, a_amount, a_lock, a_sealed, a_state, a_parent, a_work, a_count, a_tx, a_order, a_path, a_listed, a_spent, a_heightOf, a_stack, a_pool, a_oldPool, a_oldPath)))))))) (qr_y sb (mn th) D st wk od P len w pth lis spe hO stk opl opt) 0 := by
    intro t ht e1
    refine qy_rtF F TT (fun pth hO stk H T' => ?_)
    have ff := f t (nI (th + 1)) (nI (wg (mn th))) pth c.1 c.2.1 hO stk T' ht e1
    have e0 : nI (th + 1) - 1 = nI th := nI_pred _
    unfold qk_d at ff
    unfold qr_y
    dsimp only
    rw [e1, qa_bt _ (show t < 2 ^ 31 by omega), nI_clamp (show t < 2 ^ 31 by omega), e0]
    refine ⟨vp_in_nI (by omega) (by decide), br_c (fun z => ?_) (fun z => ⟨vp_in_nI (by omega) (by decide), ?_⟩)⟩
    · rw [qa_Bz.mp z] at ff; exact ff
    · rw [qa_Bn.mp z, if_pos rfl, ← H.2 t (qa_Bn.mp z) (M t (qa_Bn.mp z))] at ff; exact ff
  unfold qr_y at rt
  unfold qr_y wpY_depth
  dsimp only
  refine qy_oc 0 55 (by decide) (by decide) (fun t _ ht e => br_t rfl (rt t ht e)) (fun z => br_f (by decide) (g ?_))
  rintro ⟨t, ht, e⟩; exact z ⟨t, Nat.zero_le _, ht, e⟩
/-- counts -/
def qk_n (D : qd_T) (c : qc_T) (st wg : Nat → Nat) (th tip ps : Nat) (v : Int32) : Int32 := if v = 0 then nI th else if v = 1 then nI (wg tip) else if v = 2 then nI (qa_c (fun b => decide (st b = 2)) 24) else if v = 3 then nI ps else if v = 4 then qa_s (qk_f D c) 112 else -1
theorem qk_c1 (F : qr_F sb th D st wk od wg mn c P ip psd) : qa_c (fun b => decide (st b = 2)) 1 = 0 := by
  have := qt_s0 F.1 F.2.1 F.2.2.1
  show 0 + (if decide (st 0 = 2) = true then 1 else 0) = 0
  rw [this]; rfl
theorem qx_cn_v {post : Int32 → Prop} {v : Int32} (F : qr_F sb th D st wk od wg mn c P ip psd) (f : post (qk_n D c st wg th (mn th) P.1 v)) : wpX_count post (qr_x sb th D st wk od wg mn c P ip psd sp fa stk sl sw sn bf pth pb) v := by
  have m24 := F.2.2.2.1.2.2.2.1 th
  have hth : th < 24 := by have := F.1.2.2.2.2.2.2.2.2.2 (mn th); rw [F.2.2.2.1.2.1] at this; omega
  have k1 := qk_c1 F
  unfold qk_n at f
  unfold qr_x wpX_count
  dsimp only
  refine br_c (fun q => ?_) (fun q1 => br_c (fun q => ?_) (fun q2 => ?_))
  · rw [if_neg (fun z => by subst z; revert q; decide), if_neg (fun z => by subst z; revert q; decide), if_neg (fun z => by subst z; revert q; decide), if_neg (fun z => by subst z; revert q; decide), if_neg (fun z => by subst z; revert q; decide)] at f
    exact f
  · rw [if_neg (fun z => by subst z; revert q; decide), if_neg (fun z => by subst z; revert q; decide), if_neg (fun z => by subst z; revert q; decide), if_neg (fun z => by subst z; revert q; decide), if_neg (fun z => by subst z; revert q; decide)] at f
    exact f
  · rw [qa_at mn (show th < 2 ^ 31 by omega), qa_at wg (show mn th < 2 ^ 31 by omega)]
    refine br_c (fun z => ?_) (fun z0 => br_c (fun z => ⟨vp_in_nI hth (by decide), vp_in_nI m24 (by decide), ?_⟩) (fun z1 => br_c (fun z => ⟨24, ?_⟩) (fun z2 => br_c (fun z => ?_) (fun z3 => br_c (fun z => ⟨113, ?_⟩) (fun _ => True.intro)))))
    · rw [if_pos z] at f; exact f
    · rw [if_neg z0, if_pos z] at f; exact f
    · rw [if_neg z0, if_neg z1, if_pos z] at f
      have := qx_c58 (f_submitted := nI sb) (f_tipHeight := nI th) (f_poolSize := nI P.1) (f_sp := sp) (f_failed := fa) (a_inCount := qa_i (qd_ic D)) (a_outCount := qa_i (qd_ox D)) (a_sealed := qa_b (qd_se D)) (a_inFrom := qa_i (qd_fr D)) (a_inWitness := qd_wt D) (a_amounts := qd_am D) (a_locks := qd_lk D) (a_parent := qa_i (qd_pa D)) (a_work := qa_i wk) (a_order := qa_i od) (a_txCount := qa_i (qd_ct D)) (a_txs := qa_i (qd_tx D)) (a_height := qa_i (qd_ht D)) (a_weight := qa_i wg) (a_main := qa_i mn) (a_unspent := qa_b (qc_un D c)) (a_home := qc_h c) (a_before := bf) (a_path := pth) (a_pool := qa_i P.2.1) (a_poolBefore := pb) (a_inPool := qa_b ip) (a_poolSpends := qa_b psd) (a_stack := stk) (a_seenLock := sl) (a_seenWitness := sw) (a_seen := sn) F.2.2.1.2.1 f 23 1 rfl 24 (by decide)
      rw [k1] at this
      exact this
    · rw [if_neg z0, if_neg z1, if_neg z2, if_pos z] at f; exact f
    · rw [if_neg z0, if_neg z1, if_neg z2, if_neg z3, if_pos z] at f
      exact qx_c92 f 112 0 rfl 113 (by decide)
theorem qy_cn_v {post : Int32 → SY → Prop} {v : Int32} (F : qr_F sb th D st wk od wg mn c P ip psd) (TT : qy_T lis spe) (f : ∀ (len w : Int32) (pth : Nat → Int32) (lis spe : Nat → Bool) (hO stk : Nat → Int32), qy_T lis spe → post (qk_n D c st wg th (mn th) P.1 v) (qr_y sb (mn th) D st wk od P len w pth lis spe hO stk opl opt)) : wpY_count post (qr_y sb (mn th) D st wk od P len w pth lis spe hO stk opl opt) v := by
  have W := F.1
  unfold qk_n at f
  have rt : ¬ v = 2 → ¬ v = 3 → wpY_replayTip (fun u => match u with | (f_submitted, f_length, f_weight, f_pooledCount, f_tipBlock, a_inputs, a_inFrom, a_inPlace, a_witness, a_outputs, a_amount, a_lock, a_sealed, a_state, a_parent, a_work, a_count, a_tx, a_order, a_path, a_listed, a_spent, a_heightOf, a_stack, a_pool, a_oldPool, a_oldPath) => (((v = 0 → (post (f_length - 1) (f_submitted, f_length, f_weight, f_pooledCount, f_tipBlock, a_inputs, a_inFrom, a_inPlace, a_witness, a_outputs, a_amount, a_lock, a_sealed, a_state, a_parent, a_work, a_count, a_tx, a_order, a_path, a_listed, a_spent, a_heightOf, a_stack, a_pool, a_oldPool, a_oldPath))) ∧ (¬ v = 0 → (((v = 1 → (post f_weight (f_submitted, f_length, f_weight, f_pooledCount, f_tipBlock, a_inputs, a_inFrom, a_inPlace, a_witness, a_outputs, a_amount, a_lock, a_sealed, a_state, a_parent, a_work, a_count, a_tx, a_order, a_path, a_listed, a_spent, a_heightOf, a_stack, a_pool, a_oldPool, a_oldPath))) ∧ (¬ v = 1 → (((v = 4 → (∃ n94 : Nat, wY_count_94 post f_submitted f_length f_weight f_pooledCount f_tipBlock a_inputs a_inFrom a_inPlace a_witness a_outputs a_amount a_lock a_sealed a_state a_parent a_work a_count a_tx a_order a_path a_listed a_spent a_heightOf a_stack a_pool a_oldPool a_oldPath n94 0 0)) ∧ (¬ v = 4 → (post (-1) (f_submitted, f_length, f_weight, f_pooledCount, f_tipBlock, a_inputs, a_inFrom, a_inPlace, a_witness, a_outputs, a_amount, a_lock, a_sealed, a_state, a_parent, a_work, a_count, a_tx, a_order, a_path, a_listed, a_spent, a_heightOf, a_stack, a_pool, a_oldPool, a_oldPath)))))))))))) (qr_y sb (mn th) D st wk od P len w pth lis spe hO stk opl opt) 0 := by
    intro n2 n3
    refine qy_rtF F TT (fun pth hO stk H T' => ?_)
    have ff := f (nI (th + 1)) (nI (wg (mn th))) pth c.1 c.2.1 hO stk T'
    rw [if_neg n2, if_neg n3] at ff
    have e0 : nI (th + 1) - 1 = nI th := nI_pred _
    unfold qr_y
    dsimp only
    rw [e0]
    refine br_c (fun z => ?_) (fun z0 => br_c (fun z => ?_) (fun z1 => br_c (fun z => ⟨113, ?_⟩) (fun z4 => ?_)))
    · rw [if_pos z] at ff; exact ff
    · rw [if_neg z0, if_pos z] at ff; exact ff
    · rw [if_neg z0, if_neg z1, if_pos z] at ff
      exact qy_c94 W ff 112 0 rfl 113 (by decide)
    · rw [if_neg z0, if_neg z1, if_neg z4] at ff; exact ff
  unfold qr_y at rt
  unfold qr_y wpY_count
  dsimp only
  refine br_c (fun z => ⟨25, ?_⟩) (fun n2 => br_c (fun z => ?_) (fun n3 => rt n2 n3))
  · subst z
    refine qy_c9 (wg := wg) W F.2.1 F.2.2.2.2.2.2.1 (fun len w pth => ?_) 24 0 _ _ _ rfl 25 (by decide)
    exact f len w pth lis spe hO stk TT
  · subst z
    exact f len w pth lis spe hO stk TT
end
end
section
/-! the relation's form; the start -/
def i_Rel (k : Nat) (u : SX) (v : SY) : Prop := ∃ (sb th : Nat) (D : qd_T) (st wk od wg mn : Nat → Nat) (c : qc_T) (P : qe_T) (ip psd : Nat → Bool), qr_F sb th D st wk od wg mn c P ip psd ∧ (∃ (sp fa : Int32) (stk sl sw sn : Nat → Int32) (bf pth pb : Nat → Int32), qx_C sl sw sn ∧ u = qr_x sb th D st wk od wg mn c P ip psd sp fa stk sl sw sn bf pth pb) ∧ (∃ (len w : Int32) (pth : Nat → Int32) (lis spe : Nat → Bool) (hO stk opl opt : Nat → Int32), qy_T lis spe ∧ v = qr_y sb (mn th) D st wk od P len w pth lis spe hO stk opl opt)
theorem i_up {k : Nat} {u : SX} {v : SY} (h : i_Rel k u v) : i_Rel (k + 5) u v := h
theorem qr_i {k sb th : Nat} {D : qd_T} {st wk od wg mn : Nat → Nat} {c : qc_T} {P : qe_T} {ip psd : Nat → Bool} {sp fa : Int32} {stk sl sw sn : Nat → Int32} {bf pth pb : Nat → Int32} {len w : Int32} {pth2 : Nat → Int32} {lis spe : Nat → Bool} {hO stk2 opl opt : Nat → Int32} (F : qr_F sb th D st wk od wg mn c P ip psd) (CC : qx_C sl sw sn) (TT : qy_T lis spe) : i_Rel k (qr_x sb th D st wk od wg mn c P ip psd sp fa stk sl sw sn bf pth pb) (qr_y sb (mn th) D st wk od P len w pth2 lis spe hO stk2 opl opt) :=
  ⟨sb, th, D, st, wk, od, wg, mn, c, P, ip, psd, F, ⟨sp, fa, stk, sl, sw, sn, bf, pth, pb, CC, rfl⟩, ⟨len, w, pth2, lis, spe, hO, stk2, opl, opt, TT, rfl⟩⟩
theorem qr_e {k : Nat} {u : SX} {v : SY} {Q : SX → SY → Prop} (I : i_Rel k u v) (h : ∀ (sb th : Nat) (D : qd_T) (st wk od wg mn : Nat → Nat) (c : qc_T) (P : qe_T) (ip psd : Nat → Bool) (sp fa : Int32) (stk sl sw sn : Nat → Int32) (bf pth pb : Nat → Int32) (len w : Int32) (pth2 : Nat → Int32) (lis spe : Nat → Bool) (hO stk2 opl opt : Nat → Int32), qr_F sb th D st wk od wg mn c P ip psd → qx_C sl sw sn → qy_T lis spe → Q (qr_x sb th D st wk od wg mn c P ip psd sp fa stk sl sw sn bf pth pb) (qr_y sb (mn th) D st wk od P len w pth2 lis spe hO stk2 opl opt)) : Q u v := by
  obtain ⟨sb, th, D, st, wk, od, wg, mn, c, P, ip, psd, F, ⟨sp, fa, stk, sl, sw, sn, bf, pth, pb, CC, rfl⟩, ⟨len, w, pth2, lis, spe, hO, stk2, opl, opt, TT, rfl⟩⟩ := I
  exact h sb th D st wk od wg mn c P ip psd sp fa stk sl sw sn bf pth pb len w pth2 lis spe hO stk2 opl opt F CC TT
def qi_D : qd_T := ((fun _ => 0), qa_u (fun _ => 0) 32 1, (fun _ => false), (fun _ => 0), (fun _ => 0), upd (fun _ => 0) 64 50, upd (fun _ => 0) 64 1, (fun _ => 0), (fun _ => 0), (fun _ => 0), (fun _ => 0))
def qi_s : Nat → Nat := qa_u (fun _ => 0) 0 3
def qi_c : qc_T := qc_l qi_D qc_e 32 0
theorem qi_s3 {b : Nat} (h : 3 ≤ qi_s b) : b = 0 := by
  by_cases z : b = 0
  · exact z
  · unfold qi_s at h; rw [qa_un z] at h; omega
theorem qi_sn {b : Nat} (h : b ≠ 0) : qi_s b = 0 := qa_un h
theorem qi_W : qd_W qi_D := by
  refine ⟨fun _ => Nat.zero_le _, fun _ _ => rfl, fun t => ?_, fun _ => ?_, fun o => ?_, fun o ho => ?_, fun _ => Nat.zero_le _, fun _ => ?_, fun _ => ?_, fun _ => Nat.zero_le _⟩
  · show qa_u (fun _ => 0) 32 1 t ≤ 2
    by_cases z : t = 32
    · rw [z, qa_us]; omega
    · rw [qa_un z]; omega
  · show 0 < 112; decide
  · show 0 ≤ (upd (fun _ => 0) 64 50 o).toInt
    by_cases z : o = 64
    · rw [z, pk_us]; decide
    · rw [pk_un z]; decide
  · show (upd (fun _ => 0) 64 50 o).toInt ≤ 1000
    rw [pk_un (by omega)]; decide
  · show 0 < 32; decide
  · show 0 < 24; decide
theorem qi_G : qd_G qi_D (fun b => 3 ≤ qi_s b) := by
  refine ⟨fun b h => ?_, fun b h b0 => absurd (qi_s3 h) b0, ⟨?_, rfl⟩, fun b h i hi => ?_, fun b h => ?_, rfl, ?_⟩
  · rw [qi_s3 h]; decide
  · show 3 ≤ qi_s 0; decide
  · exact absurd hi (Nat.not_lt_zero _)
  · rw [qi_s3 h]; rfl
  · show upd (fun _ => 0) 64 50 64 = 50; exact pk_us
theorem qi_R : qc_R qi_D 0 = some qi_c := by
  have e : qc_r qi_D (qc_g qi_D 0) (qd_ht qi_D 0) 0 qc_e (qd_ct qi_D 0) = some qc_e := rfl
  have h : qd_am qi_D (64 + 2 * 0) ≤ 50 + qc_fe qi_D (qc_g qi_D 0) (qd_ct qi_D 0) := by
    show upd (fun _ => 0) 64 50 64 ≤ (50 + 0 : Int32)
    rw [pk_us]; decide
  exact qc_bl_s e h
theorem qi_F : qr_F 0 0 qi_D qi_s (fun _ => 0) (fun _ => 0) (fun _ => 0) (fun _ => 0) qi_c (0, (fun _ => 0), qi_c) (fun _ => false) (fun _ => false) := by
  have s0 : qi_s 0 = 3 := rfl
  refine ⟨qi_W, qi_G, ⟨fun _ => Iff.rfl, fun b => ?_, fun b h => ?_, fun b h b0 _ => absurd (qi_s3 h) b0, fun _ _ => rfl⟩, ⟨qi_G.2.2.1.1, rfl, fun i hi => ?_, fun _ => (show 0 < 24 by decide), qi_R⟩, ⟨rfl, Nat.zero_le 8, fun _ => (show 0 < 32 by decide)⟩, ⟨fun t => by simp, fun o => by simp, fun t h => by cases h⟩, ⟨fun b h => ?_, fun b hb g h => ?_, fun b h b0 => absurd (qi_s3 h) b0, ⟨rfl, rfl⟩, fun _ => (show 0 ≤ 345 by decide), fun b => Nat.min_le_left _ _⟩, ⟨by decide, s0, fun b hb h z => ?_⟩, fun _ => Nat.le_refl 0, fun a b ha hb _ => ?_, by decide, fun b h => ?_, fun _ => (show 0 ≤ 15 by decide), fun b i hi => absurd hi (Nat.not_lt_zero _), fun b h => ?_, fun b h => qi_sn (by omega), fun _ _ => rfl⟩
  · by_cases z : b = 0
    · subst z; rw [s0]; decide
    · rw [qi_sn z]; decide
  · by_cases z : b = 0
    · subst z; rw [s0] at h; cases h
    · rw [qi_sn z] at h; cases h
  · have : i = 0 := by omega
    subst this; rfl
  · have h' : 3 ≤ qi_s b := h
    show min 2 (qi_s b) = 2
    omega
  · have h' : min 2 (qi_s b) = 2 := h
    have g' : ¬ 3 ≤ qi_s b := g
    by_cases z : b = 0
    · subst z; exact absurd (show 3 ≤ qi_s 0 by decide) g'
    · rw [qi_sn z] at h'; cases h'
  · rcases z with z | z
    · exact absurd (show 0 < 0 from z) (by decide)
    · exact absurd (show 0 < 0 from z.2) (by decide)
  · have a0 : a = 0 := by
      by_cases z : a = 0
      · exact z
      · rw [qi_sn z] at ha; omega
    have b0 : b = 0 := by
      by_cases z : b = 0
      · exact z
      · rw [qi_sn z] at hb; omega
    rw [a0, b0]
  · rw [qi_s3 h]
    exact ⟨by decide, by decide⟩
  · have b0 : b = 0 := by
      by_cases z : b = 0
      · exact z
      · rw [qi_sn z] at h; omega
    rw [b0]; rfl
section
variable {f_submitted f_tipHeight f_poolSize f_sp f_failed : Int32} {a_inCount a_outCount a_sealed a_inFrom a_inWitness a_amounts a_locks a_parent a_work a_state a_order a_txCount a_txs a_height a_weight a_main a_unspent a_home a_before a_path a_pool a_poolBefore a_inPool a_poolSpends a_stack a_seenLock a_seenWitness a_seen : Nat → Int32}
theorem qi_l {post : SX → Prop} (K : post (f_submitted, f_tipHeight, f_poolSize, f_sp, f_failed, a_inCount, a_outCount, a_sealed, a_inFrom, a_inWitness, (upd a_amounts 64 50), (upd a_locks 64 1), a_parent, a_work, a_state, a_order, a_txCount, a_txs, a_height, a_weight, a_main, (upd a_unspent 64 (qa_B true)), (upd (fun j => if j < 56 then -1 else 0) 32 (nI 0)), a_before, a_path, a_pool, a_poolBefore, a_inPool, a_poolSpends, a_stack, a_seenLock, a_seenWitness, a_seen)) : ∀ d i (h : Nat → Int32), i + d = 56 → (∀ j, h j = if j < i then -1 else 0) → ∀ n, d < n → wX_init_237 post f_submitted f_tipHeight f_poolSize f_sp f_failed n (nI i) a_inCount a_outCount a_sealed a_inFrom a_inWitness a_amounts a_locks a_parent a_work a_state a_order a_txCount a_txs a_height a_weight a_main a_unspent h a_before a_path a_pool a_poolBefore a_inPool a_poolSpends a_stack a_seenLock a_seenWitness a_seen := by
  have e0 : vp_nar .byte 0 = nI 0 := qa_by (v := 0) (by decide)
  intro d
  induction d with
  | zero =>
    intro i h hi hh n hn
    obtain ⟨n, rfl⟩ : ∃ q, n = q + 1 := ⟨n - 1, by omega⟩
    have e : i = 56 := by omega
    subst e
    have eh : h = (fun j => if j < 56 then -1 else 0) := funext hh
    subst eh
    rw [wX_init_237]
    dsimp only
    rw [e0]
    exact br_t (by decide) (nm_e (nm_e (nm_e (nm_e K))))
  | succ d ih =>
    intro i h hi hh n hn
    obtain ⟨n, rfl⟩ : ∃ q, n = q + 1 := ⟨n - 1, by omega⟩
    rw [wX_init_237]
    dsimp only
    rw [nI_clamp (show i < 2 ^ 31 by omega), nI_1, qa_m1]
    refine br_f (nI_ge (b := 56) (by omega) (by decide)) ⟨vp_in_nI (by omega) (by decide), fun h' eh => nm_e ?_⟩
    refine ih (i + 1) h' (by omega) (fun j => ?_) n (by omega)
    rw [eh]
    by_cases z : j = i
    · subst z; rw [pk_us, if_pos (by omega)]
    · rw [pk_un z, hh]
      by_cases y : j < i
      · rw [if_pos y, if_pos (by omega)]
      · rw [if_neg y, if_neg (by omega)]
end
theorem qi_ox : qa_i (qd_ox qi_D) = (fun _ => 0) := by
  funext t
  show nI (if t < 32 then qa_u (fun _ => 0) 32 1 t else 0) = 0
  by_cases z : t < 32
  · rw [if_pos z, qa_un (by omega)]; rfl
  · rw [if_neg z]; rfl
theorem qi_un : qa_b (qc_un qi_D qi_c) = upd (fun _ => 0) 64 (qa_B true) := by
  funext o
  show qa_B (qa_v (fun _ => false) 32 true (o / 2) && (decide (o % 2 < qa_u (fun _ => 0) 32 1 (o / 2)) && !(false || qc_n (fun i => 0) 0 o))) = _
  by_cases z : o = 64
  · subst z; rw [pk_us]; rfl
  · rw [pk_un z]
    by_cases y : o / 2 = 32
    · rw [y, qa_us, decide_eq_false (show ¬ o % 2 < 1 by omega)]; rfl
    · rw [qa_vn y]; rfl
theorem qi_h : qc_h qi_c = upd (fun j => if j < 56 then -1 else 0) 32 (nI 0) := by
  funext t
  show (if qa_v (fun _ => false) 32 true t = true then nI (qa_u (fun _ => 0) 32 0 t) else if t < 56 then -1 else 0) = _
  by_cases z : t = 32
  · subst z; rw [pk_us, qa_vs, qa_us]; rfl
  · rw [pk_un z, qa_vn z]; rfl
theorem qi_y : qa_i (fun b => min 2 (qi_s b)) = upd (fun _ => 0) 0 2 := by
  funext b
  show nI (min 2 (qi_s b)) = _
  by_cases z : b = 0
  · subst z; rw [pk_us]; rfl
  · rw [pk_un z, qi_sn z]; rfl
theorem qi_x : qa_i qi_s = upd (fun _ => 0) 0 (vp_nar .byte 3) := by
  have e : vp_nar .byte 3 = nI 3 := qa_by (v := 3) (by decide)
  rw [e]
  funext b
  show nI (qi_s b) = _
  by_cases z : b = 0
  · subst z; rw [pk_us]; rfl
  · rw [pk_un z, qi_sn z]; rfl
theorem qi_oc : qa_i (qd_oc qi_D) = upd (fun _ => 0) 32 1 := by
  funext t
  show nI (qa_u (fun _ => 0) 32 1 t) = _
  by_cases z : t = 32
  · subst z; rw [pk_us, qa_us]; rfl
  · rw [pk_un z, qa_un z]; rfl
theorem i_vc0 : wpX_init (fun u => wpY_init (fun v => i_Rel 0 u v)) := by
  unfold wpX_init
  refine nm_e ⟨57, qi_l ?_ 56 0 _ rfl (fun j => (if_neg (Nat.not_lt_zero j)).symm) 57 (by decide)⟩
  unfold wpY_init
  refine nm_e (nm_e (nm_e (nm_e ?_)))
  have I : i_Rel 0 _ _ := qr_i (k := 0) (sp := 0) (fa := 0) (stk := fun _ => 0) (sl := fun _ => 0) (sw := fun _ => 0) (sn := fun _ => 0) (bf := fun _ => 0) (pth := fun _ => 0) (pb := fun _ => 0) (len := 0) (w := 0) (pth2 := fun _ => 0) (lis := fun _ => false) (spe := fun _ => false) (hO := fun _ => 0) (stk2 := fun _ => 0) (opl := fun _ => 0) (opt := fun _ => 0) qi_F (fun _ _ => Or.inl rfl) ⟨fun _ _ => rfl, fun _ _ => rfl⟩
  have h0 : qa_i (fun _ => 0) = (fun _ => 0) := rfl
  have h1 : qa_b (fun _ => false) = (fun _ => 0) := rfl
  have h2 : qa_i (qd_ic qi_D) = (fun _ => 0) := rfl
  have h3 : qa_b (qd_se qi_D) = (fun _ => 0) := rfl
  have h4 : qa_i (qd_fr qi_D) = (fun _ => 0) := rfl
  have h5 : qd_wt qi_D = (fun _ => 0) := rfl
  have h6 : qd_am qi_D = upd (fun _ => 0) 64 50 := rfl
  have h7 : qd_lk qi_D = upd (fun _ => 0) 64 1 := rfl
  have h8 : qa_i (qd_pa qi_D) = (fun _ => 0) := rfl
  have h9 : qa_i (qd_ct qi_D) = (fun _ => 0) := rfl
  have ha : qa_i (qd_tx qi_D) = (fun _ => 0) := rfl
  have hb : qa_i (qd_ht qi_D) = (fun _ => 0) := rfl
  have hc : qa_i (fun k => qd_fr qi_D k / 2) = (fun _ => 0) := funext fun k => (show nI (0 / 2) = 0 by decide)
  have hd : qa_i (fun k => qd_fr qi_D k % 2) = (fun _ => 0) := funext fun k => (show nI (0 % 2) = 0 by decide)
  unfold qr_x qr_y at I
  rw [qi_ox, qi_un, qi_h, qi_y, qi_x, qi_oc, h0, h1, h2, h3, h4, h5, h6, h7, h8, h9, ha, hb, hc, hd] at I
  exact I
end
section
/-! what is owed -/
section
variable {D : qd_T} {c : qc_T} {sb th : Nat} {st wk od wg mn : Nat → Nat} {P : qe_T} {ip psd : Nat → Bool} {sp fa : Int32} {stk sl sw sn : Nat → Int32} {bf pth pb : Nat → Int32} {len w : Int32} {lis spe : Nat → Bool} {hO opl opt : Nat → Int32}
theorem qr_P {t : Nat} {ip' psd' : Nat → Bool} (F : qr_F sb th D st wk od wg mn c P ip psd) (ht : t < 32) (X : qx_P c (qe_n D (th + 1) P t).2.2 ip' psd') : qr_F sb th D st wk od wg mn c (qe_n D (th + 1) P t) ip' psd' := by
  obtain ⟨W, V, S, C, hP, _, T, B, O⟩ := F
  exact ⟨W, V, S, C, qe_V_n hP ht, X, T, B, O⟩
theorem qx_offF {post : Int32 → SX → Prop} {t : Nat} (F : qr_F sb th D st wk od wg mn c P ip psd) (CC : qx_C sl sw sn) (ht : t < 32) (K : ∀ (sp fa : Int32) (stk sl sw sn : Nat → Int32) (ip psd : Nat → Bool), qx_C sl sw sn → qx_P c (qe_n D (th + 1) P t).2.2 ip psd → post (qa_B (qe_ok D (th + 1) P t)) (qr_x sb th D st wk od wg mn c (qe_n D (th + 1) P t) ip psd sp fa stk sl sw sn bf pth pb)) : wpX_offer post (qr_x sb th D st wk od wg mn c P ip psd sp fa stk sl sw sn bf pth pb) (nI t) := by
  obtain ⟨W, V, S, C, hP, X, T, B, O⟩ := F
  obtain ⟨M1, M2, M3⟩ := qc_mainR W V C.1 C.2.2.2.2
  have hth : th < 24 := by have := W.2.2.2.2.2.2.2.2.2 (mn th); rw [C.2.1] at this; omega
  unfold qr_x
  refine qx_offer W ht (by omega) CC (fun t h => by have := M2.2 t h; omega) M1 (by omega) hP X (fun sp fa stk sl sw sn ip psd CC X => ?_)
  exact K sp fa stk sl sw sn ip psd CC X
theorem qy_offF {post : Int32 → SY → Prop} {t : Nat} (F : qr_F sb th D st wk od wg mn c P ip psd) (TT : qy_T lis spe) (ht : t < 32) (K : ∀ (len w : Int32) (pth : Nat → Int32) (lis spe : Nat → Bool) (hO stk : Nat → Int32), qy_T lis spe → post (qa_B (qe_ok D (th + 1) P t)) (qr_y sb (mn th) D st wk od (qe_n D (th + 1) P t) len w pth lis spe hO stk opl opt)) : wpY_offer post (qr_y sb (mn th) D st wk od P len w pth lis spe hO stk opl opt) (nI t) := by
  obtain ⟨W, V, S, C, hP, X, T, B, O⟩ := F
  have hP' : qe_V D (qd_ht D (mn th) + 1) c P := by rw [C.2.1]; exact hP
  unfold qr_y
  refine qy_offer W V T C.1 TT C.2.2.2.2 hP' ht (fun len w pth lis spe hO stk TT => ?_)
  rw [C.2.1]
  exact K len w pth lis spe hO stk TT
theorem qx_off_no {post : Int32 → SX → Prop} {v : Int32} (N : ¬ ∃ t, t < 32 ∧ v = nI t) (K : post 0 (qr_x sb th D st wk od wg mn c P ip psd sp fa stk sl sw sn bf pth pb)) : wpX_offer post (qr_x sb th D st wk od wg mn c P ip psd sp fa stk sl sw sn bf pth pb) v := by
  unfold qr_x wpX_offer
  dsimp only
  exact qx_txc (fun t ht e => absurd ⟨t, ht, e⟩ N) (fun _ => br_t rfl K)
theorem qy_off_no {post : Int32 → SY → Prop} {v : Int32} (N : ¬ ∃ t, t < 32 ∧ v = nI t) (K : post 0 (qr_y sb (mn th) D st wk od P len w pth lis spe hO stk opl opt)) : wpY_offer post (qr_y sb (mn th) D st wk od P len w pth lis spe hO stk opl opt) v := by
  unfold qr_y wpY_offer
  dsimp only
  exact qy_oc 0 31 (by decide) (by decide) (fun t _ ht e => absurd ⟨t, by omega, e⟩ N) (fun _ => br_f (by decide) K)
theorem qx_sub_no {post : Int32 → SX → Prop} {v : Int32} (h4 : ∀ b, st b ≤ 4) (N : ∀ b, b < 24 → b ≠ 0 → v = nI b → st b ≠ 1) (K : post (-1) (qr_x sb th D st wk od wg mn c P ip psd sp fa stk sl sw sn bf pth pb)) : wpX_submit post (qr_x sb th D st wk od wg mn c P ip psd sp fa stk sl sw sn bf pth pb) v := by
  unfold qr_x wpX_submit
  dsimp only
  refine qx_bkc (fun b hb b0 e => br_f (by decide) ?_) (fun _ => br_t rfl K)
  have s := N b hb b0 e
  have s4 := h4 b
  rw [e, qa_at st (show b < 2 ^ 31 by omega)]
  exact ⟨vp_in_nI hb (by decide), br_f (fun z => s ((nI_eq (a := st b) (b := 1) (by omega) (by decide)).mp z)) K⟩
theorem qy_sub_no {post : Int32 → SY → Prop} {v : Int32} (N : ∀ b, b < 24 → b ≠ 0 → v = nI b → st b ≠ 1) (K : post (-1) (qr_y sb (mn th) D st wk od P len w pth lis spe hO stk opl opt)) : wpY_submit post (qr_y sb (mn th) D st wk od P len w pth lis spe hO stk opl opt) v := by
  unfold qr_y wpY_submit
  dsimp only
  refine qy_oc 1 23 (by decide) (by decide) (fun b b0 hb e => br_t rfl ?_) (fun _ => br_f (by decide) K)
  have s := N b (by omega) (by omega) e
  rw [e, qa_at _ (show b < 2 ^ 31 by omega)]
  refine ⟨vp_in_nI (by omega) (by decide), br_f (fun z => ?_) K⟩
  have := (nI_eq (a := min 2 (st b)) (b := 1) (by omega) (by decide)).mp z
  omega
end
theorem i_vc_input {k : Nat} {u : SX} {v : SY} (I : i_Rel k u v) (hk : k + 5 ≤ 2560) (v1 : Int32) (v2 : Int32) (v3 : Int32) (v4 : Int32) : wpX_input (fun r u' => wpY_input (fun r' v' => r' = r ∧ i_Rel (k + 5) u' v') v v1 v2 v3 v4) u v1 v2 v3 v4 := by
  refine qr_e (Q := fun u v => wpX_input (fun r u' => wpY_input (fun r' v' => r' = r ∧ i_Rel (k + 5) u' v') v v1 v2 v3 v4) u v1 v2 v3 v4) I ?_
  intro sb th D st wk od wg mn c P ip psd sp fa stk sl sw sn bf pth pb len w pth2 lis spe hO stk2 opl opt F CC TT
  by_cases h : ∃ t f p, t < 32 ∧ v1 = nI t ∧ f ≤ 55 ∧ v2 = nI f ∧ p < 2 ∧ v3 = nI p ∧ qd_se D t = false
  · obtain ⟨t, f, p, ht, rfl, hf, rfl, hp, rfl, s⟩ := h
    have w2 := F.1.1 t
    by_cases z : qd_ic D t = 2
    · exact qx_in_full ht hf hp s z (qy_in_full ht hf hp s z ⟨rfl, qr_i F CC TT⟩)
    · exact qx_in_ok ht hf hp s (by omega) (qy_in_ok ht hf hp s (by omega) ⟨rfl, qr_i (qr_in F ht s (by omega) (by omega)) CC TT⟩)
  · have N : ∀ t f p, t < 32 → v1 = nI t → f ≤ 55 → v2 = nI f → p < 2 → v3 = nI p → qd_se D t = true := by
      intro t f p a1 a2 a3 a4 a5 a6
      cases q : qd_se D t with
      | true => rfl
      | false => exact absurd ⟨t, f, p, a1, a2, a3, a4, a5, a6, q⟩ h
    exact qx_in_no N (qy_in_no N ⟨rfl, qr_i F CC TT⟩)
theorem i_vc_output {k : Nat} {u : SX} {v : SY} (I : i_Rel k u v) (hk : k + 5 ≤ 2560) (v1 : Int32) (v2 : Int32) (v3 : Int32) : wpX_output (fun r u' => wpY_output (fun r' v' => r' = r ∧ i_Rel (k + 5) u' v') v v1 v2 v3) u v1 v2 v3 := by
  refine qr_e (Q := fun u v => wpX_output (fun r u' => wpY_output (fun r' v' => r' = r ∧ i_Rel (k + 5) u' v') v v1 v2 v3) u v1 v2 v3) I ?_
  intro sb th D st wk od wg mn c P ip psd sp fa stk sl sw sn bf pth pb len w pth2 lis spe hO stk2 opl opt F CC TT
  by_cases h : ∃ t a, t < 32 ∧ v1 = nI t ∧ 1 ≤ a ∧ a ≤ 1000 ∧ v2 = nI a ∧ qd_se D t = false
  · obtain ⟨t, a, ht, rfl, h1, h2, rfl, s⟩ := h
    have w2 := F.1.2.2.1 t
    by_cases z : qd_oc D t = 2
    · exact qx_ou_full ht h1 h2 s z (qy_ou_full ht h1 h2 s z ⟨rfl, qr_i F CC TT⟩)
    · obtain ⟨F', eu⟩ := qr_ou (a := nI a) (l := v3) F ht s (by omega) (by rw [nI_toInt (by omega)]; omega) (by rw [nI_toInt (by omega)]; omega)
      exact qx_ou_ok ht h1 h2 s (by omega) eu (qy_ou_ok ht h1 h2 s (by omega) ⟨rfl, qr_i F' CC TT⟩)
  · have N : ∀ t a, t < 32 → v1 = nI t → 1 ≤ a → a ≤ 1000 → v2 = nI a → qd_se D t = true := by
      intro t a a1 a2 a3 a4 a5
      cases q : qd_se D t with
      | true => rfl
      | false => exact absurd ⟨t, a, a1, a2, a3, a4, a5, q⟩ h
    exact qx_ou_no N (qy_ou_no N ⟨rfl, qr_i F CC TT⟩)
theorem i_vc_seal {k : Nat} {u : SX} {v : SY} (I : i_Rel k u v) (hk : k + 5 ≤ 2560) (v1 : Int32) : wpX_seal (fun r u' => wpY_seal (fun r' v' => r' = r ∧ i_Rel (k + 5) u' v') v v1) u v1 := by
  refine qr_e (Q := fun u v => wpX_seal (fun r u' => wpY_seal (fun r' v' => r' = r ∧ i_Rel (k + 5) u' v') v v1) u v1) I ?_
  intro sb th D st wk od wg mn c P ip psd sp fa stk sl sw sn bf pth pb len w pth2 lis spe hO stk2 opl opt F CC TT
  by_cases h : ∃ t, t < 32 ∧ v1 = nI t ∧ qd_se D t = false
  · obtain ⟨t, ht, rfl, s⟩ := h
    exact qx_sl_ok ht s (qy_sl_ok ht s ⟨rfl, qr_i (qr_sl F ht) CC TT⟩)
  · have N : ∀ t, t < 32 → v1 = nI t → qd_se D t = true := by
      intro t a1 a2
      cases q : qd_se D t with
      | true => rfl
      | false => exact absurd ⟨t, a1, a2, q⟩ h
    exact qx_sl_no N (qy_sl_no N ⟨rfl, qr_i F CC TT⟩)
theorem i_vc_offer {k : Nat} {u : SX} {v : SY} (I : i_Rel k u v) (hk : k + 5 ≤ 2560) (v1 : Int32) : wpX_offer (fun r u' => wpY_offer (fun r' v' => r' = r ∧ i_Rel (k + 5) u' v') v v1) u v1 := by
  refine qr_e (Q := fun u v => wpX_offer (fun r u' => wpY_offer (fun r' v' => r' = r ∧ i_Rel (k + 5) u' v') v v1) u v1) I ?_
  intro sb th D st wk od wg mn c P ip psd sp fa stk sl sw sn bf pth pb len w pth2 lis spe hO stk2 opl opt F CC TT
  by_cases h : ∃ t, t < 32 ∧ v1 = nI t
  · obtain ⟨t, ht, rfl⟩ := h
    exact qx_offF F CC ht (fun sp fa stk sl sw sn ip' psd' CC X => qy_offF F TT ht (fun len w pth lis spe hO stk TT => ⟨rfl, qr_i (qr_P F ht X) CC TT⟩))
  · exact qx_off_no h (qy_off_no h ⟨rfl, qr_i F CC TT⟩)
theorem i_vc_block {k : Nat} {u : SX} {v : SY} (I : i_Rel k u v) (hk : k + 5 ≤ 2560) (v1 : Int32) (v2 : Int32) (v3 : Int32) : wpX_block (fun r u' => wpY_block (fun r' v' => r' = r ∧ i_Rel (k + 5) u' v') v v1 v2 v3) u v1 v2 v3 := by
  refine qr_e (Q := fun u v => wpX_block (fun r u' => wpY_block (fun r' v' => r' = r ∧ i_Rel (k + 5) u' v') v v1 v2 v3) u v1 v2 v3) I ?_
  intro sb th D st wk od wg mn c P ip psd sp fa stk sl sw sn bf pth pb len w pth2 lis spe hO stk2 opl opt F CC TT
  by_cases h : ∃ b on pw, b < 24 ∧ b ≠ 0 ∧ v1 = nI b ∧ on ≤ 23 ∧ v2 = nI on ∧ on ≠ b ∧ 1 ≤ pw ∧ pw ≤ 15 ∧ v3 = nI pw ∧ st b ≤ 1
  · obtain ⟨b, on, pw, hb, b0, rfl, hon, rfl, ne, h1, h2, rfl, s⟩ := h
    obtain ⟨F', eu⟩ := qr_dr (on := on) (pw := pw) F hb b0 s (by omega) h2
    exact qx_bk_ok hb b0 hon ne h1 h2 s eu (qy_bk_ok hb b0 hon ne h1 h2 s ⟨rfl, qr_i F' CC TT⟩)
  · have N : ∀ b on pw, b < 24 → b ≠ 0 → v1 = nI b → on ≤ 23 → v2 = nI on → on ≠ b → 1 ≤ pw → pw ≤ 15 → v3 = nI pw → 2 ≤ st b := by
      intro b on pw a1 a2 a3 a4 a5 a6 a7 a8 a9
      by_cases z : st b ≤ 1
      · exact absurd ⟨b, on, pw, a1, a2, a3, a4, a5, a6, a7, a8, a9, z⟩ h
      · omega
    exact qx_bk_no N F.2.2.1.2.1 (qy_bk_no N ⟨rfl, qr_i F CC TT⟩)
theorem i_vc_include {k : Nat} {u : SX} {v : SY} (I : i_Rel k u v) (hk : k + 5 ≤ 2560) (v1 : Int32) (v2 : Int32) : wpX_include (fun r u' => wpY_include (fun r' v' => r' = r ∧ i_Rel (k + 5) u' v') v v1 v2) u v1 v2 := by
  refine qr_e (Q := fun u v => wpX_include (fun r u' => wpY_include (fun r' v' => r' = r ∧ i_Rel (k + 5) u' v') v v1 v2) u v1 v2) I ?_
  intro sb th D st wk od wg mn c P ip psd sp fa stk sl sw sn bf pth pb len w pth2 lis spe hO stk2 opl opt F CC TT
  by_cases h : ∃ b t, b < 24 ∧ b ≠ 0 ∧ v1 = nI b ∧ t < 32 ∧ v2 = nI t ∧ st b = 1 ∧ qd_se D t = true
  · obtain ⟨b, t, hb, b0, rfl, ht, rfl, s, se⟩ := h
    have w3 := F.1.2.2.2.2.2.2.1 b
    by_cases z : qd_ct D b = 3
    · exact qx_ic_full hb b0 ht s se z (qy_ic_full hb b0 ht s se z ⟨rfl, qr_i F CC TT⟩)
    · have F' := qr_bl (am := qd_am D) (lk := qd_lk D) (ct := qa_u (qd_ct D) b (qd_ct D b + 1)) (tx := qa_u (qd_tx D) (3 * b + qd_ct D b) t) F (show st b ≤ 1 by omega) (fun _ _ => rfl) (F.1.2.2.2.2.1 _) (fun _ _ => rfl) (fun y hy => qa_un hy) (by rw [qa_us]; omega) (fun j hj => qa_un (by omega)) (fun j => by
        by_cases y : j = 3 * b + qd_ct D b
        · rw [y, qa_us]; exact ht
        · rw [qa_un y]; exact F.1.2.2.2.2.2.2.2.1 j) (fun i hi => by
        rw [qa_us] at hi
        by_cases y : i = qd_ct D b
        · rw [y, qa_us]; exact se
        · rw [qa_un (by omega)]; exact F.2.2.2.2.2.2.2.2.2.2.2.2.2.1 b i (by omega))
      exact qx_ic_ok hb b0 ht s se (by omega) (qy_ic_ok hb b0 ht s se (by omega) ⟨rfl, qr_i F' CC TT⟩)
  · have N : ∀ b t, b < 24 → b ≠ 0 → v1 = nI b → t < 32 → v2 = nI t → st b = 1 → qd_se D t = false := by
      intro b t a1 a2 a3 a4 a5 a6
      cases q : qd_se D t with
      | false => rfl
      | true => exact absurd ⟨b, t, a1, a2, a3, a4, a5, a6, q⟩ h
    exact qx_ic_no N F.2.2.1.2.1 (qy_ic_no N ⟨rfl, qr_i F CC TT⟩)
theorem i_vc_reward {k : Nat} {u : SX} {v : SY} (I : i_Rel k u v) (hk : k + 5 ≤ 2560) (v1 : Int32) (v2 : Int32) (v3 : Int32) : wpX_reward (fun r u' => wpY_reward (fun r' v' => r' = r ∧ i_Rel (k + 5) u' v') v v1 v2 v3) u v1 v2 v3 := by
  refine qr_e (Q := fun u v => wpX_reward (fun r u' => wpY_reward (fun r' v' => r' = r ∧ i_Rel (k + 5) u' v') v v1 v2 v3) u v1 v2 v3) I ?_
  intro sb th D st wk od wg mn c P ip psd sp fa stk sl sw sn bf pth pb len w pth2 lis spe hO stk2 opl opt F CC TT
  by_cases h : ∃ b a, b < 24 ∧ b ≠ 0 ∧ v1 = nI b ∧ 1 ≤ a ∧ a ≤ 1000 ∧ v2 = nI a ∧ st b = 1
  · obtain ⟨b, a, hb, b0, rfl, h1, h2, rfl, s⟩ := h
    have F' := qr_bl (am := upd (qd_am D) (64 + 2 * b) (nI a)) (lk := upd (qd_lk D) (64 + 2 * b) v3) (ct := qd_ct D) (tx := qd_tx D) F (show st b ≤ 1 by omega) (fun o ho => pk_un ho) (by rw [pk_us, nI_toInt (by omega)]; omega) (fun o ho => pk_un ho) (fun y hy => rfl) (F.1.2.2.2.2.2.2.1 b) (fun j hj => rfl) F.1.2.2.2.2.2.2.2.1 (fun i hi => F.2.2.2.2.2.2.2.2.2.2.2.2.2.1 b i hi)
    exact qx_rw_ok hb b0 h1 h2 s (qy_rw_ok hb b0 h1 h2 s ⟨rfl, qr_i F' CC TT⟩)
  · have N : ∀ b a, b < 24 → b ≠ 0 → v1 = nI b → 1 ≤ a → a ≤ 1000 → v2 = nI a → st b ≠ 1 := fun b a a1 a2 a3 a4 a5 a6 a7 => h ⟨b, a, a1, a2, a3, a4, a5, a6, a7⟩
    exact qx_rw_no N F.2.2.1.2.1 (qy_rw_no N ⟨rfl, qr_i F CC TT⟩)
theorem i_vc_submit {k : Nat} {u : SX} {v : SY} (I : i_Rel k u v) (hk : k + 5 ≤ 2560) (v1 : Int32) : wpX_submit (fun r u' => wpY_submit (fun r' v' => r' = r ∧ i_Rel (k + 5) u' v') v v1) u v1 := by
  refine qr_e (Q := fun u v => wpX_submit (fun r u' => wpY_submit (fun r' v' => r' = r ∧ i_Rel (k + 5) u' v') v v1) u v1) I ?_
  intro sb th D st wk od wg mn c P ip psd sp fa stk sl sw sn bf pth pb len w pth2 lis spe hO stk2 opl opt F CC TT
  by_cases h : ∃ b, b < 24 ∧ b ≠ 0 ∧ v1 = nI b ∧ st b = 1
  · obtain ⟨b, hb, b0, rfl, s⟩ := h
    exact qx_submit F CC hb b0 s (fun sp fa stk sl sw sn bf pth pb r th' ht' st' wg' mn' c' P' ip' psd' CC R => qy_submit F TT hb b0 s R (fun len w pth lis spe hO stk opl opt TT => ⟨rfl, qr_i R.1 CC TT⟩))
  · have N : ∀ b, b < 24 → b ≠ 0 → v1 = nI b → st b ≠ 1 := fun b a1 a2 a3 a4 => h ⟨b, a1, a2, a3, a4⟩
    exact qx_sub_no F.2.2.1.2.1 N (qy_sub_no N ⟨rfl, qr_i F CC TT⟩)
theorem i_vc_mine {k : Nat} {u : SX} {v : SY} (I : i_Rel k u v) (hk : k + 5 ≤ 2560) (v1 : Int32) (v2 : Int32) (v3 : Int32) : wpX_mine (fun r u' => wpY_mine (fun r' v' => r' = r ∧ i_Rel (k + 5) u' v') v v1 v2 v3) u v1 v2 v3 := by
  refine qr_e (Q := fun u v => wpX_mine (fun r u' => wpY_mine (fun r' v' => r' = r ∧ i_Rel (k + 5) u' v') v v1 v2 v3) u v1 v2 v3) I ?_
  intro sb th D st wk od wg mn c P ip psd sp fa stk sl sw sn bf pth pb len w pth2 lis spe hO stk2 opl opt F CC TT
  by_cases h : ∃ b pw, b < 24 ∧ b ≠ 0 ∧ v1 = nI b ∧ 1 ≤ pw ∧ pw ≤ 15 ∧ v2 = nI pw ∧ st b ≤ 1
  · obtain ⟨b, pw, hb, b0, rfl, h1, h2, rfl, s⟩ := h
    exact qx_mine_ok F CC hb b0 h1 h2 s (fun sp fa stk sl sw sn bf pth pb r th' ht' st' wg' mn' c' P' ip' psd' CC R => qy_mine_ok F TT hb b0 h1 h2 s R (fun len w pth lis spe hO stk opl opt TT => ⟨rfl, qr_i R.1 CC TT⟩))
  · have N : ∀ b pw, b < 24 → b ≠ 0 → v1 = nI b → 1 ≤ pw → pw ≤ 15 → v2 = nI pw → 2 ≤ st b := by
      intro b pw a1 a2 a3 a4 a5 a6
      by_cases z : st b ≤ 1
      · exact absurd ⟨b, pw, a1, a2, a3, a4, a5, a6, z⟩ h
      · omega
    exact qx_mine_no N F.2.2.1.2.1 (qy_mine_no N ⟨rfl, qr_i F CC TT⟩)
theorem i_vc_tip {k : Nat} {u : SX} {v : SY} (I : i_Rel k u v) (hk : k + 5 ≤ 2560) : wpX_tip (fun r => wpY_tip (fun r' => r' = r ∧ i_Rel (k + 5) u v) v) u := by
  refine qr_e (Q := fun u v => wpX_tip (fun r => wpY_tip (fun r' => r' = r ∧ i_Rel (k + 5) u v) v) u) I ?_
  intro sb th D st wk od wg mn c P ip psd sp fa stk sl sw sn bf pth pb len w pth2 lis spe hO stk2 opl opt F CC TT
  have I' : i_Rel (k + 5) (qr_x sb th D st wk od wg mn c P ip psd sp fa stk sl sw sn bf pth pb) (qr_y sb (mn th) D st wk od P len w pth2 lis spe hO stk2 opl opt) := qr_i F CC TT
  have hth : th < 24 := by have := F.1.2.2.2.2.2.2.2.2.2 (mn th); rw [F.2.2.2.1.2.1] at this; omega
  unfold wpX_tip wpY_tip
  refine ⟨vp_in_nI hth (by decide), ?_, I'⟩
  exact (qa_at mn (show th < 2 ^ 31 by omega)).symm
theorem i_vc_count {k : Nat} {u : SX} {v : SY} (I : i_Rel k u v) (hk : k + 5 ≤ 2560) (v1 : Int32) : wpX_count (fun r => wpY_count (fun r' v' => r' = r ∧ i_Rel (k + 5) u v') v v1) u v1 := by
  refine qr_e (Q := fun u v => wpX_count (fun r => wpY_count (fun r' v' => r' = r ∧ i_Rel (k + 5) u v') v v1) u v1) I ?_
  intro sb th D st wk od wg mn c P ip psd sp fa stk sl sw sn bf pth pb len w pth2 lis spe hO stk2 opl opt F CC TT
  exact qx_cn_v F (qy_cn_v F TT (fun len w pth lis spe hO stk TT => ⟨rfl, qr_i F CC TT⟩))
theorem i_vc_at {k : Nat} {u : SX} {v : SY} (I : i_Rel k u v) (hk : k + 5 ≤ 2560) (v1 : Int32) : wpX_at (fun r => wpY_at (fun r' v' => r' = r ∧ i_Rel (k + 5) u v') v v1) u v1 := by
  refine qr_e (Q := fun u v => wpX_at (fun r => wpY_at (fun r' v' => r' = r ∧ i_Rel (k + 5) u v') v v1) u v1) I ?_
  intro sb th D st wk od wg mn c P ip psd sp fa stk sl sw sn bf pth pb len w pth2 lis spe hO stk2 opl opt F CC TT
  have hth : th < 24 := by have := F.1.2.2.2.2.2.2.2.2.2 (mn th); rw [F.2.2.2.1.2.1] at this; omega
  refine qx_at_v F (fun i hi e => qy_at_v F (fun j len w pth hj e2 => ⟨?_, qr_i F CC TT⟩) (fun len w pth N => absurd ⟨i, hi, e⟩ N)) (fun N => qy_at_v F (fun j len w pth hj e2 => absurd ⟨j, hj, e2⟩ N) (fun len w pth _ => ⟨rfl, qr_i F CC TT⟩))
  have : j = i := (nI_eq (by omega) (by omega)).mp (e2.symm.trans e)
  rw [this]
theorem i_vc_unspent {k : Nat} {u : SX} {v : SY} (I : i_Rel k u v) (hk : k + 5 ≤ 2560) (v1 : Int32) (v2 : Int32) : wpX_unspent (fun r => wpY_unspent (fun r' v' => r' = r ∧ i_Rel (k + 5) u v') v v1 v2) u v1 v2 := by
  refine qr_e (Q := fun u v => wpX_unspent (fun r => wpY_unspent (fun r' v' => r' = r ∧ i_Rel (k + 5) u v') v v1 v2) u v1 v2) I ?_
  intro sb th D st wk od wg mn c P ip psd sp fa stk sl sw sn bf pth pb len w pth2 lis spe hO stk2 opl opt F CC TT
  refine qx_us_v (fun t p ht e hp e' => qy_us_v F TT (fun t2 p2 len w pth lis spe hO stk TT ht2 e2 hp2 e2' => ⟨?_, qr_i F CC TT⟩) (fun N => absurd ⟨t, p, ht, e, hp, e'⟩ N)) (fun N => qy_us_v F TT (fun t2 p2 len w pth lis spe hO stk TT ht2 e2 hp2 e2' => absurd ⟨t2, p2, ht2, e2, hp2, e2'⟩ N) (fun _ => ⟨rfl, qr_i F CC TT⟩))
  have a : t2 = t := (nI_eq (by omega) (by omega)).mp (e2.symm.trans e)
  have b : p2 = p := (nI_eq (by omega) (by omega)).mp (e2'.symm.trans e')
  rw [a, b]
theorem i_vc_pooled {k : Nat} {u : SX} {v : SY} (I : i_Rel k u v) (hk : k + 5 ≤ 2560) (v1 : Int32) : wpX_pooled (fun r => wpY_pooled (fun r' => r' = r ∧ i_Rel (k + 5) u v) v v1) u v1 := by
  refine qr_e (Q := fun u v => wpX_pooled (fun r => wpY_pooled (fun r' => r' = r ∧ i_Rel (k + 5) u v) v v1) u v1) I ?_
  intro sb th D st wk od wg mn c P ip psd sp fa stk sl sw sn bf pth pb len w pth2 lis spe hO stk2 opl opt F CC TT
  have h8 := F.2.2.2.2.1.2.1
  refine qx_po_v h8 (fun i hi e => qy_po_v h8 (fun j hj e2 => ⟨?_, qr_i F CC TT⟩) (fun N => absurd ⟨i, hi, e⟩ N)) (fun N => qy_po_v h8 (fun j hj e2 => absurd ⟨j, hj, e2⟩ N) (fun _ => ⟨rfl, qr_i F CC TT⟩))
  have : j = i := (nI_eq (by omega) (by omega)).mp (e2.symm.trans e)
  rw [this]
theorem i_vc_depth {k : Nat} {u : SX} {v : SY} (I : i_Rel k u v) (hk : k + 5 ≤ 2560) (v1 : Int32) : wpX_depth (fun r => wpY_depth (fun r' v' => r' = r ∧ i_Rel (k + 5) u v') v v1) u v1 := by
  refine qr_e (Q := fun u v => wpX_depth (fun r => wpY_depth (fun r' v' => r' = r ∧ i_Rel (k + 5) u v') v v1) u v1) I ?_
  intro sb th D st wk od wg mn c P ip psd sp fa stk sl sw sn bf pth pb len w pth2 lis spe hO stk2 opl opt F CC TT
  refine qx_de_v F (fun t ht e => qy_de_v F TT (fun t2 len w pth lis spe hO stk TT ht2 e2 => ⟨?_, qr_i F CC TT⟩) (fun N => absurd ⟨t, ht, e⟩ N)) (fun N => qy_de_v F TT (fun t2 len w pth lis spe hO stk TT ht2 e2 => absurd ⟨t2, ht2, e2⟩ N) (fun _ => ⟨rfl, qr_i F CC TT⟩))
  have : t2 = t := (nI_eq (by omega) (by omega)).mp (e2.symm.trans e)
  rw [this]
end
