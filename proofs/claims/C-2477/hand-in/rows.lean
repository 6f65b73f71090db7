section
theorem pk_us {f : Nat → Int32} {k : Nat} {x : Int32} : upd f k x k = x := if_pos rfl
theorem pk_un {f : Nat → Int32} {k j : Nat} {x : Int32} (h : j ≠ k) : upd f k x j = f j := if_neg h
theorem pk_sub {a b : Nat} (h : b ≤ a) : nI a - nI b = nI (a - b) := by
  obtain ⟨c, rfl⟩ : ∃ c, a = c + b := ⟨a - b, by omega⟩
  rw [← nI_add, Int32.add_sub_cancel, Nat.add_sub_cancel]
theorem pk_m1 (n : Nat) : nI (n + 1) + (-1) = nI n := by
  rw [← nI_1, Int32.add_assoc, show (1 : Int32) + (-1) = 0 from rfl, Int32.add_zero]
theorem pk_mul (a b : Nat) : nI a * nI b = nI (a * b) := (Int32.ofNat_mul a b).symm
theorem pk_div {a d : Nat} (ha : a < 2 ^ 31) (h0 : 0 < d) (hd : d < 2 ^ 31) : nI a / nI d = nI (a / d) := by
  apply Int32.toInt_inj.mp
  rw [lg_idiv_nonneg (by rw [nI_toInt ha]; omega) (by rw [nI_toInt hd]; omega), nI_toInt ha, nI_toInt hd, nI_toInt (Nat.lt_of_le_of_lt (Nat.div_le_self a d) ha)]
  first | rfl | exact (Int.natCast_ediv _ _).symm
theorem pk_rem {a d : Nat} (ha : a < 2 ^ 31) (h0 : 0 < d) (hd : d < 2 ^ 31) : nI a - nI a / nI d * nI d = nI (a % d) := by
  rw [pk_div ha h0 hd, pk_mul, pk_sub (Nat.div_mul_le_self a d)]
  exact congrArg nI (by have := Nat.div_add_mod' a d; omega)
theorem pk_sub_toInt {a b : Nat} (ha : a < 2 ^ 30) (hb : b < 2 ^ 30) : (nI a - nI b).toInt = (a : Int) - b := by
  rw [Int32.toInt_sub, nI_toInt (by omega), nI_toInt (by omega)]
  exact Int.bmod_eq_of_le (by omega) (by omega)
theorem pk_sneg {a b : Nat} (hb : b < 2 ^ 30) (h : a < b) : nI a - nI b < 0 := by
  rw [Int32.lt_iff_toInt_lt, pk_sub_toInt (by omega) hb, show (0 : Int32).toInt = 0 from by decide]
  omega
theorem pk_ix (x : Int32) {n : Nat} (hn : n < 2 ^ 31) : x < 0 ∨ nI n ≤ x ∨ ∃ j : Nat, j < n ∧ x = nI j := by
  by_cases h : x < 0
  · exact Or.inl h
  · obtain ⟨j, hj, rfl⟩ := nI_of h
    by_cases h2 : j < n
    · exact Or.inr (Or.inr ⟨j, h2, rfl⟩)
    · exact Or.inr (Or.inl (nI_le (by omega) hj))
theorem pk_le {x y : Int32} {A B : Prop} (a b : Nat) (f : a ≤ b → A) (g : b < a → B) (hx : x = nI a := by rfl) (hy : y = nI b := by rfl) (ha : a < 2 ^ 31 := by omega) (hb : b < 2 ^ 31 := by omega) : (x ≤ y → A) ∧ (¬ x ≤ y → B) := by
  subst hx hy
  rw [nI_leI ha hb]
  exact ⟨f, fun z => g (by omega)⟩
theorem pk_lt {x y : Int32} {A B : Prop} (a b : Nat) (f : a < b → A) (g : b ≤ a → B) (hx : x = nI a := by rfl) (hy : y = nI b := by rfl) (ha : a < 2 ^ 31 := by omega) (hb : b < 2 ^ 31 := by omega) : (x < y → A) ∧ (¬ x < y → B) := by
  subst hx hy
  rw [nI_ltI ha hb]
  exact ⟨f, fun z => g (by omega)⟩
theorem pk_eq {x y : Int32} {A B : Prop} (a b : Nat) (f : a = b → A) (g : a ≠ b → B) (hx : x = nI a := by rfl) (hy : y = nI b := by rfl) (ha : a < 2 ^ 31 := by omega) (hb : b < 2 ^ 31 := by omega) : (x = y → A) ∧ (¬ x = y → B) := by
  subst hx hy
  rw [nI_eq ha hb]
  exact ⟨f, g⟩
theorem pk_in {x : Int32} (n N : Nat) (h : n < N) (hx : x = nI n := by rfl) (hN : N < 2 ^ 31 := by omega) : vp_in x N := by
  subst hx
  exact vp_in_nI h hN
theorem pk_cl {x : Int32} (n : Nat) (hx : x = nI n := by rfl) (h : n < 2 ^ 31 := by omega) : x.toNatClampNeg = n := by
  subst hx
  exact nI_clamp h
theorem pk_tn {n : Nat} (h : n < 2 ^ 32) : (nI n).toBitVec.toNat = n := Nat.mod_eq_of_lt h
theorem pk_and (x : Int32) {m : Int32} (k : Nat) (hm : m.toBitVec.toNat = 2 ^ k - 1) : x &&& m = nI (x.toBitVec.toNat % 2 ^ k) := by
  apply Int32.toBitVec_inj.mp
  apply BitVec.eq_of_toNat_eq
  rw [Int32.toBitVec_and, BitVec.toNat_and, hm, Nat.and_two_pow_sub_one_eq_mod]
  show _ = (BitVec.ofNat 32 _).toNat
  rw [BitVec.toNat_ofNat]
  exact (Nat.mod_eq_of_lt (Nat.lt_of_le_of_lt (Nat.mod_le _ _) x.toBitVec.isLt)).symm
theorem pk_andN {n : Nat} (h : n < 2 ^ 32) {m : Int32} (k : Nat) (hm : m.toBitVec.toNat = 2 ^ k - 1) : nI n &&& m = nI (n % 2 ^ k) := by
  rw [pk_and _ k hm, pk_tn h]
theorem pk_andE (x : Int32) {m : Int32} (k : Nat) (hm : m.toBitVec.toNat = 2 ^ k - 1) : ∃ j : Nat, j < 2 ^ k ∧ x &&& m = nI j := ⟨_, Nat.mod_lt _ (Nat.two_pow_pos k), pk_and x k hm⟩
theorem pk_andIn (x : Int32) {m : Int32} (k : Nat) (hm : m.toBitVec.toNat = 2 ^ k - 1) (hk : k ≤ 30) : vp_in (x &&& m) (2 ^ k) := by
  obtain ⟨j, hj, e⟩ := pk_andE x k hm
  rw [e]
  exact vp_in_nI hj (Nat.lt_of_le_of_lt (Nat.pow_le_pow_right (by decide) hk) (by decide))
theorem pk_shl (a s : Int32) (k : Nat) (hs : (s.toBitVec.smod 32).toNat = k) : (a <<< s).toBitVec.toNat = a.toBitVec.toNat * 2 ^ k % 2 ^ 32 := by
  show (a.toBitVec <<< (s.toBitVec.smod 32).toNat).toNat = _
  rw [hs, BitVec.toNat_shiftLeft, Nat.shiftLeft_eq]
theorem pk_shlN {n : Nat} (s : Int32) (k : Nat) (hs : (s.toBitVec.smod 32).toNat = k) (h : n * 2 ^ k < 2 ^ 32) : nI n <<< s = nI (n * 2 ^ k) := by
  apply Int32.toBitVec_inj.mp
  apply BitVec.eq_of_toNat_eq
  have hn : n < 2 ^ 32 := Nat.lt_of_le_of_lt (Nat.le_mul_of_pos_right n (Nat.two_pow_pos k)) h
  rw [pk_shl _ _ k hs, pk_tn hn, pk_tn h, Nat.mod_eq_of_lt h]
theorem pk_shr (a s : Int32) (k : Nat) (hs : (s.toBitVec.smod 32).toNat = k) : (a >>> s).toInt = a.toInt >>> k := by
  show (a.toBitVec.sshiftRight (s.toBitVec.smod 32).toNat).toInt = _
  rw [hs, BitVec.toInt_sshiftRight]
  rfl
theorem pk_shrN {n : Nat} (h : n < 2 ^ 31) (s : Int32) (k : Nat) (hs : (s.toBitVec.smod 32).toNat = k) : nI n >>> s = nI (n / 2 ^ k) := by
  apply Int32.toInt_inj.mp
  have h2 : n / 2 ^ k ≤ n := Nat.div_le_self _ _
  rw [pk_shr _ _ k hs, nI_toInt h, nI_toInt (by omega), Int.shiftRight_eq_div_pow]
  rfl
theorem pk_nb (z : Int32) : narrow .byte (.int z.toInt8.toInt32) = .int z.toInt8.toInt32 := congrArg Value.int (by simp)
theorem pk_vb (z : Int32) : vp_nar .byte z.toInt8.toInt32 = z.toInt8.toInt32 := by rw [vp_nar_byte]; simp
/-! ===== Int32 by its bits: bt x i ===== -/
def bt (x : Int32) (i : Nat) : Bool := x.toBitVec.getLsbD i
theorem b_ext {x y : Int32} (h : ∀ i, i < 32 → bt x i = bt y i) : x = y := Int32.toBitVec_inj.mp (BitVec.eq_of_getLsbD_eq (fun i hi => h i hi))
theorem b_or (x y : Int32) (i : Nat) : bt (x ||| y) i = (bt x i || bt y i) := by unfold bt; rw [Int32.toBitVec_or, BitVec.getLsbD_or]
theorem b_and (x y : Int32) (i : Nat) : bt (x &&& y) i = (bt x i && bt y i) := by unfold bt; rw [Int32.toBitVec_and, BitVec.getLsbD_and]
theorem b_xor (x y : Int32) (i : Nat) : bt (x ^^^ y) i = (bt x i ^^ bt y i) := by unfold bt; rw [Int32.toBitVec_xor, BitVec.getLsbD_xor]
theorem b_big {x : Int32} {i : Nat} (h : 32 ≤ i) : bt x i = false := BitVec.getLsbD_of_ge _ _ h
theorem b_255 (i : Nat) : bt 255 i = decide (i < 8) := by
  rcases Nat.lt_or_ge i 32 with h | h
  · exact (by decide +kernel : ∀ i, i < 32 → bt 255 i = decide (i < 8)) i h
  · rw [b_big h, decide_eq_false (by omega)]
theorem b_65535 (i : Nat) : bt 65535 i = decide (i < 16) := by
  rcases Nat.lt_or_ge i 32 with h | h
  · exact (by decide +kernel : ∀ i, i < 32 → bt 65535 i = decide (i < 16)) i h
  · rw [b_big h, decide_eq_false (by omega)]
theorem b_m1 : ∀ i, i < 32 → bt (-1) i = true := by decide +kernel
theorem b_0 (i : Nat) : bt 0 i = false := BitVec.getLsbD_zero
theorem s_l : ∀ n, n < 32 → ((nI n &&& 31).toBitVec.smod 32).toNat = n := by decide +kernel
theorem s_u : ∀ n, n < 32 → (((nI n).toUInt32 &&& Int32.toUInt32 31).toBitVec % 32).toNat = n := by decide +kernel
theorem b_shl (n : Nat) (hn : n < 32) (x : Int32) {i : Nat} (hi : i < 32) : bt (x <<< (nI n &&& 31)) i = (decide (n ≤ i) && bt x (i - n)) := by
  unfold bt
  rw [Int32.toBitVec_shiftLeft]
  show (x.toBitVec <<< ((nI n &&& 31).toBitVec.smod 32).toNat).getLsbD i = _
  rw [s_l n hn, BitVec.getLsbD_shiftLeft]
  rcases Nat.lt_or_ge i n with h | h
  · simp [h, Nat.not_le.mpr h]
  · simp [hi, h, Nat.not_lt.mpr h]
theorem b_ushr (n : Nat) (hn : n < 32) (x : Int32) (i : Nat) : bt ((x.toUInt32 >>> ((nI n).toUInt32 &&& Int32.toUInt32 31)).toInt32) i = bt x (n + i) := by
  show (x.toUInt32 >>> ((nI n).toUInt32 &&& Int32.toUInt32 31)).toBitVec.getLsbD i = x.toUInt32.toBitVec.getLsbD (n + i)
  rw [UInt32.toBitVec_shiftRight]
  show (x.toUInt32.toBitVec >>> (((nI n).toUInt32 &&& Int32.toUInt32 31).toBitVec % 32).toNat).getLsbD i = _
  rw [s_u n hn, BitVec.getLsbD_ushiftRight]
theorem b_sshr (n : Nat) (hn : n < 32) (x : Int32) {i : Nat} (hi : i < 32) : bt (x >>> (nI n &&& 31)) i = if n + i < 32 then bt x (n + i) else bt x 31 := by
  unfold bt
  rw [Int32.toBitVec_shiftRight]
  show (x.toBitVec.sshiftRight ((nI n &&& 31).toBitVec.smod 32).toNat).getLsbD i = _
  rw [s_l n hn, BitVec.getLsbD_sshiftRight, BitVec.msb_eq_getLsbD_last]
  simp [hi]
theorem b_shl8 (x : Int32) {i : Nat} (hi : i < 32) : bt (x <<< ((8 : Int32) &&& 31)) i = (decide (8 ≤ i) && bt x (i - 8)) := b_shl 8 (by omega) x hi
theorem b_shl16 (x : Int32) {i : Nat} (hi : i < 32) : bt (x <<< ((16 : Int32) &&& 31)) i = (decide (16 ≤ i) && bt x (i - 16)) := b_shl 16 (by omega) x hi
theorem b_shl24 (x : Int32) {i : Nat} (hi : i < 32) : bt (x <<< ((24 : Int32) &&& 31)) i = (decide (24 ≤ i) && bt x (i - 24)) := b_shl 24 (by omega) x hi
theorem b_sshr8 (x : Int32) {i : Nat} (hi : i < 32) : bt (x >>> ((8 : Int32) &&& 31)) i = if 8 + i < 32 then bt x (8 + i) else bt x 31 := b_sshr 8 (by omega) x hi
end
section
/-! bits: masks by their bits, lists of set bits, lowest, ones -/
theorem gb_bt1 (i : Nat) : bt 1 i = decide (i = 0) := by
  rcases Nat.lt_or_ge i 32 with h | h
  · exact (by decide +kernel : ∀ i, i < 32 → bt 1 i = decide (i = 0)) i h
  · rw [b_big h, decide_eq_false (by omega)]
theorem gb_one {n : Nat} (hn : n < 32) (i : Nat) : bt ((1 : Int32) <<< (nI n &&& 31)) i = decide (i = n) := by
  rcases Nat.lt_or_ge i 32 with h | h
  · rw [b_shl n hn 1 h, gb_bt1]
    by_cases e : i = n
    · subst e; simp
    · rw [decide_eq_false e]
      by_cases e2 : n ≤ i
      · rw [decide_eq_false (p := i - n = 0) (by omega)]; simp
      · rw [decide_eq_false e2]; simp
  · rw [b_big h, decide_eq_false (by omega)]
theorem gb_not {x : Int32} {i : Nat} (hi : i < 32) : bt (x ^^^ (-1)) i = !(bt x i) := by
  rw [b_xor, b_m1 i hi]; cases bt x i <;> rfl
theorem gb_s0 (x : Int32) {n : Nat} (hn : n < 32) : bt (x >>> (nI n &&& 31)) 0 = bt x n := by
  rw [b_sshr n hn x (by omega), if_pos (by omega)]; rfl
theorem gb_tst (x : Int32) {n : Nat} (hn : n < 32) : ((x >>> (nI n &&& 31)) &&& 1) = 0 ↔ bt x n = false := by
  constructor
  · intro h
    have := congrArg (fun y => bt y 0) h
    rw [b_and, gb_s0 x hn, gb_bt1, b_0] at this
    simpa using this
  · intro h
    apply b_ext
    intro i hi
    rw [b_and, gb_bt1, b_0]
    by_cases e : i = 0
    · subst e; rw [gb_s0 x hn, h]; rfl
    · rw [decide_eq_false e]; simp
theorem gb_tst1 (x : Int32) {n : Nat} (hn : n < 32) : ((x >>> (nI n &&& 31)) &&& 1) = 1 ↔ bt x n = true := by
  constructor
  · intro h
    have := congrArg (fun y => bt y 0) h
    rw [b_and, gb_s0 x hn, gb_bt1] at this
    simpa using this
  · intro h
    apply b_ext
    intro i hi
    rw [b_and, gb_bt1]
    by_cases e : i = 0
    · subst e; rw [gb_s0 x hn, h]; rfl
    · rw [decide_eq_false e]; simp
/-- a branch by one bit -/
theorem gb_br {x : Int32} {A B : Prop} (n : Nat) (hn : n < 32) (f : bt x n = false → A) (g : bt x n = true → B) : (((x >>> (nI n &&& 31)) &&& 1) = 0 → A) ∧ (¬ ((x >>> (nI n &&& 31)) &&& 1) = 0 → B) := by
  rw [gb_tst x hn]
  exact ⟨f, fun z => g (by cases h : bt x n <;> simp_all)⟩
theorem gb_br1 {x : Int32} {A B : Prop} (n : Nat) (hn : n < 32) (f : bt x n = true → A) (g : bt x n = false → B) : (((x >>> (nI n &&& 31)) &&& 1) = 1 → A) ∧ (¬ ((x >>> (nI n &&& 31)) &&& 1) = 1 → B) := by
  rw [gb_tst1 x hn]
  exact ⟨f, fun z => g (by cases h : bt x n <;> simp_all)⟩
def gb_mkm (p : Nat → Bool) : Nat → Int32
  | 0 => 0
  | k + 1 => gb_mkm p k ||| (if p k then (1 : Int32) <<< (nI k &&& 31) else 0)
def gb_mk (p : Nat → Bool) : Int32 := gb_mkm p 32
theorem gb_mkm_b (p : Nat → Bool) (i : Nat) : ∀ k, k ≤ 32 → bt (gb_mkm p k) i = (decide (i < k) && p i)
  | 0, _ => by show bt 0 i = _; rw [b_0]; simp
  | k + 1, h => by
    show bt (gb_mkm p k ||| _) i = _
    rw [b_or, gb_mkm_b p i k (by omega)]
    have e : bt (if p k then (1 : Int32) <<< (nI k &&& 31) else 0) i = (decide (i = k) && p i) := by
      by_cases z : i = k
      · subst z
        cases hp : p i
        · simp [b_0]
        · simp [gb_one (n := i) (by omega)]
      · cases hp : p k
        · simp [b_0, z]
        · simp [gb_one (n := k) (by omega), z]
    rw [e]
    by_cases z : i = k
    · subst z; simp
    · have : decide (i < k + 1) = decide (i < k) := by
        by_cases y : i < k
        · rw [decide_eq_true y, decide_eq_true (by omega)]
        · rw [decide_eq_false y, decide_eq_false (by omega)]
      rw [this, decide_eq_false z]; simp
theorem gb_mk_b (p : Nat → Bool) (i : Nat) : bt (gb_mk p) i = (decide (i < 32) && p i) := gb_mkm_b p i 32 (by omega)
theorem gb_mk_l (p : Nat → Bool) {i : Nat} (h : i < 32) : bt (gb_mk p) i = p i := by rw [gb_mk_b, decide_eq_true h]; rfl
theorem gb_mk_of {x : Int32} {p : Nat → Bool} (h : ∀ i, i < 32 → bt x i = p i) : x = gb_mk p := b_ext (fun i hi => by rw [h i hi, gb_mk_l p hi])
theorem gb_mk_e {p q : Nat → Bool} (h : ∀ i, i < 32 → p i = q i) : gb_mk p = gb_mk q := b_ext (fun i hi => by rw [gb_mk_l p hi, gb_mk_l q hi, h i hi])
theorem gb_mk_0 : gb_mk (fun _ => false) = 0 := b_ext (fun i hi => by rw [gb_mk_l _ hi, b_0])
theorem gb_eq0 {x : Int32} (h : ∀ i, i < 32 → bt x i = false) : x = 0 := b_ext (fun i hi => by rw [h i hi, b_0])
theorem gb_lt {x : Int32} {i : Nat} (h : bt x i = true) : i < 32 := by
  rcases Nat.lt_or_ge i 32 with z | z
  · exact z
  · rw [b_big z] at h; cases h
/-! lists of numbers with a property -/
def gb_fl (p : Nat → Bool) : Nat → Nat → List Nat
  | _, 0 => []
  | i, d + 1 => if p i then i :: gb_fl p (i + 1) d else gb_fl p (i + 1) d
theorem gb_fl_m {p : Nat → Bool} {n : Nat} : ∀ {d i : Nat}, n ∈ gb_fl p i d ↔ i ≤ n ∧ n < i + d ∧ p n = true
  | 0, i => by simp [gb_fl]; omega
  | d + 1, i => by
    unfold gb_fl
    cases hp : p i
    · simp only [Bool.false_eq_true, if_false]
      rw [gb_fl_m]
      constructor
      · intro h; exact ⟨by omega, by omega, h.2.2⟩
      · intro h
        have : n ≠ i := fun e => by subst e; simp [hp] at h
        exact ⟨by omega, by omega, h.2.2⟩
    · simp only [if_true, List.mem_cons]
      rw [gb_fl_m]
      constructor
      · intro h
        rcases h with h | h
        · subst h; exact ⟨by omega, by omega, hp⟩
        · exact ⟨by omega, by omega, h.2.2⟩
      · intro h
        by_cases e : n = i
        · exact Or.inl e
        · exact Or.inr ⟨by omega, by omega, h.2.2⟩
theorem gb_fl_c {p q : Nat → Bool} : ∀ {d i : Nat}, (∀ n, i ≤ n → n < i + d → p n = q n) → gb_fl p i d = gb_fl q i d
  | 0, _, _ => rfl
  | d + 1, i, h => by
    unfold gb_fl
    rw [h i (by omega) (by omega), gb_fl_c (fun n h1 h2 => h n (by omega) (by omega))]
theorem gb_fl_0 {p : Nat → Bool} : ∀ {d i : Nat}, (∀ n, i ≤ n → n < i + d → p n = false) → gb_fl p i d = []
  | 0, _, _ => rfl
  | d + 1, i, h => by
    unfold gb_fl
    rw [h i (by omega) (by omega), gb_fl_0 (fun n h1 h2 => h n (by omega) (by omega))]; rfl
theorem gb_fl_app (p : Nat → Bool) (k : Nat) : ∀ (d i : Nat), gb_fl p i (d + k) = gb_fl p i d ++ gb_fl p (i + d) k
  | 0, i => by rw [Nat.zero_add]; rfl
  | d + 1, i => by
    have e : d + 1 + k = (d + k) + 1 := by omega
    have e2 : i + (d + 1) = i + 1 + d := by omega
    rw [e, e2]
    show (if p i then i :: gb_fl p (i + 1) (d + k) else gb_fl p (i + 1) (d + k)) = (if p i then i :: gb_fl p (i + 1) d else gb_fl p (i + 1) d) ++ _
    rw [gb_fl_app p k d (i + 1)]
    cases p i <;> rfl
theorem gb_fl_cut {p : Nat → Bool} {i d k : Nat} (h : ∀ n, i + d ≤ n → n < i + d + k → p n = false) : gb_fl p i (d + k) = gb_fl p i d := by
  rw [gb_fl_app, gb_fl_0 h, List.append_nil]
theorem gb_fl_len (p : Nat → Bool) : ∀ (d i : Nat), (gb_fl p i d).length ≤ d
  | 0, _ => Nat.le_refl _
  | d + 1, i => by
    unfold gb_fl
    have := gb_fl_len p d (i + 1)
    cases p i
    · simp only [Bool.false_eq_true, if_false]; omega
    · simp only [if_true, List.length_cons]; omega
/-- the first one of a list, and the rest -/
theorem gb_fl_1 {p : Nat → Bool} {n : Nat} {t : List Nat} : ∀ {d i : Nat}, gb_fl p i d = n :: t → p n = true ∧ i ≤ n ∧ n < i + d ∧ (∀ k, i ≤ k → k < n → p k = false) ∧ t = gb_fl p (n + 1) (i + d - (n + 1))
  | 0, i, h => by cases h
  | d + 1, i, h => by
    unfold gb_fl at h
    cases hp : p i
    · rw [hp] at h
      simp only [Bool.false_eq_true, if_false] at h
      obtain ⟨a, b, c, e, f⟩ := gb_fl_1 h
      refine ⟨a, by omega, by omega, fun k h1 h2 => ?_, ?_⟩
      · by_cases z : k = i
        · subst z; exact hp
        · exact e k (by omega) h2
      · rw [f]; congr 1; omega
    · rw [hp] at h
      simp only [if_true] at h
      injection h with h1 h2
      subst h1
      refine ⟨hp, by omega, by omega, fun k h1 h2 => by omega, ?_⟩
      rw [← h2]; congr 1; omega
theorem gb_fl_t {p : Nat → Bool} {n : Nat} {t : List Nat} : ∀ {d i : Nat}, gb_fl p i d = n :: t → gb_fl (fun k => p k && decide (k ≠ n)) i d = t
  | 0, i, h => by cases h
  | d + 1, i, h => by
    have h0 := gb_fl_1 h
    unfold gb_fl at h ⊢
    cases hp : p i
    · rw [hp] at h
      simp only [Bool.false_eq_true, if_false, Bool.false_and] at h ⊢
      exact gb_fl_t h
    · rw [hp] at h
      simp only [if_true] at h
      injection h with h1 h2
      subst h1
      simp only [ne_eq, not_true, decide_false, Bool.and_false, Bool.false_eq_true, if_false]
      rw [← h2]
      apply gb_fl_c
      intro k h3 h4
      have : k ≠ i := by omega
      simp [this]
theorem gb_fl_nil {p : Nat → Bool} {d i : Nat} (h : gb_fl p i d = []) : ∀ n, i ≤ n → n < i + d → p n = false := by
  intro n h1 h2
  cases hp : p n
  · rfl
  · have : n ∈ gb_fl p i d := gb_fl_m.mpr ⟨h1, h2, hp⟩
    rw [h] at this; cases this
theorem gb_fl_nd (p : Nat → Bool) : ∀ (d i : Nat), (gb_fl p i d).Nodup
  | 0, _ => List.nodup_nil
  | d + 1, i => by
    unfold gb_fl
    cases p i
    · exact gb_fl_nd p d (i + 1)
    · refine List.nodup_cons.mpr ⟨fun h => ?_, gb_fl_nd p d (i + 1)⟩
      have := (gb_fl_m.mp h).1
      omega
def gb_bl (x : Int32) : List Nat := gb_fl (bt x) 0 32
theorem gb_bl_0 {x : Int32} (h : gb_bl x = []) : x = 0 := gb_eq0 (fun i hi => gb_fl_nil h i (by omega) (by omega))
theorem gb_bl_n {x : Int32} {e : Nat} {es : List Nat} (h : gb_bl x = e :: es) : ¬ x = 0 := by
  intro z
  have := (gb_fl_1 h).1
  rw [z, b_0] at this
  cases this
theorem gb_bl_z : gb_bl 0 = [] := gb_fl_0 (fun n _ _ => b_0 n)
theorem gb_bl_m {x : Int32} {n : Nat} : n ∈ gb_bl x ↔ bt x n = true := by
  unfold gb_bl
  rw [gb_fl_m]
  exact ⟨fun h => h.2.2, fun h => ⟨by omega, by have := gb_lt h; omega, h⟩⟩
theorem gb_bl_mk {p : Nat → Bool} {d : Nat} (hd : d ≤ 32) (h : ∀ i, d ≤ i → i < 32 → p i = false) : gb_bl (gb_mk p) = gb_fl p 0 d := by
  unfold gb_bl
  obtain ⟨k, hk⟩ : ∃ k, 32 = d + k := ⟨32 - d, by omega⟩
  rw [gb_fl_c (q := p) (fun n _ h2 => gb_mk_l p (by omega)), hk]
  exact gb_fl_cut (fun n h1 h2 => h n (by omega) (by omega))
/-- the mask without its lowest bit -/
theorem gb_clr {x : Int32} {e : Nat} {es : List Nat} (h : gb_bl x = e :: es) : gb_bl (x &&& (((1 : Int32) <<< (nI e &&& 31)) ^^^ (-1))) = es := by
  have h1 := gb_fl_1 h
  rw [← gb_fl_t h]
  apply gb_fl_c
  intro n _ hn
  rw [b_and, gb_not (by omega), gb_one (by omega)]
  by_cases z : n = e <;> simp [z]
theorem gb_nat {N e : Nat} (h1 : N.testBit e = true) (h2 : ∀ k, k < e → N.testBit k = false) : ∃ q, N = 2 ^ (e + 1) * q + 2 ^ e := by
  have a : N % 2 ^ e = 0 := by
    apply Nat.eq_of_testBit_eq
    intro k
    rw [Nat.testBit_mod_two_pow, Nat.zero_testBit]
    by_cases z : k < e
    · rw [h2 k z]; simp
    · simp [z]
  have b : N / 2 ^ e % 2 = 1 := by
    have := h1
    rw [Nat.testBit_eq_decide_div_mod_eq] at this
    simpa using this
  refine ⟨N / 2 ^ e / 2, ?_⟩
  have c := Nat.div_add_mod N (2 ^ e)
  have d := Nat.div_add_mod (N / 2 ^ e) 2
  rw [a, Nat.add_zero] at c
  rw [b] at d
  rw [Nat.pow_succ, Nat.mul_assoc]
  calc N = 2 ^ e * (N / 2 ^ e) := c.symm
    _ = 2 ^ e * (2 * (N / 2 ^ e / 2) + 1) := by rw [d]
    _ = _ := by rw [Nat.mul_add, Nat.mul_one]
theorem gb_natb {q e k : Nat} : (2 ^ (e + 1) * q + 2 ^ e - 1).testBit k = if k < e + 1 then decide (k < e) else q.testBit (k - (e + 1)) := by
  have hp : 0 < 2 ^ e := Nat.two_pow_pos e
  have e1 : 2 ^ (e + 1) * q + 2 ^ e - 1 = 2 ^ (e + 1) * q + (2 ^ e - 1) := by omega
  rw [e1, Nat.testBit_two_pow_mul_add _ (by rw [Nat.pow_succ]; omega)]
  by_cases z : k < e + 1
  · rw [if_pos z, if_pos z, Nat.testBit_two_pow_sub_one]
  · rw [if_neg z, if_neg z]
theorem gb_natc {q e k : Nat} : (2 ^ (e + 1) * q + 2 ^ e).testBit k = if k < e + 1 then decide (k = e) else q.testBit (k - (e + 1)) := by
  have hp : 0 < 2 ^ e := Nat.two_pow_pos e
  rw [Nat.testBit_two_pow_mul_add _ (by rw [Nat.pow_succ]; omega)]
  by_cases z : k < e + 1
  · rw [if_pos z, if_pos z, Nat.testBit_two_pow]
    by_cases y : e = k
    · simp [y]
    · have y' : k ≠ e := fun w => y w.symm
      simp [y, y']
  · rw [if_neg z, if_neg z]
theorem gb_btN (x : Int32) (i : Nat) : bt x i = x.toBitVec.toNat.testBit i := rfl
theorem gb_rst {x : Int32} {e : Nat} {es : List Nat} (h : gb_bl x = e :: es) : gb_bl (x &&& (x - 1)) = es := by
  obtain ⟨h1, _, h2, h3, _⟩ := gb_fl_1 h
  obtain ⟨q, hq⟩ := gb_nat (N := x.toBitVec.toNat) (e := e) h1 (fun k hk => h3 k (by omega) hk)
  have hp : 0 < 2 ^ e := Nat.two_pow_pos e
  have hlt := x.toBitVec.isLt
  have hm : (x - 1).toBitVec.toNat = 2 ^ (e + 1) * q + 2 ^ e - 1 := by
    rw [Int32.toBitVec_sub, BitVec.toNat_sub, hq]
    show (2 ^ 32 - 1 + _) % 2 ^ 32 = _
    rw [hq] at hlt
    generalize 2 ^ (e + 1) * q + 2 ^ e = A at *
    have : 0 < A := by
      rcases Nat.eq_zero_or_pos A with z | z
      · rw [z] at hq
        rw [gb_btN, hq, Nat.zero_testBit] at h1
        cases h1
      · exact z
    omega
  rw [← gb_fl_t h]
  apply gb_fl_c
  intro n _ hn
  rw [b_and, gb_btN, gb_btN, hm, hq, gb_natb, gb_natc]
  by_cases z : n < e + 1
  · simp only [if_pos z]
    by_cases y : n = e
    · simp [y]
    · simp [y]
  · simp only [if_neg z]
    have : n ≠ e := by omega
    simp [this]
theorem gb_low_l {post : Int32 → Prop} {x : Int32} {e : Nat} (he : e < 32) (h0 : ∀ k, k < e → bt x k = false) (h1 : bt x e = true) (hp : post (nI e)) : ∀ d i n, i + d = e → d < n → wX_lowest_2 post x n (nI i)
  | 0, i, 0, _, hn => by omega
  | d + 1, i, 0, _, hn => by omega
  | 0, i, n + 1, hi, hn => by
    have : i = e := by omega
    subst this
    refine pk_le 31 i (fun _ => hp) (fun h => ?_)
    exact gb_br i he (fun z => by rw [h1] at z; cases z) (fun _ => hp)
  | d + 1, i, n + 1, hi, hn => by
    refine pk_le 31 i (fun h => by omega) (fun h => ?_)
    refine gb_br i (by omega) (fun _ => ?_) (fun z => by rw [h0 i (by omega)] at z; cases z)
    exact nm_r (nI_1 i) (gb_low_l he h0 h1 hp d (i + 1) n (by omega) (by omega))
theorem gb_low {post : Int32 → Prop} {x : Int32} {e : Nat} {es : List Nat} (h : gb_bl x = e :: es) (hp : post (nI e)) : wpX_lowest post x := by
  obtain ⟨h1, _, h2, h3, _⟩ := gb_fl_1 h
  exact Exists.intro (e + 1) (gb_low_l (by omega) (fun k hk => h3 k (by omega) hk) h1 hp e 0 (e + 1) (by omega) (by omega))
theorem gb_ones_l {post : Int32 → Prop} : ∀ (l : List Nat) (x acc : Int32) (n : Nat), gb_bl x = l → l.length < n → post (acc + nI l.length) → wX_ones_4 post n acc x
  | [], x, acc, 0, _, hn, _ => by simp at hn
  | a :: l, x, acc, 0, _, hn, _ => by simp at hn
  | [], x, acc, n + 1, h, hn, hp => by
    have e : acc + nI 0 = acc := by rw [nI_0]; exact Int32.add_zero acc
    exact br_t (gb_bl_0 h) (by rw [← e]; exact hp)
  | a :: l, x, acc, n + 1, h, hn, hp => by
    refine br_f (gb_bl_n h) (nm_e (nm_e ?_))
    refine gb_ones_l l _ (acc + 1) n (gb_rst h) (by simpa using hn) ?_
    have e : acc + 1 + nI l.length = acc + nI (a :: l).length := by
      rw [List.length_cons, ← nI_1, Int32.add_assoc, Int32.add_comm 1]
    rw [e]; exact hp
theorem gb_ones {post : Int32 → Prop} {x : Int32} (hp : post (nI (gb_bl x).length)) : wpX_ones post x := by
  refine Exists.intro _ (gb_ones_l _ x 0 ((gb_bl x).length + 1) rfl (by omega) ?_)
  rw [Int32.zero_add]; exact hp
theorem gb_bl_len (x : Int32) : (gb_bl x).length ≤ 32 := gb_fl_len _ _ _
/-- an ascending search for one that holds: 'there is one in [i, i + d)' -/
def gb_an (f : Nat → Bool) : Nat → Nat → Bool
  | _, 0 => false
  | i, d + 1 => f i || gb_an f (i + 1) d
theorem gb_an_iff {f : Nat → Bool} : ∀ {d i : Nat}, gb_an f i d = true ↔ ∃ t, i ≤ t ∧ t < i + d ∧ f t = true
  | 0, i => by
    constructor
    · intro h; cases h
    · rintro ⟨t, h1, h2, _⟩; omega
  | d + 1, i => by
    show (f i || gb_an f (i + 1) d) = true ↔ _
    rw [Bool.or_eq_true, gb_an_iff]
    constructor
    · rintro (h | ⟨t, h1, h2, h3⟩)
      · exact ⟨i, by omega, by omega, h⟩
      · exact ⟨t, by omega, by omega, h3⟩
    · rintro ⟨t, h1, h2, h3⟩
      by_cases z : t = i
      · subst z; exact Or.inl h3
      · exact Or.inr ⟨t, by omega, by omega, h3⟩
theorem gb_an_c {f g : Nat → Bool} : ∀ {d i : Nat}, (∀ t, i ≤ t → t < i + d → f t = g t) → gb_an f i d = gb_an g i d
  | 0, _, _ => rfl
  | d + 1, i, h => by
    show (f i || gb_an f (i + 1) d) = (g i || gb_an g (i + 1) d)
    rw [h i (by omega) (by omega), gb_an_c (fun t h1 h2 => h t (by omega) (by omega))]
/-- all in [i, i + d) -/
def gb_al (f : Nat → Bool) : Nat → Nat → Bool
  | _, 0 => true
  | i, d + 1 => f i && gb_al f (i + 1) d
theorem gb_al_iff {f : Nat → Bool} : ∀ {d i : Nat}, gb_al f i d = true ↔ ∀ t, i ≤ t → t < i + d → f t = true
  | 0, i => ⟨fun _ t h1 h2 => by omega, fun _ => rfl⟩
  | d + 1, i => by
    show (f i && gb_al f (i + 1) d) = true ↔ _
    rw [Bool.and_eq_true, gb_al_iff]
    constructor
    · rintro ⟨h, h'⟩ t h1 h2
      by_cases z : t = i
      · subst z; exact h
      · exact h' t (by omega) (by omega)
    · intro h
      exact ⟨h i (by omega) (by omega), fun t h1 h2 => h t (by omega) (by omega)⟩
theorem gb_al_c {f g : Nat → Bool} : ∀ {d i : Nat}, (∀ t, i ≤ t → t < i + d → f t = g t) → gb_al f i d = gb_al g i d
  | 0, _, _ => rfl
  | d + 1, i, h => by
    show (f i && gb_al f (i + 1) d) = (g i && gb_al g (i + 1) d)
    rw [h i (by omega) (by omega), gb_al_c (fun t h1 h2 => h t (by omega) (by omega))]
theorem gb_bool {a b : Bool} (h : a = true ↔ b = true) : a = b := by
  cases a <;> cases b <;> simp_all
end
section
/-! pure: folds over a commutative monoid, assignments, lists of completions -/
def gp_CM {M : Type} (op : M → M → M) (z : M) : Prop := (∀ a b, op a b = op b a) ∧ (∀ a b c, op (op a b) c = op a (op b c)) ∧ (∀ a, op z a = a)
def gp_fs {M α : Type} (op : M → M → M) (z : M) (f : α → M) : List α → M
  | [] => z
  | a :: l => op (f a) (gp_fs op z f l)
section
variable {M α β : Type} {op : M → M → M} {z : M}
theorem gp_fs_app (h : gp_CM op z) (f : α → M) : ∀ l1 l2 : List α, gp_fs op z f (l1 ++ l2) = op (gp_fs op z f l1) (gp_fs op z f l2)
  | [], l2 => (h.2.2 _).symm
  | a :: l1, l2 => by
    show op (f a) (gp_fs op z f (l1 ++ l2)) = op (op (f a) (gp_fs op z f l1)) _
    rw [gp_fs_app h f l1 l2, h.2.1]
theorem gp_fs_c {f g : α → M} : ∀ {l : List α}, (∀ a, a ∈ l → f a = g a) → gp_fs op z f l = gp_fs op z g l
  | [], _ => rfl
  | a :: l, h => by
    show op (f a) _ = op (g a) _
    rw [h a (List.mem_cons_self ..), gp_fs_c (fun b hb => h b (List.mem_cons_of_mem _ hb))]
theorem gp_fs_z (h : gp_CM op z) : ∀ l : List α, gp_fs op z (fun _ => z) l = z
  | [] => rfl
  | a :: l => by
    show op z _ = z
    rw [gp_fs_z h l, h.2.2]
theorem gp_fs_op (h : gp_CM op z) (f g : α → M) : ∀ l : List α, gp_fs op z (fun a => op (f a) (g a)) l = op (gp_fs op z f l) (gp_fs op z g l)
  | [] => (h.2.2 _).symm
  | a :: l => by
    show op (op (f a) (g a)) _ = op (op (f a) _) (op (g a) _)
    rw [gp_fs_op h f g l]
    generalize gp_fs op z f l = A
    generalize gp_fs op z g l = B
    rw [h.2.1, h.2.1, ← h.2.1 (g a) A B, h.1 (g a) A, h.2.1 A (g a) B]
theorem gp_fs_swap (h : gp_CM op z) (f : α → β → M) (l2 : List β) : ∀ l1 : List α, gp_fs op z (fun a => gp_fs op z (fun b => f a b) l2) l1 = gp_fs op z (fun b => gp_fs op z (fun a => f a b) l1) l2
  | [] => (gp_fs_z h l2).symm
  | a :: l1 => by
    show op (gp_fs op z (fun b => f a b) l2) (gp_fs op z (fun a => gp_fs op z (fun b => f a b) l2) l1) = gp_fs op z (fun b => op (f a b) (gp_fs op z (fun a => f a b) l1)) l2
    rw [gp_fs_swap h f l2 l1, gp_fs_op h]
theorem gp_fs_fm (h : gp_CM op z) (f : β → M) (F : α → List β) : ∀ l : List α, gp_fs op z f (l.flatMap F) = gp_fs op z (fun a => gp_fs op z f (F a)) l
  | [] => rfl
  | a :: l => by
    rw [List.flatMap_cons, gp_fs_app h, gp_fs_fm h f F l]
    rfl
theorem gp_fs_fl (h : gp_CM op z) (f : Nat → M) (p : Nat → Bool) : ∀ d i, gp_fs op z f (gb_fl p i d) = gp_fs op z (fun n => if p n then f n else z) (gb_fl (fun _ => true) i d)
  | 0, i => rfl
  | d + 1, i => by
    show gp_fs op z f (if p i then i :: gb_fl p (i + 1) d else gb_fl p (i + 1) d) = op (if p i then f i else z) (gp_fs op z (fun n => if p n then f n else z) (gb_fl (fun _ => true) (i + 1) d))
    rw [← gp_fs_fl h f p d (i + 1)]
    cases p i
    · exact (h.2.2 _).symm
    · rfl
end
theorem gp_cmN : gp_CM (fun a b : Nat => a + b) 0 := ⟨Nat.add_comm, Nat.add_assoc, Nat.zero_add⟩
theorem gp_len {α : Type} : ∀ l : List α, l.length = gp_fs (fun a b : Nat => a + b) 0 (fun _ => 1) l
  | [] => rfl
  | a :: l => by
    rw [List.length_cons, gp_len l]
    exact Nat.add_comm _ _
theorem gp_len_fm {α β : Type} (F : α → List β) (l : List α) : (l.flatMap F).length = gp_fs (fun a b : Nat => a + b) 0 (fun a => (F a).length) l := by
  rw [gp_len, gp_fs_fm gp_cmN]
  exact gp_fs_c (fun a _ => (gp_len (F a)).symm)
/-! assignments: 50 is 'nothing chosen' -/
def gp_st (g : Nat → Nat) (i n : Nat) : Nat → Nat := fun k => if k = i then n else g k
theorem gp_st_s {g : Nat → Nat} {i n : Nat} : gp_st g i n i = n := if_pos rfl
theorem gp_st_n {g : Nat → Nat} {i n k : Nat} (h : k ≠ i) : gp_st g i n k = g k := if_neg h
theorem gp_st_cm {g : Nat → Nat} {i j : Nat} (h : i ≠ j) (n m : Nat) : gp_st (gp_st g i n) j m = gp_st (gp_st g j m) i n := by
  funext k
  unfold gp_st
  by_cases h1 : k = i
  · have : k ≠ j := fun e => h (h1.symm.trans e)
    simp [h1, h]
  · simp [h1]
def gp_S {M : Type} (op : M → M → M) (z : M) (ok : (Nat → Nat) → Bool) (val : (Nat → Nat) → M) : List Nat → (Nat → Nat) → M
  | [], g => if ok g then val g else z
  | i :: us, g => gp_fs op z (fun n => gp_S op z ok val us (gp_st g i n)) (gb_fl (fun _ => true) 0 12)
def gp_lim (p : Nat) : Nat := if p < 4 then 12 else 20
def gp_Y (ft : (Nat → Nat) → Nat → Nat → Bool) : List Nat → (Nat → Nat) → List (Nat → Nat)
  | [], g => [g]
  | p :: ps, g => (gb_fl (ft g p) 0 (gp_lim p)).flatMap (fun n => gp_Y ft ps (gp_st g p n))
def gp_L (ft : (Nat → Nat) → Nat → Nat → Bool) (pk : (Nat → Nat) → Nat) : Nat → (Nat → Nat) → List (Nat → Nat)
  | 0, g => [g]
  | m + 1, g => (gb_fl (ft g (pk g)) 0 12).flatMap (fun n => gp_L ft pk m (gp_st g (pk g) n))
def gp_us (sp : Nat → Bool) (g : Nat → Nat) : List Nat := gb_fl (fun i => sp i && decide (g i = 50)) 0 4
theorem gp_us_m {sp : Nat → Bool} {g : Nat → Nat} {i : Nat} : i ∈ gp_us sp g ↔ i < 4 ∧ sp i = true ∧ g i = 50 := by
  unfold gp_us
  rw [gb_fl_m, Bool.and_eq_true, decide_eq_true_eq]
  constructor
  · intro h; exact ⟨by omega, h.2.2.1, h.2.2.2⟩
  · intro h; exact ⟨by omega, by omega, h.2.1, h.2.2⟩
theorem gp_us_nd (sp : Nat → Bool) (g : Nat → Nat) : (gp_us sp g).Nodup := gb_fl_nd _ _ _
theorem gb_fl_er (p : Nat → Bool) (k : Nat) : ∀ d i, (gb_fl p i d).erase k = gb_fl (fun t => p t && decide (t ≠ k)) i d
  | 0, i => rfl
  | d + 1, i => by
    unfold gb_fl
    cases hp : p i
    · simp only [Bool.false_eq_true, if_false, Bool.false_and]
      exact gb_fl_er p k d (i + 1)
    · by_cases e : i = k
      · subst e
        simp only [if_true, List.erase_cons_head, ne_eq, not_true, decide_false, Bool.and_false, Bool.false_eq_true, if_false]
        apply gb_fl_c
        intro n h1 h2
        have : n ≠ i := by omega
        simp [this]
      · have e2 : (i == k) = false := by simpa using e
        simp only [if_true, Bool.true_and, ne_eq, e, not_false_eq_true, decide_true]
        rw [List.erase_cons_tail (by simpa using e), gb_fl_er p k d (i + 1)]
theorem gp_us_st {sp : Nat → Bool} {g : Nat → Nat} {i n : Nat} (hi : i ∈ gp_us sp g) (hn : n ≠ 50) : gp_us sp (gp_st g i n) = (gp_us sp g).erase i := by
  unfold gp_us
  rw [gb_fl_er]
  apply gb_fl_c
  intro k _ _
  by_cases e : k = i
  · subst e
    rw [gp_st_s]
    simp [hn]
  · rw [gp_st_n e]
    simp [e]
section
variable {M : Type} {op : M → M → M} {z : M} {ok : (Nat → Nat) → Bool} {val : (Nat → Nat) → M}
theorem gp_S_sw (h : gp_CM op z) {i j : Nat} (hij : i ≠ j) (us : List Nat) (g : Nat → Nat) : gp_S op z ok val (i :: j :: us) g = gp_S op z ok val (j :: i :: us) g := by
  show gp_fs op z (fun n => gp_fs op z (fun m => gp_S op z ok val us (gp_st (gp_st g i n) j m)) (gb_fl (fun _ => true) 0 12)) (gb_fl (fun _ => true) 0 12) = gp_fs op z (fun n => gp_fs op z (fun m => gp_S op z ok val us (gp_st (gp_st g j n) i m)) (gb_fl (fun _ => true) 0 12)) (gb_fl (fun _ => true) 0 12)
  rw [gp_fs_swap h]
  apply gp_fs_c
  intro m _
  apply gp_fs_c
  intro n _
  rw [gp_st_cm hij]
theorem gp_S_mv (h : gp_CM op z) {i : Nat} : ∀ {us : List Nat} (g : Nat → Nat), i ∈ us → gp_S op z ok val us g = gp_S op z ok val (i :: us.erase i) g
  | [], g, hi => by cases hi
  | a :: us, g, hi => by
    by_cases e : a = i
    · subst e; rw [List.erase_cons_head]
    · have hi2 : i ∈ us := by
        rcases List.mem_cons.mp hi with z | z
        · exact absurd z.symm e
        · exact z
      rw [List.erase_cons_tail (by simpa using e), gp_S_sw h (fun z => e z.symm)]
      show gp_fs op z (fun n => gp_S op z ok val us (gp_st g a n)) _ = gp_fs op z (fun n => gp_S op z ok val (i :: us.erase i) (gp_st g a n)) _
      exact gp_fs_c (fun n _ => gp_S_mv h _ hi2)
theorem gp_tt {n d i : Nat} (h : n ∈ gb_fl (fun _ => true) i d) : i ≤ n ∧ n < i + d := ⟨(gb_fl_m.mp h).1, (gb_fl_m.mp h).2.1⟩
/-- how 'ok' grows by one choice -/
def gp_Gr (sp : Nat → Bool) (ok : (Nat → Nat) → Bool) (ft : (Nat → Nat) → Nat → Nat → Bool) : Prop := ∀ g i n, i < 4 → sp i = true → g i = 50 → n < 12 → ok (gp_st g i n) = (ok g && ft g i n)
theorem gp_S_z (h : gp_CM op z) {sp : Nat → Bool} {ft : (Nat → Nat) → Nat → Nat → Bool} (H : gp_Gr sp ok ft) : ∀ (us : List Nat) (g : Nat → Nat), us.Nodup → (∀ i, i ∈ us → i < 4 ∧ sp i = true ∧ g i = 50) → ok g = false → gp_S op z ok val us g = z
  | [], g, _, _, hk => by
    show (if ok g then val g else z) = z
    rw [hk]; rfl
  | i :: us, g, hd, hu, hk => by
    show gp_fs op z (fun n => gp_S op z ok val us (gp_st g i n)) _ = z
    have hi := hu i (List.mem_cons_self ..)
    have hd2 := List.nodup_cons.mp hd
    rw [gp_fs_c (g := fun _ => z), gp_fs_z h]
    intro n hn
    apply gp_S_z h H us _ hd2.2
    · intro k hk2
      have e : k ≠ i := fun e => hd2.1 (e ▸ hk2)
      rw [gp_st_n e]
      exact hu k (List.mem_cons_of_mem _ hk2)
    · rw [H g i n hi.1 hi.2.1 hi.2.2 (by have := gp_tt hn; omega), hk]; rfl
theorem gp_Y_S (h : gp_CM op z) {sp : Nat → Bool} {ft : (Nat → Nat) → Nat → Nat → Bool} (H : gp_Gr sp ok ft) : ∀ (us : List Nat) (g : Nat → Nat), us.Nodup → (∀ i, i ∈ us → i < 4 ∧ sp i = true ∧ g i = 50) → ok g = true → gp_fs op z val (gp_Y ft us g) = gp_S op z ok val us g
  | [], g, _, _, hk => by
    show op (val g) z = (if ok g then val g else z)
    rw [hk, h.1, h.2.2]; rfl
  | i :: us, g, hd, hu, hk => by
    have hi := hu i (List.mem_cons_self ..)
    have hd2 := List.nodup_cons.mp hd
    have hl : gp_lim i = 12 := if_pos hi.1
    show gp_fs op z val ((gb_fl (ft g i) 0 (gp_lim i)).flatMap (fun n => gp_Y ft us (gp_st g i n))) = gp_fs op z (fun n => gp_S op z ok val us (gp_st g i n)) (gb_fl (fun _ => true) 0 12)
    rw [gp_fs_fm h, hl, gp_fs_fl h]
    apply gp_fs_c
    intro n hn
    have hn2 : n < 12 := by have := gp_tt hn; omega
    have hu2 : ∀ k, k ∈ us → k < 4 ∧ sp k = true ∧ gp_st g i n k = 50 := by
      intro k hk2
      have e : k ≠ i := fun e => hd2.1 (e ▸ hk2)
      rw [gp_st_n e]
      exact hu k (List.mem_cons_of_mem _ hk2)
    have hg := H g i n hi.1 hi.2.1 hi.2.2 hn2
    cases hf : ft g i n
    · rw [hf, Bool.and_false] at hg
      rw [gp_S_z h H us _ hd2.2 hu2 hg]; rfl
    · rw [hf, hk] at hg
      simp only [if_true]
      exact gp_Y_S h H us _ hd2.2 hu2 hg
theorem gp_L_S (h : gp_CM op z) {sp : Nat → Bool} {ft : (Nat → Nat) → Nat → Nat → Bool} (H : gp_Gr sp ok ft) {pk : (Nat → Nat) → Nat} (HP : ∀ g, gp_us sp g ≠ [] → pk g ∈ gp_us sp g) : ∀ (m : Nat) (g : Nat → Nat), (gp_us sp g).length = m → ok g = true → gp_fs op z val (gp_L ft pk m g) = gp_S op z ok val (gp_us sp g) g
  | 0, g, hm, hk => by
    rw [List.length_eq_zero_iff.mp hm]
    show op (val g) z = (if ok g then val g else z)
    rw [hk, h.1, h.2.2]; rfl
  | m + 1, g, hm, hk => by
    have hne : gp_us sp g ≠ [] := by
      intro e; rw [e] at hm; cases hm
    have hp := HP g hne
    have hi := gp_us_m.mp hp
    rw [gp_S_mv h g hp]
    show gp_fs op z val ((gb_fl (ft g (pk g)) 0 12).flatMap (fun n => gp_L ft pk m (gp_st g (pk g) n))) = gp_fs op z (fun n => gp_S op z ok val ((gp_us sp g).erase (pk g)) (gp_st g (pk g) n)) (gb_fl (fun _ => true) 0 12)
    rw [gp_fs_fm h, gp_fs_fl h]
    apply gp_fs_c
    intro n hn
    have hn2 : n < 12 := by have := gp_tt hn; omega
    have hus := gp_us_st hp (n := n) (by omega)
    have hg := H g (pk g) n hi.1 hi.2.1 hi.2.2 hn2
    rw [← hus]
    cases hf : ft g (pk g) n
    · rw [hf, Bool.and_false] at hg
      rw [gp_S_z h H _ _ (gp_us_nd _ _) (fun k hk2 => gp_us_m.mp hk2) hg]; rfl
    · rw [hf, hk] at hg
      simp only [if_true]
      refine gp_L_S h H HP m _ ?_ hg
      rw [hus, List.length_erase_of_mem hp, hm]; rfl
/-- the order in which the spots are taken doesn't matter -/
theorem gp_L_Y (h : gp_CM op z) {sp : Nat → Bool} {ft : (Nat → Nat) → Nat → Nat → Bool} (H : gp_Gr sp ok ft) {pk : (Nat → Nat) → Nat} (HP : ∀ g, gp_us sp g ≠ [] → pk g ∈ gp_us sp g) (g : Nat → Nat) (hk : ok g = true) : gp_fs op z val (gp_L ft pk (gp_us sp g).length g) = gp_fs op z val (gp_Y ft (gp_us sp g) g) := by
  rw [gp_L_S h H HP _ g rfl hk, gp_Y_S h H _ g (gp_us_nd _ _) (fun k hk2 => gp_us_m.mp hk2) hk]
end
theorem gp_Y_app (ft : (Nat → Nat) → Nat → Nat → Bool) (qs : List Nat) : ∀ (ps : List Nat) (g : Nat → Nat), gp_Y ft (ps ++ qs) g = (gp_Y ft ps g).flatMap (gp_Y ft qs)
  | [], g => by
    show gp_Y ft qs g = [g].flatMap (gp_Y ft qs)
    simp
  | p :: ps, g => by
    show (gb_fl (ft g p) 0 (gp_lim p)).flatMap (fun n => gp_Y ft (ps ++ qs) (gp_st g p n)) = ((gb_fl (ft g p) 0 (gp_lim p)).flatMap (fun n => gp_Y ft ps (gp_st g p n))).flatMap (gp_Y ft qs)
    rw [List.flatMap_assoc]
    exact congrArg (fun F => List.flatMap F (gb_fl (ft g p) 0 (gp_lim p))) (funext (fun n => gp_Y_app ft qs ps _))
theorem gp_fm_c {α β : Type} {F G : α → List β} : ∀ {l : List α}, (∀ a, a ∈ l → F a = G a) → l.flatMap F = l.flatMap G
  | [], _ => rfl
  | a :: l, h => by
    rw [List.flatMap_cons, List.flatMap_cons, h a (List.mem_cons_self ..), gp_fm_c (fun b hb => h b (List.mem_cons_of_mem _ hb))]
theorem gp_Y_c {ft ft' : (Nat → Nat) → Nat → Nat → Bool} : ∀ (ps : List Nat) (g : Nat → Nat), (∀ p, p ∈ ps → ∀ g n, n < gp_lim p → ft g p n = ft' g p n) → gp_Y ft ps g = gp_Y ft' ps g
  | [], g, _ => rfl
  | p :: ps, g, h => by
    show (gb_fl (ft g p) 0 (gp_lim p)).flatMap (fun n => gp_Y ft ps (gp_st g p n)) = (gb_fl (ft' g p) 0 (gp_lim p)).flatMap (fun n => gp_Y ft' ps (gp_st g p n))
    rw [gb_fl_c (q := ft' g p) (fun n _ h2 => h p (List.mem_cons_self ..) g n (by omega))]
    exact gp_fm_c (fun n _ => gp_Y_c ps _ (fun q hq => h q (List.mem_cons_of_mem _ hq)))
/-- completions keep what was chosen -/
theorem gp_Y_k {ft : (Nat → Nat) → Nat → Nat → Bool} {g' : Nat → Nat} : ∀ (ps : List Nat) (g : Nat → Nat), g' ∈ gp_Y ft ps g → ∀ k, k ∉ ps → g' k = g k
  | [], g, h, k, _ => by
    have : g' = g := by simpa [gp_Y] using h
    rw [this]
  | p :: ps, g, h, k, hk => by
    have h' : g' ∈ (gb_fl (ft g p) 0 (gp_lim p)).flatMap (fun n => gp_Y ft ps (gp_st g p n)) := h
    obtain ⟨n, _, hn⟩ := List.mem_flatMap.mp h'
    have hk2 : k ≠ p ∧ k ∉ ps := by
      constructor
      · intro e; exact hk (e ▸ List.mem_cons_self ..)
      · intro e; exact hk (List.mem_cons_of_mem _ e)
    rw [gp_Y_k ps _ hn k hk2.2, gp_st_n hk2.1]
/-- what is chosen for a part of the list is within its limit -/
theorem gp_Y_l {ft : (Nat → Nat) → Nat → Nat → Bool} {g' : Nat → Nat} : ∀ (ps : List Nat) (g : Nat → Nat), ps.Nodup → g' ∈ gp_Y ft ps g → ∀ k, k ∈ ps → g' k < gp_lim k
  | [], g, _, h, k, hk => by cases hk
  | p :: ps, g, hd, h, k, hk => by
    have h' : g' ∈ (gb_fl (ft g p) 0 (gp_lim p)).flatMap (fun n => gp_Y ft ps (gp_st g p n)) := h
    obtain ⟨n, hm, hn⟩ := List.mem_flatMap.mp h'
    have hd2 := List.nodup_cons.mp hd
    rcases List.mem_cons.mp hk with e | e
    · subst e
      rw [gp_Y_k ps _ hn k hd2.1, gp_st_s]
      have := gb_fl_m.mp hm
      omega
    · exact gp_Y_l ps _ hd2.2 hn k e
theorem gp_fl_fm {α : Type} {p q : Nat → Bool} {F G : Nat → List α} : ∀ {d i : Nat}, (∀ n, i ≤ n → n < i + d → p n = true → q n = true ∧ F n = G n) → (∀ n, i ≤ n → n < i + d → q n = true → p n = false → G n = []) → (gb_fl p i d).flatMap F = (gb_fl q i d).flatMap G
  | 0, i, _, _ => rfl
  | d + 1, i, h1, h2 => by
    have ih := gp_fl_fm (p := p) (q := q) (F := F) (G := G) (d := d) (i := i + 1) (fun n a b => h1 n (by omega) (by omega)) (fun n a b => h2 n (by omega) (by omega))
    unfold gb_fl
    cases hp : p i
    · cases hq : q i
      · simp only [Bool.false_eq_true, if_false]; exact ih
      · simp only [Bool.false_eq_true, if_false, if_true, List.flatMap_cons]
        rw [h2 i (by omega) (by omega) hq hp, List.nil_append]; exact ih
    · obtain ⟨hq, e⟩ := h1 i (by omega) (by omega) hp
      simp only [hq, if_true, List.flatMap_cons]
      rw [e, ih]
/-! the search for nodes: what a choice must satisfy -/
def gp_lo (K : Nat → Bool) (la lb : Nat → Nat) (cn : Nat → Nat → Nat → Bool) (i : Nat) (g : Nat → Nat) (j : Nat) : Bool :=
  !(K j) || !(decide (la j = i) || decide (lb j = i)) || decide (g (la j) = 50) || decide (g (lb j) = 50) || cn j (g (la j)) (g (lb j))
def gp_ft (cd : Nat → Nat → Bool) (md : Bool) (K : Nat → Bool) (la lb : Nat → Nat) (cn : Nat → Nat → Nat → Bool) (g : Nat → Nat) (i n : Nat) : Bool :=
  cd i n && (!md || gb_al (fun k => decide (g k ≠ n)) 0 4) && gb_al (fun j => gp_lo K la lb cn i (gp_st g i n) j) 0 4
def gp_ok (cd : Nat → Nat → Bool) (md : Bool) (K : Nat → Bool) (la lb : Nat → Nat) (cn : Nat → Nat → Nat → Bool) (g : Nat → Nat) : Bool :=
  gb_al (fun i => decide (g i = 50) || cd i (g i)) 0 4 && (!md || gb_al (fun i => gb_al (fun k => decide (i = k) || decide (g i = 50) || decide (g i ≠ g k)) 0 4) 0 4) && gb_al (fun j => !(K j) || decide (g (la j) = 50) || decide (g (lb j) = 50) || cn j (g (la j)) (g (lb j))) 0 4
section
variable {cd : Nat → Nat → Bool} {md : Bool} {K : Nat → Bool} {la lb : Nat → Nat} {cn : Nat → Nat → Nat → Bool}
theorem gp_lo_iff {i : Nat} {g : Nat → Nat} {j : Nat} : gp_lo K la lb cn i g j = true ↔ (K j = true → (la j = i ∨ lb j = i) → g (la j) ≠ 50 → g (lb j) ≠ 50 → cn j (g (la j)) (g (lb j)) = true) := by
  unfold gp_lo
  generalize g (la j) = A
  generalize g (lb j) = B
  by_cases h1 : K j = true <;> by_cases h2 : la j = i <;> by_cases h3 : lb j = i <;> by_cases h4 : A = 50 <;> by_cases h5 : B = 50 <;> simp [h1, h2, h3, h4, h5]
theorem gp_ft_iff {g : Nat → Nat} {i n : Nat} : gp_ft cd md K la lb cn g i n = true ↔ cd i n = true ∧ (md = true → ∀ k, k < 4 → g k ≠ n) ∧ (∀ j, j < 4 → gp_lo K la lb cn i (gp_st g i n) j = true) := by
  unfold gp_ft
  rw [Bool.and_eq_true, Bool.and_eq_true, gb_al_iff, Bool.or_eq_true, gb_al_iff]
  constructor
  · rintro ⟨⟨h1, h2⟩, h3⟩
    refine ⟨h1, fun hm k hk => ?_, fun j hj => h3 j (by omega) (by omega)⟩
    rcases h2 with h | h
    · rw [hm] at h; cases h
    · simpa using h k (by omega) (by omega)
  · rintro ⟨h1, h2, h3⟩
    refine ⟨⟨h1, ?_⟩, fun j _ hj => h3 j (by omega)⟩
    cases hm : md
    · exact Or.inl rfl
    · exact Or.inr (fun k _ hk => by simpa using h2 hm k (by omega))
theorem gp_ok_iff {g : Nat → Nat} : gp_ok cd md K la lb cn g = true ↔ (∀ i, i < 4 → g i ≠ 50 → cd i (g i) = true) ∧ (md = true → ∀ i k, i < 4 → k < 4 → i ≠ k → g i ≠ 50 → g i ≠ g k) ∧ (∀ j, j < 4 → K j = true → g (la j) ≠ 50 → g (lb j) ≠ 50 → cn j (g (la j)) (g (lb j)) = true) := by
  unfold gp_ok
  rw [Bool.and_eq_true, Bool.and_eq_true, gb_al_iff, Bool.or_eq_true, gb_al_iff, gb_al_iff]
  constructor
  · rintro ⟨⟨h1, h2⟩, h3⟩
    refine ⟨fun i hi h => ?_, fun hm i k hi hk hik h => ?_, fun j hj hK ha hb => ?_⟩
    · have := h1 i (by omega) (by omega)
      simpa [h] using this
    · rcases h2 with h2 | h2
      · rw [hm] at h2; cases h2
      · have := gb_al_iff.mp (h2 i (by omega) (by omega)) k (by omega) (by omega)
        simpa [h, hik] using this
    · have := h3 j (by omega) (by omega)
      simpa [hK, ha, hb] using this
  · rintro ⟨h1, h2, h3⟩
    refine ⟨⟨fun i _ hi => ?_, ?_⟩, fun j _ hj => ?_⟩
    · by_cases h : g i = 50
      · simp [h]
      · simp [h1 i (by omega) h]
    · cases hm : md
      · exact Or.inl rfl
      · refine Or.inr (fun i _ hi => gb_al_iff.mpr (fun k _ hk => ?_))
        by_cases e : i = k
        · simp [e]
        · by_cases h : g i = 50
          · simp [h]
          · simp [h2 hm i k (by omega) (by omega) e h]
    · by_cases hK : K j = true
      · by_cases ha : g (la j) = 50
        · simp [ha]
        · by_cases hb : g (lb j) = 50
          · simp [hb]
          · simp [h3 j (by omega) hK ha hb]
      · simp [hK]
theorem gp_grow (sp : Nat → Bool) : gp_Gr sp (gp_ok cd md K la lb cn) (gp_ft cd md K la lb cn) := by
  intro g i n hi _ hg hn
  apply gb_bool
  rw [Bool.and_eq_true, gp_ok_iff, gp_ok_iff, gp_ft_iff]
  have hs : ∀ k, k ≠ i → gp_st g i n k = g k := fun k h => gp_st_n h
  have hsi : gp_st g i n i = n := gp_st_s
  constructor
  · rintro ⟨h1, h2, h3⟩
    refine ⟨⟨fun k hk h => ?_, fun hm k l hk hl hkl h => ?_, fun j hj hK ha hb => ?_⟩, ?_, fun hm k hk => ?_, fun j hj => ?_⟩
    · have e : k ≠ i := fun e => h (e ▸ hg)
      have := h1 k hk
      rw [hs k e] at this
      exact this h
    · have e : k ≠ i := fun e => h (e ▸ hg)
      by_cases e2 : l = i
      · subst e2; rw [hg]; exact h
      · have := h2 hm k l hk hl hkl
        rw [hs k e, hs l e2] at this
        exact this h
    · have e1 : la j ≠ i := fun e => ha (e ▸ hg)
      have e2 : lb j ≠ i := fun e => hb (e ▸ hg)
      have := h3 j hj hK
      rw [hs _ e1, hs _ e2] at this
      exact this ha hb
    · have := h1 i hi
      rw [hsi] at this
      exact this (by omega)
    · by_cases e : k = i
      · subst e; omega
      · intro z
        have := h2 hm i k hi hk (fun w => e w.symm)
        rw [hsi, hs k e] at this
        exact this (by omega) z.symm
    · exact gp_lo_iff.mpr (fun hK _ ha hb => h3 j hj hK ha hb)
  · rintro ⟨⟨h1, h2, h3⟩, f1, f2, f3⟩
    refine ⟨fun k hk h => ?_, fun hm k l hk hl hkl h => ?_, fun j hj hK ha hb => ?_⟩
    · by_cases e : k = i
      · subst e; rw [hsi]; exact f1
      · rw [hs k e] at h ⊢
        exact h1 k hk h
    · by_cases e : k = i
      · subst e
        rw [hsi, hs l (fun w => hkl w.symm)]
        exact fun w => f2 hm l hl w.symm
      · rw [hs k e] at h ⊢
        by_cases e2 : l = i
        · subst e2; rw [hsi]; exact f2 hm k hk
        · rw [hs l e2]; exact h2 hm k l hk hl hkl h
    · by_cases e1 : la j = i ∨ lb j = i
      · exact gp_lo_iff.mp (f3 j hj) hK e1 ha hb
      · have a1 : la j ≠ i := fun w => e1 (Or.inl w)
        have a2 : lb j ≠ i := fun w => e1 (Or.inr w)
        rw [hs _ a1] at ha ⊢
        rw [hs _ a2] at hb ⊢
        exact h3 j hj hK ha hb
end
/-- pruning by further links doesn't change the list behind it, if those links leave nothing behind them -/
theorem gp_prune {α : Type} {cd : Nat → Nat → Bool} {md : Bool} {K K' : Nat → Bool} {la lb : Nat → Nat} {cn : Nat → Nat → Nat → Bool} {el : (Nat → Nat) → List α} (hK : ∀ j, K' j = true → K j = true)
    (he : ∀ g j, j < 4 → K j = true → K' j = false → g (la j) ≠ 50 → g (lb j) ≠ 50 → cn j (g (la j)) (g (lb j)) = false → el g = []) :
    ∀ (us : List Nat) (g : Nat → Nat), us.Nodup → (∀ i, i ∈ us → i < 4 ∧ g i = 50) → (gp_Y (gp_ft cd md K la lb cn) us g).flatMap el = (gp_Y (gp_ft cd md K' la lb cn) us g).flatMap el
  | [], g, _, _ => rfl
  | i :: us, g, hd, hu => by
    have hi := hu i (List.mem_cons_self ..)
    have hd2 := List.nodup_cons.mp hd
    have hl : gp_lim i = 12 := if_pos hi.1
    show ((gb_fl (gp_ft cd md K la lb cn g i) 0 (gp_lim i)).flatMap (fun n => gp_Y (gp_ft cd md K la lb cn) us (gp_st g i n))).flatMap el = ((gb_fl (gp_ft cd md K' la lb cn g i) 0 (gp_lim i)).flatMap (fun n => gp_Y (gp_ft cd md K' la lb cn) us (gp_st g i n))).flatMap el
    rw [List.flatMap_assoc, List.flatMap_assoc]
    have hu2 : ∀ n, n < 12 → ∀ k, k ∈ us → k < 4 ∧ gp_st g i n k = 50 := by
      intro n _ k hk2
      have e : k ≠ i := fun e => hd2.1 (e ▸ hk2)
      rw [gp_st_n e]
      exact hu k (List.mem_cons_of_mem _ hk2)
    apply gp_fl_fm
    · intro n _ hn hp
      refine ⟨?_, gp_prune hK he us _ hd2.2 (hu2 n (by omega))⟩
      obtain ⟨a, b, c⟩ := gp_ft_iff.mp hp
      exact gp_ft_iff.mpr ⟨a, b, fun j hj => gp_lo_iff.mpr (fun w => gp_lo_iff.mp (c j hj) (hK j w))⟩
    · intro n _ hn hq hp
      obtain ⟨a, b, c⟩ := gp_ft_iff.mp hq
      have hex : ∃ j, j < 4 ∧ K j = true ∧ K' j = false ∧ gp_st g i n (la j) ≠ 50 ∧ gp_st g i n (lb j) ≠ 50 ∧ cn j (gp_st g i n (la j)) (gp_st g i n (lb j)) = false := by
        apply Classical.byContradiction
        intro hno
        have : gp_ft cd md K la lb cn g i n = true := by
          refine gp_ft_iff.mpr ⟨a, b, fun j hj => gp_lo_iff.mpr (fun w1 w2 w3 w4 => ?_)⟩
          cases hk' : K' j
          · cases hc : cn j (gp_st g i n (la j)) (gp_st g i n (lb j))
            · exact absurd ⟨j, hj, w1, hk', w3, w4, hc⟩ hno
            · rfl
          · exact gp_lo_iff.mp (c j hj) hk' w2 w3 w4
        rw [this] at hp; cases hp
      obtain ⟨j, hj, h1, h2, h3, h4, h5⟩ := hex
      apply List.flatMap_eq_nil_iff.mpr
      intro g' hg'
      have e1 : g' (la j) = gp_st g i n (la j) := gp_Y_k us _ hg' _ (fun w => h3 (hu2 n (by omega) _ w).2)
      have e2 : g' (lb j) = gp_st g i n (lb j) := gp_Y_k us _ hg' _ (fun w => h4 (hu2 n (by omega) _ w).2)
      exact he g' j hj h1 h2 (by rw [e1]; exact h3) (by rw [e2]; exact h4) (by rw [e1, e2]; exact h5)
end
section
/-! the choice of the next spot -/
def gp_pd (op : Nat → Bool) (ct : Nat → Nat) : Nat → Nat → Nat → Nat
  | 0, _, b => b
  | d + 1, i, b => gp_pd op ct d (i + 1) (if op i && (decide (b = 4) || decide (ct i < ct b)) then i else b)
def gp_pk (io : Bool) (sp : Nat → Bool) (ft : (Nat → Nat) → Nat → Nat → Bool) (g : Nat → Nat) : Nat :=
  gp_pd (fun i => sp i && decide (g i = 50)) (fun i => if io then 0 else (gb_fl (ft g i) 0 12).length) 4 0 4
theorem gp_pd_m (op : Nat → Bool) (ct : Nat → Nat) : ∀ d i b, gp_pd op ct d i b = b ∨ (i ≤ gp_pd op ct d i b ∧ gp_pd op ct d i b < i + d ∧ op (gp_pd op ct d i b) = true)
  | 0, i, b => Or.inl rfl
  | d + 1, i, b => by
    show gp_pd op ct d (i + 1) (if op i && (decide (b = 4) || decide (ct i < ct b)) then i else b) = b ∨ (i ≤ gp_pd op ct d (i + 1) (if op i && (decide (b = 4) || decide (ct i < ct b)) then i else b) ∧ gp_pd op ct d (i + 1) (if op i && (decide (b = 4) || decide (ct i < ct b)) then i else b) < i + (d + 1) ∧ op (gp_pd op ct d (i + 1) (if op i && (decide (b = 4) || decide (ct i < ct b)) then i else b)) = true)
    cases hc : (op i && (decide (b = 4) || decide (ct i < ct b)))
    · simp only [Bool.false_eq_true, if_false]
      rcases gp_pd_m op ct d (i + 1) b with h | ⟨h1, h2, h3⟩
      · exact Or.inl h
      · exact Or.inr ⟨by omega, by omega, h3⟩
    · simp only [if_true]
      have ho : op i = true := by
        rw [Bool.and_eq_true] at hc; exact hc.1
      rcases gp_pd_m op ct d (i + 1) i with h | ⟨h1, h2, h3⟩
      · rw [h]; exact Or.inr ⟨by omega, by omega, ho⟩
      · exact Or.inr ⟨by omega, by omega, h3⟩
theorem gp_pd_4 (op : Nat → Bool) (ct : Nat → Nat) : ∀ d i, i + d ≤ 4 → (∃ t, i ≤ t ∧ t < i + d ∧ op t = true) → op (gp_pd op ct d i 4) = true ∧ gp_pd op ct d i 4 < 4
  | 0, i, _, ⟨t, h1, h2, _⟩ => by omega
  | d + 1, i, hd, ⟨t, h1, h2, h3⟩ => by
    cases ho : op i
    · have e : gp_pd op ct (d + 1) i 4 = gp_pd op ct d (i + 1) 4 := by
        show gp_pd op ct d (i + 1) (if op i && _ then i else 4) = _
        rw [ho]; rfl
      rw [e]
      have : t ≠ i := fun e => by subst e; rw [ho] at h3; cases h3
      exact gp_pd_4 op ct d (i + 1) (by omega) ⟨t, by omega, by omega, h3⟩
    · have e : gp_pd op ct (d + 1) i 4 = gp_pd op ct d (i + 1) i := by
        show gp_pd op ct d (i + 1) (if op i && _ then i else 4) = _
        rw [ho]; rfl
      rw [e]
      rcases gp_pd_m op ct d (i + 1) i with h | ⟨h1, h2, h3⟩
      · rw [h]; exact ⟨ho, by omega⟩
      · exact ⟨h3, by omega⟩
theorem gp_pk_m {io : Bool} {sp : Nat → Bool} {ft : (Nat → Nat) → Nat → Nat → Bool} (g : Nat → Nat) (h : gp_us sp g ≠ []) : gp_pk io sp ft g ∈ gp_us sp g := by
  obtain ⟨t, ht⟩ := List.exists_mem_of_ne_nil _ h
  have ht2 := gp_us_m.mp ht
  have := gp_pd_4 (fun i => sp i && decide (g i = 50)) (fun i => if io then 0 else (gb_fl (ft g i) 0 12).length) 4 0 (by omega) ⟨t, by omega, by omega, by simp [ht2.2.1, ht2.2.2]⟩
  have h1 := this.1
  rw [Bool.and_eq_true, decide_eq_true_eq] at h1
  exact gp_us_m.mpr ⟨this.2, h1.1, h1.2⟩
theorem gp_pd_k (op : Nat → Bool) (b : Nat) (hb : b ≠ 4) : ∀ d i, gp_pd op (fun _ => 0) d i b = b
  | 0, i => rfl
  | d + 1, i => by
    show gp_pd op (fun _ => 0) d (i + 1) (if op i && (decide (b = 4) || decide (0 < 0)) then i else b) = b
    simp only [hb, decide_false, Nat.lt_irrefl, Bool.or_false, Bool.and_false, Bool.false_eq_true, if_false]
    exact gp_pd_k op b hb d (i + 1)
theorem gp_pd_1 (op : Nat → Bool) (n : Nat) (t : List Nat) : ∀ d i, i + d ≤ 4 → gb_fl op i d = n :: t → gp_pd op (fun _ => 0) d i 4 = n
  | 0, i, _, h => by cases h
  | d + 1, i, hd, h => by
    unfold gb_fl at h
    cases ho : op i
    · rw [ho] at h
      simp only [Bool.false_eq_true, if_false] at h
      have e : gp_pd op (fun _ => 0) (d + 1) i 4 = gp_pd op (fun _ => 0) d (i + 1) 4 := by
        show gp_pd op (fun _ => 0) d (i + 1) (if op i && _ then i else 4) = _
        rw [ho]; rfl
      rw [e]
      exact gp_pd_1 op n t d (i + 1) (by omega) h
    · rw [ho] at h
      simp only [if_true] at h
      injection h with h1 h2
      have e : gp_pd op (fun _ => 0) (d + 1) i 4 = gp_pd op (fun _ => 0) d (i + 1) i := by
        show gp_pd op (fun _ => 0) d (i + 1) (if op i && _ then i else 4) = _
        rw [ho]; rfl
      rw [e, gp_pd_k op i (by omega), h1]
/-- in order, the two lists are one -/
theorem gp_L_in {sp : Nat → Bool} {ft : (Nat → Nat) → Nat → Nat → Bool} : ∀ (m : Nat) (g : Nat → Nat), (gp_us sp g).length = m → gp_L ft (gp_pk true sp ft) m g = gp_Y ft (gp_us sp g) g
  | 0, g, h => by
    rw [List.length_eq_zero_iff.mp h]; rfl
  | m + 1, g, h => by
    cases hu : gp_us sp g with
    | nil => rw [hu] at h; cases h
    | cons i us =>
      have hi : i ∈ gp_us sp g := by rw [hu]; exact List.mem_cons_self ..
      have hi2 := gp_us_m.mp hi
      have hp : gp_pk true sp ft g = i := gp_pd_1 _ i us 4 0 (by omega) hu
      have hl : gp_lim i = 12 := if_pos hi2.1
      show (gb_fl (ft g (gp_pk true sp ft g)) 0 12).flatMap (fun n => gp_L ft (gp_pk true sp ft) m (gp_st g (gp_pk true sp ft g) n)) = (gb_fl (ft g i) 0 (gp_lim i)).flatMap (fun n => gp_Y ft us (gp_st g i n))
      rw [hp, hl]
      apply gp_fm_c
      intro n hn
      have hn2 := gb_fl_m.mp hn
      have e := gp_us_st hi (n := n) (by omega)
      rw [hu, List.erase_cons_head] at e
      rw [gp_L_in m _ (by rw [e]; rw [hu] at h; simpa using h), e]
/-! edges -/
def gp_ef (al : Nat → Nat → Bool) (fr to : Nat → Nat) (md : Bool) (la lb : Nat → Nat) (g : Nat → Nat) (p e : Nat) : Bool :=
  al (p - 4) e && decide (fr e = g (la (p - 4))) && decide (to e = g (lb (p - 4))) && (!md || gb_al (fun k => decide (g (4 + k) ≠ e)) 0 4)
def gp_lp (lk kd : Nat → Bool) : List Nat := (gb_fl (fun j => lk j && !(kd j)) 0 4).map (fun j => 4 + j)
theorem gp_lp_m {lk kd : Nat → Bool} {p : Nat} : p ∈ gp_lp lk kd ↔ ∃ j, p = 4 + j ∧ j < 4 ∧ lk j = true ∧ kd j = false := by
  unfold gp_lp
  rw [List.mem_map]
  constructor
  · rintro ⟨j, h1, h2⟩
    have := gb_fl_m.mp h1
    rw [Bool.and_eq_true] at this
    exact ⟨j, h2.symm, by omega, this.2.2.1, by simpa using this.2.2.2⟩
  · rintro ⟨j, h1, h2, h3, h4⟩
    exact ⟨j, gb_fl_m.mpr ⟨by omega, by omega, by simp [h3, h4]⟩, h1.symm⟩
theorem gp_nd_map {f : Nat → Nat} (hf : ∀ a b, f a = f b → a = b) : ∀ {l : List Nat}, l.Nodup → (l.map f).Nodup
  | [], _ => List.nodup_nil
  | a :: l, h => by
    have h2 := List.nodup_cons.mp h
    rw [List.map_cons]
    refine List.nodup_cons.mpr ⟨fun hm => ?_, gp_nd_map hf h2.2⟩
    obtain ⟨b, hb, e⟩ := List.mem_map.mp hm
    exact h2.1 (hf _ _ e ▸ hb)
theorem gp_lp_nd (lk kd : Nat → Bool) : (gp_lp lk kd).Nodup := gp_nd_map (fun a b h => by omega) (gb_fl_nd _ _ _)
theorem gp_lp_len (lk kd : Nat → Bool) : (gp_lp lk kd).length ≤ 4 := by
  unfold gp_lp
  rw [List.length_map]
  exact gb_fl_len _ _ _
section
variable {al : Nat → Nat → Bool} {fr to : Nat → Nat} {md : Bool} {la lb : Nat → Nat}
theorem gp_ef_iff {g : Nat → Nat} {p e : Nat} : gp_ef al fr to md la lb g p e = true ↔ al (p - 4) e = true ∧ fr e = g (la (p - 4)) ∧ to e = g (lb (p - 4)) ∧ (md = true → ∀ k, k < 4 → g (4 + k) ≠ e) := by
  unfold gp_ef
  rw [Bool.and_eq_true, Bool.and_eq_true, Bool.and_eq_true, Bool.or_eq_true, gb_al_iff, decide_eq_true_eq, decide_eq_true_eq]
  constructor
  · rintro ⟨⟨⟨h1, h2⟩, h3⟩, h4⟩
    refine ⟨h1, h2, h3, fun hm k hk => ?_⟩
    rcases h4 with h | h
    · rw [hm] at h; cases h
    · simpa using h k (by omega) (by omega)
  · rintro ⟨h1, h2, h3, h4⟩
    refine ⟨⟨⟨h1, h2⟩, h3⟩, ?_⟩
    cases hm : md
    · exact Or.inl rfl
    · exact Or.inr (fun k _ hk => by simpa using h4 hm k (by omega))
/-- a link without an edge leaves nothing -/
theorem gp_ef_nil {j : Nat} (hla : la j < 4) (hlb : lb j < 4) : ∀ (ps : List Nat) (g : Nat → Nat), (∀ p, p ∈ ps → 4 ≤ p) → (4 + j) ∈ ps → (∀ e, e < 20 → al j e = true → fr e = g (la j) → to e = g (lb j) → False) → gp_Y (gp_ef al fr to md la lb) ps g = []
  | [], g, _, hj, _ => by cases hj
  | p :: ps, g, h4, hj, he => by
    have hp := h4 p (List.mem_cons_self ..)
    show (gb_fl (gp_ef al fr to md la lb g p) 0 (gp_lim p)).flatMap (fun n => gp_Y (gp_ef al fr to md la lb) ps (gp_st g p n)) = []
    have hl : gp_lim p = 20 := if_neg (by omega)
    by_cases e : p = 4 + j
    · subst e
      rw [gb_fl_0]; · rfl
      intro n _ hn
      cases hf : gp_ef al fr to md la lb g (4 + j) n
      · rfl
      · obtain ⟨a, b, c, _⟩ := gp_ef_iff.mp hf
        have e2 : 4 + j - 4 = j := by omega
        rw [e2] at a b c
        exact absurd (he n (by omega) a b c) id
    · apply List.flatMap_eq_nil_iff.mpr
      intro n _
      refine gp_ef_nil hla hlb ps _ (fun q hq => h4 q (List.mem_cons_of_mem _ hq)) ?_ ?_
      · rcases List.mem_cons.mp hj with z | z
        · exact absurd z.symm e
        · exact z
      · intro e' h1 h2 h3 h5
        rw [gp_st_n (by omega)] at h3 h5
        exact he e' h1 h2 h3 h5
theorem gp_ef_al {al' : Nat → Nat → Bool} (ps : List Nat) (g : Nat → Nat) (h : ∀ p, p ∈ ps → ∀ e, e < 20 → al (p - 4) e = al' (p - 4) e) (h4 : ∀ p, p ∈ ps → 4 ≤ p) : gp_Y (gp_ef al fr to md la lb) ps g = gp_Y (gp_ef al' fr to md la lb) ps g := by
  apply gp_Y_c
  intro p hp g n hn
  have := h4 p hp
  have hl : gp_lim p = 20 := if_neg (by omega)
  unfold gp_ef
  rw [h p hp n (by omega)]
/-- one link's edges in two shares -/
theorem gp_add {al1 al2 : Nat → Nat → Bool} {t : Nat} (h1 : ∀ j e, j ≠ t → al1 j e = al j e) (h2 : ∀ j e, j ≠ t → al2 j e = al j e) (ht : ∀ e, al t e = (al1 t e || al2 t e)) (hx : ∀ e, (al1 t e && al2 t e) = false) :
    ∀ (ps : List Nat) (g : Nat → Nat), ps.Nodup → (∀ p, p ∈ ps → 4 ≤ p) → (4 + t) ∈ ps → (gp_Y (gp_ef al fr to md la lb) ps g).length = (gp_Y (gp_ef al1 fr to md la lb) ps g).length + (gp_Y (gp_ef al2 fr to md la lb) ps g).length
  | [], g, _, _, hj => by cases hj
  | p :: ps, g, hd, h4, hj => by
    have hp := h4 p (List.mem_cons_self ..)
    have hd2 := List.nodup_cons.mp hd
    have h4' : ∀ q, q ∈ ps → 4 ≤ q := fun q hq => h4 q (List.mem_cons_of_mem _ hq)
    show ((gb_fl (gp_ef al fr to md la lb g p) 0 (gp_lim p)).flatMap (fun n => gp_Y (gp_ef al fr to md la lb) ps (gp_st g p n))).length = ((gb_fl (gp_ef al1 fr to md la lb g p) 0 (gp_lim p)).flatMap (fun n => gp_Y (gp_ef al1 fr to md la lb) ps (gp_st g p n))).length + ((gb_fl (gp_ef al2 fr to md la lb g p) 0 (gp_lim p)).flatMap (fun n => gp_Y (gp_ef al2 fr to md la lb) ps (gp_st g p n))).length
    rw [gp_len_fm, gp_len_fm, gp_len_fm, gp_fs_fl gp_cmN _ (gp_ef al fr to md la lb g p), gp_fs_fl gp_cmN _ (gp_ef al1 fr to md la lb g p), gp_fs_fl gp_cmN _ (gp_ef al2 fr to md la lb g p)]
    refine Eq.trans ?_ (gp_fs_op gp_cmN _ _ _)
    apply gp_fs_c
    intro n _
    by_cases e : p = 4 + t
    · have e2 : p - 4 = t := by omega
      have hno : ∀ q, q ∈ ps → q - 4 ≠ t := by
        intro q hq z
        have := h4' q hq
        have : q = p := by omega
        exact hd2.1 (this ▸ hq)
      have y1 := gp_ef_al (al := al1) (al' := al) (fr := fr) (to := to) (md := md) (la := la) (lb := lb) ps (gp_st g p n) (fun q hq e _ => h1 _ e (hno q hq)) h4'
      have y2 := gp_ef_al (al := al2) (al' := al) (fr := fr) (to := to) (md := md) (la := la) (lb := lb) ps (gp_st g p n) (fun q hq e _ => h2 _ e (hno q hq)) h4'
      rw [y1, y2]
      unfold gp_ef
      rw [e2, ht n]
      have hx' := hx n
      cases a1 : al1 t n <;> cases a2 : al2 t n
      · simp
      · simp
      · simp
      · rw [a1, a2] at hx'; cases hx'
    · have e2 : p - 4 ≠ t := by omega
      have hj2 : (4 + t) ∈ ps := by
        rcases List.mem_cons.mp hj with z | z
        · exact absurd z.symm e
        · exact z
      have ih := gp_add h1 h2 ht hx ps (gp_st g p n) hd2.2 h4' hj2
      unfold gp_ef at ih ⊢
      rw [h1 _ n e2, h2 _ n e2]
      split
      · exact ih
      · rfl
end
/-! lengths and places in lists -/
theorem gp_fs_le {α : Type} {f : α → Nat} {B : Nat} : ∀ {l : List α}, (∀ a, a ∈ l → f a ≤ B) → gp_fs (fun a b : Nat => a + b) 0 f l ≤ l.length * B
  | [], _ => Nat.zero_le _
  | a :: l, h => by
    have h1 := h a (List.mem_cons_self ..)
    have h2 := gp_fs_le (f := f) (B := B) (l := l) (fun b hb => h b (List.mem_cons_of_mem _ hb))
    show f a + gp_fs _ 0 f l ≤ (l.length + 1) * B
    rw [Nat.add_mul, Nat.one_mul]
    omega
theorem gp_L_len (ft : (Nat → Nat) → Nat → Nat → Bool) (pk : (Nat → Nat) → Nat) : ∀ m g, (gp_L ft pk m g).length ≤ 12 ^ m
  | 0, g => Nat.le_refl _
  | m + 1, g => by
    show ((gb_fl (ft g (pk g)) 0 12).flatMap (fun n => gp_L ft pk m (gp_st g (pk g) n))).length ≤ _
    rw [gp_len_fm]
    refine Nat.le_trans (gp_fs_le (B := 12 ^ m) (fun n _ => gp_L_len ft pk m _)) ?_
    rw [Nat.pow_succ, Nat.mul_comm (12 ^ m)]
    exact Nat.mul_le_mul_right _ (gb_fl_len _ _ _)
theorem gp_Y_len (ft : (Nat → Nat) → Nat → Nat → Bool) : ∀ ps g, (gp_Y ft ps g).length ≤ 20 ^ ps.length
  | [], g => Nat.le_refl _
  | p :: ps, g => by
    show ((gb_fl (ft g p) 0 (gp_lim p)).flatMap (fun n => gp_Y ft ps (gp_st g p n))).length ≤ _
    rw [gp_len_fm]
    refine Nat.le_trans (gp_fs_le (B := 20 ^ ps.length) (fun n _ => gp_Y_len ft ps _)) ?_
    rw [List.length_cons, Nat.pow_succ, Nat.mul_comm (20 ^ ps.length)]
    refine Nat.mul_le_mul_right _ (Nat.le_trans (gb_fl_len _ _ _) ?_)
    unfold gp_lim
    split <;> omega
theorem gp_ix_l {α β : Type} {F : α → List β} {a : α} {l : List α} {k : Nat} (h : k < (F a).length) : ((a :: l).flatMap F)[k]? = (F a)[k]? := by
  rw [List.flatMap_cons, List.getElem?_append_left h]
theorem gp_ix_r {α β : Type} {F : α → List β} {a : α} {l : List α} {k : Nat} (h : (F a).length ≤ k) : ((a :: l).flatMap F)[k]? = (l.flatMap F)[k - (F a).length]? := by
  rw [List.flatMap_cons, List.getElem?_append_right h]
/-! what is still to come in a search: levels below l have chosen (sd k, v k), cs k is still to be tried at k -/
def gp_g (sd v : Nat → Nat) : Nat → (Nat → Nat)
  | 0 => fun _ => 50
  | k + 1 => gp_st (gp_g sd v k) (sd k) (v k)
def gp_R (T : Nat → (Nat → Nat) → List (Nat → Nat)) (sd v : Nat → Nat) (cs : Nat → List Nat) : Nat → Nat → List (Nat → Nat)
  | 0, _ => []
  | l + 1, m => (cs l).flatMap (fun n => T m (gp_st (gp_g sd v l) (sd l) n)) ++ gp_R T sd v cs l (m + 1)
def gp_w (B : Nat) : Nat → Nat
  | 0 => 1
  | m + 1 => 2 + B * gp_w B m
def gp_mu (B : Nat) (cs : Nat → List Nat) : Nat → Nat → Nat
  | 0, _ => 0
  | l + 1, m => 1 + (cs l).length * gp_w B m + gp_mu B cs l (m + 1)
theorem gp_g_c {sd v sd' v' : Nat → Nat} : ∀ {l : Nat}, (∀ k, k < l → sd k = sd' k ∧ v k = v' k) → gp_g sd v l = gp_g sd' v' l
  | 0, _ => rfl
  | l + 1, h => by
    show gp_st (gp_g sd v l) (sd l) (v l) = gp_st (gp_g sd' v' l) (sd' l) (v' l)
    rw [gp_g_c (fun k hk => h k (by omega)), (h l (by omega)).1, (h l (by omega)).2]
theorem gp_R_c {T : Nat → (Nat → Nat) → List (Nat → Nat)} {sd v sd' v' : Nat → Nat} {cs cs' : Nat → List Nat} : ∀ {l m : Nat}, (∀ k, k < l → sd k = sd' k ∧ cs k = cs' k) → (∀ k, k + 1 < l → v k = v' k) → gp_R T sd v cs l m = gp_R T sd' v' cs' l m
  | 0, _, _, _ => rfl
  | l + 1, m, h1, h2 => by
    show (cs l).flatMap (fun n => T m (gp_st (gp_g sd v l) (sd l) n)) ++ gp_R T sd v cs l (m + 1) = (cs' l).flatMap (fun n => T m (gp_st (gp_g sd' v' l) (sd' l) n)) ++ gp_R T sd' v' cs' l (m + 1)
    rw [gp_R_c (fun k hk => h1 k (by omega)) (fun k hk => h2 k (by omega)), (h1 l (by omega)).1, (h1 l (by omega)).2, gp_g_c (fun k hk => ⟨(h1 k (by omega)).1, h2 k (by omega)⟩)]
theorem gp_mu_c {B : Nat} {cs cs' : Nat → List Nat} : ∀ {l m : Nat}, (∀ k, k < l → (cs k).length = (cs' k).length) → gp_mu B cs l m = gp_mu B cs' l m
  | 0, _, _ => rfl
  | l + 1, m, h => by
    show 1 + (cs l).length * gp_w B m + gp_mu B cs l (m + 1) = 1 + (cs' l).length * gp_w B m + gp_mu B cs' l (m + 1)
    rw [h l (by omega), gp_mu_c (fun k hk => h k (by omega))]
theorem gp_g_in {sd v : Nat → Nat} : ∀ {l k : Nat}, (∀ a b, a < l → b < l → sd a = sd b → a = b) → k < l → gp_g sd v l (sd k) = v k
  | 0, k, _, h => by omega
  | l + 1, k, hi, h => by
    show gp_st (gp_g sd v l) (sd l) (v l) (sd k) = v k
    by_cases e : k = l
    · subst e; exact gp_st_s
    · rw [gp_st_n (fun z => e (hi k l (by omega) (by omega) z))]
      exact gp_g_in (fun a b ha hb => hi a b (by omega) (by omega)) (by omega)
theorem gp_g_out {sd v : Nat → Nat} {i : Nat} : ∀ {l : Nat}, (∀ k, k < l → sd k ≠ i) → gp_g sd v l i = 50
  | 0, _ => rfl
  | l + 1, h => by
    show gp_st (gp_g sd v l) (sd l) (v l) i = 50
    rw [gp_st_n (fun z => h l (by omega) z.symm)]
    exact gp_g_out (fun k hk => h k (by omega))
theorem gp_g_50 {sd v : Nat → Nat} {i : Nat} : ∀ {l : Nat}, (∀ k, k < l → v k ≠ 50) → (gp_g sd v l i = 50 ↔ ∀ k, k < l → sd k ≠ i)
  | 0, _ => ⟨fun _ k hk => by omega, fun _ => rfl⟩
  | l + 1, h => by
    show gp_st (gp_g sd v l) (sd l) (v l) i = 50 ↔ _
    by_cases e : i = sd l
    · rw [e, gp_st_s]
      exact ⟨fun z => absurd z (h l (by omega)), fun z => absurd rfl (z l (by omega))⟩
    · rw [gp_st_n e, gp_g_50 (fun k hk => h k (by omega))]
      constructor
      · intro z k hk
        by_cases e2 : k = l
        · subst e2; exact fun w => e w.symm
        · exact z k (by omega)
      · intro z k hk
        exact z k (by omega)
/-! extremes: none is 'nothing yet' -/
def gp_bt (mx : Bool) : Option Nat → Option Nat → Option Nat
  | none, b => b
  | some a, none => some a
  | some a, some b => some (if mx then (if a < b then b else a) else (if b < a then b else a))
theorem gp_bt_cm (mx : Bool) : gp_CM (gp_bt mx) none := by
  refine ⟨fun a b => ?_, fun a b c => ?_, fun a => rfl⟩
  · cases a <;> cases b <;> cases mx <;> simp only [gp_bt] <;> (try rfl) <;> simp only [Bool.false_eq_true, if_false, if_true, Option.some.injEq] <;> (repeat' split) <;> omega
  · cases a <;> cases b <;> cases c <;> cases mx <;> simp only [gp_bt] <;> (try rfl) <;> simp only [Bool.false_eq_true, if_false, if_true, Option.some.injEq] <;> (repeat' split) <;> omega
end
section
/-! the component's small methods -/
section
variable {f_nodeSet f_edgeSet f_sortedCount f_keptCount f_which f_inOrder f_total f_depth f_begun f_assigned f_usedNodes f_edgeLinks : Int32} {a_labelOf a_valueOf a_fromOf a_toOf a_typeOf a_weightOf a_firstPage a_pageUsed a_pageNext a_pageSize a_pageEdge a_labelled a_sorted a_modeOf a_spotSet a_spotLabels a_spotLeast a_spotGreatest a_linkSet a_linkFrom a_linkTo a_linkTypes a_linkKind a_outgoing a_incoming a_allowed a_candidates a_behind a_before a_nodeFor a_levelSpot a_levelLeft a_edgeLink a_choiceLeft a_choice a_pickedEdge : Nat → Int32}
theorem gx_isNodeB {A B : Prop} {i : Nat} (hi : i < 12) (h0 : bt f_nodeSet i = false → A) (h1 : bt f_nodeSet i = true → B) : wpX_isNode (fun r => (r = 0 → A) ∧ (¬ r = 0 → B)) (f_nodeSet, f_edgeSet, f_sortedCount, f_keptCount, f_which, f_inOrder, f_total, f_depth, f_begun, f_assigned, f_usedNodes, f_edgeLinks, a_labelOf, a_valueOf, a_fromOf, a_toOf, a_typeOf, a_weightOf, a_firstPage, a_pageUsed, a_pageNext, a_pageSize, a_pageEdge, a_labelled, a_sorted, a_modeOf, a_spotSet, a_spotLabels, a_spotLeast, a_spotGreatest, a_linkSet, a_linkFrom, a_linkTo, a_linkTypes, a_linkKind, a_outgoing, a_incoming, a_allowed, a_candidates, a_behind, a_before, a_nodeFor, a_levelSpot, a_levelLeft, a_edgeLink, a_choiceLeft, a_choice, a_pickedEdge) (nI i) :=
  br_f (nI_pos (by omega)) (pk_le 12 i (fun h => by omega) (fun _ => gb_br i (by omega) (fun z => br_t rfl (h0 z)) (fun z => br_f (by decide) (h1 z))))
theorem gx_isEdgeB {A B : Prop} {i : Nat} (hi : i < 20) (h0 : bt f_edgeSet i = false → A) (h1 : bt f_edgeSet i = true → B) : wpX_isEdge (fun r => (r = 0 → A) ∧ (¬ r = 0 → B)) (f_nodeSet, f_edgeSet, f_sortedCount, f_keptCount, f_which, f_inOrder, f_total, f_depth, f_begun, f_assigned, f_usedNodes, f_edgeLinks, a_labelOf, a_valueOf, a_fromOf, a_toOf, a_typeOf, a_weightOf, a_firstPage, a_pageUsed, a_pageNext, a_pageSize, a_pageEdge, a_labelled, a_sorted, a_modeOf, a_spotSet, a_spotLabels, a_spotLeast, a_spotGreatest, a_linkSet, a_linkFrom, a_linkTo, a_linkTypes, a_linkKind, a_outgoing, a_incoming, a_allowed, a_candidates, a_behind, a_before, a_nodeFor, a_levelSpot, a_levelLeft, a_edgeLink, a_choiceLeft, a_choice, a_pickedEdge) (nI i) :=
  br_f (nI_pos (by omega)) (pk_le 20 i (fun h => by omega) (fun _ => gb_br i (by omega) (fun z => br_t rfl (h0 z)) (fun z => br_f (by decide) (h1 z))))
theorem gx_isNode {post : Int32 → Prop} {x : Int32} (h1 : ∀ i, i < 12 → x = nI i → bt f_nodeSet i = true → post 1) (h0 : (∀ i, i < 12 → x = nI i → bt f_nodeSet i = false) → post 0) : wpX_isNode post (f_nodeSet, f_edgeSet, f_sortedCount, f_keptCount, f_which, f_inOrder, f_total, f_depth, f_begun, f_assigned, f_usedNodes, f_edgeLinks, a_labelOf, a_valueOf, a_fromOf, a_toOf, a_typeOf, a_weightOf, a_firstPage, a_pageUsed, a_pageNext, a_pageSize, a_pageEdge, a_labelled, a_sorted, a_modeOf, a_spotSet, a_spotLabels, a_spotLeast, a_spotGreatest, a_linkSet, a_linkFrom, a_linkTo, a_linkTypes, a_linkKind, a_outgoing, a_incoming, a_allowed, a_candidates, a_behind, a_before, a_nodeFor, a_levelSpot, a_levelLeft, a_edgeLink, a_choiceLeft, a_choice, a_pickedEdge) x := by
  rcases pk_ix x (n := 12) (by omega) with h | h | ⟨i, hi, rfl⟩
  · refine br_t h (h0 (fun i hi e => ?_))
    rw [e] at h
    exact absurd h (nI_pos (by omega))
  · have hn : ¬ x < 0 := by
      intro z
      rw [Int32.lt_iff_toInt_lt] at z
      rw [Int32.le_iff_toInt_le, nI_toInt (by omega)] at h
      have : (0 : Int32).toInt = 0 := by decide
      omega
    refine br_f hn (br_t h (h0 (fun i hi e => ?_)))
    rw [e] at h
    exact absurd h (nI_ge hi (by omega))
  · refine br_f (nI_pos (by omega)) (pk_le 12 i (fun h => by omega) (fun _ => gb_br i (by omega) (fun z => h0 (fun k hk e => ?_)) (fun z => h1 i hi rfl z)))
    have : i = k := (nI_eq (by omega) (by omega)).mp e
    subst this; exact z
theorem gx_isEdge {post : Int32 → Prop} {x : Int32} (h1 : ∀ i, i < 20 → x = nI i → bt f_edgeSet i = true → post 1) (h0 : (∀ i, i < 20 → x = nI i → bt f_edgeSet i = false) → post 0) : wpX_isEdge post (f_nodeSet, f_edgeSet, f_sortedCount, f_keptCount, f_which, f_inOrder, f_total, f_depth, f_begun, f_assigned, f_usedNodes, f_edgeLinks, a_labelOf, a_valueOf, a_fromOf, a_toOf, a_typeOf, a_weightOf, a_firstPage, a_pageUsed, a_pageNext, a_pageSize, a_pageEdge, a_labelled, a_sorted, a_modeOf, a_spotSet, a_spotLabels, a_spotLeast, a_spotGreatest, a_linkSet, a_linkFrom, a_linkTo, a_linkTypes, a_linkKind, a_outgoing, a_incoming, a_allowed, a_candidates, a_behind, a_before, a_nodeFor, a_levelSpot, a_levelLeft, a_edgeLink, a_choiceLeft, a_choice, a_pickedEdge) x := by
  rcases pk_ix x (n := 20) (by omega) with h | h | ⟨i, hi, rfl⟩
  · refine br_t h (h0 (fun i hi e => ?_))
    rw [e] at h
    exact absurd h (nI_pos (by omega))
  · have hn : ¬ x < 0 := by
      intro z
      rw [Int32.lt_iff_toInt_lt] at z
      rw [Int32.le_iff_toInt_le, nI_toInt (by omega)] at h
      have : (0 : Int32).toInt = 0 := by decide
      omega
    refine br_f hn (br_t h (h0 (fun i hi e => ?_)))
    rw [e] at h
    exact absurd h (nI_ge hi (by omega))
  · refine br_f (nI_pos (by omega)) (pk_le 20 i (fun h => by omega) (fun _ => gb_br i (by omega) (fun z => h0 (fun k hk e => ?_)) (fun z => h1 i hi rfl z)))
    have : i = k := (nI_eq (by omega) (by omega)).mp e
    subst this; exact z
theorem gx_isLink {post : Int32 → Prop} {p j : Nat} (hp : p < 2) (hj : j < 32) (h0 : bt (a_linkSet p) j = false → post 0) (h1 : bt (a_linkSet p) j = true → post 1) : wpX_isLink post (f_nodeSet, f_edgeSet, f_sortedCount, f_keptCount, f_which, f_inOrder, f_total, f_depth, f_begun, f_assigned, f_usedNodes, f_edgeLinks, a_labelOf, a_valueOf, a_fromOf, a_toOf, a_typeOf, a_weightOf, a_firstPage, a_pageUsed, a_pageNext, a_pageSize, a_pageEdge, a_labelled, a_sorted, a_modeOf, a_spotSet, a_spotLabels, a_spotLeast, a_spotGreatest, a_linkSet, a_linkFrom, a_linkTo, a_linkTypes, a_linkKind, a_outgoing, a_incoming, a_allowed, a_candidates, a_behind, a_before, a_nodeFor, a_levelSpot, a_levelLeft, a_edgeLink, a_choiceLeft, a_choice, a_pickedEdge) (nI p) (nI j) := by
  refine And.intro (vp_in_nI hp (by omega)) ?_
  rw [nI_clamp (n := p) (by omega)]
  exact gb_br j hj h0 h1
theorem gx_isLinkB {A B : Prop} {p j : Nat} (hp : p < 2) (hj : j < 32) (h0 : bt (a_linkSet p) j = false → A) (h1 : bt (a_linkSet p) j = true → B) : wpX_isLink (fun r => (r = 0 → A) ∧ (¬ r = 0 → B)) (f_nodeSet, f_edgeSet, f_sortedCount, f_keptCount, f_which, f_inOrder, f_total, f_depth, f_begun, f_assigned, f_usedNodes, f_edgeLinks, a_labelOf, a_valueOf, a_fromOf, a_toOf, a_typeOf, a_weightOf, a_firstPage, a_pageUsed, a_pageNext, a_pageSize, a_pageEdge, a_labelled, a_sorted, a_modeOf, a_spotSet, a_spotLabels, a_spotLeast, a_spotGreatest, a_linkSet, a_linkFrom, a_linkTo, a_linkTypes, a_linkKind, a_outgoing, a_incoming, a_allowed, a_candidates, a_behind, a_before, a_nodeFor, a_levelSpot, a_levelLeft, a_edgeLink, a_choiceLeft, a_choice, a_pickedEdge) (nI p) (nI j) :=
  gx_isLink hp hj (fun z => br_t rfl (h0 z)) (fun z => br_f (by decide) (h1 z))
theorem gx_isSpot {post : Int32 → Prop} {p i : Nat} (hp : p < 2) (hi : i < 4) (h0 : bt (a_spotSet p) i = false → post 0) (h1 : bt (a_spotSet p) i = true → post 1) : wpX_isSpot post (f_nodeSet, f_edgeSet, f_sortedCount, f_keptCount, f_which, f_inOrder, f_total, f_depth, f_begun, f_assigned, f_usedNodes, f_edgeLinks, a_labelOf, a_valueOf, a_fromOf, a_toOf, a_typeOf, a_weightOf, a_firstPage, a_pageUsed, a_pageNext, a_pageSize, a_pageEdge, a_labelled, a_sorted, a_modeOf, a_spotSet, a_spotLabels, a_spotLeast, a_spotGreatest, a_linkSet, a_linkFrom, a_linkTo, a_linkTypes, a_linkKind, a_outgoing, a_incoming, a_allowed, a_candidates, a_behind, a_before, a_nodeFor, a_levelSpot, a_levelLeft, a_edgeLink, a_choiceLeft, a_choice, a_pickedEdge) (nI p) (nI i) := by
  refine br_f (nI_pos (by omega)) (pk_le 4 i (fun h => by omega) (fun _ => ?_))
  refine And.intro (vp_in_nI hp (by omega)) ?_
  rw [nI_clamp (n := p) (by omega)]
  exact gb_br i (by omega) h0 h1
theorem gx_isSpotB {A B : Prop} {p i : Nat} (hp : p < 2) (hi : i < 4) (h0 : bt (a_spotSet p) i = false → A) (h1 : bt (a_spotSet p) i = true → B) : wpX_isSpot (fun r => (r = 0 → A) ∧ (¬ r = 0 → B)) (f_nodeSet, f_edgeSet, f_sortedCount, f_keptCount, f_which, f_inOrder, f_total, f_depth, f_begun, f_assigned, f_usedNodes, f_edgeLinks, a_labelOf, a_valueOf, a_fromOf, a_toOf, a_typeOf, a_weightOf, a_firstPage, a_pageUsed, a_pageNext, a_pageSize, a_pageEdge, a_labelled, a_sorted, a_modeOf, a_spotSet, a_spotLabels, a_spotLeast, a_spotGreatest, a_linkSet, a_linkFrom, a_linkTo, a_linkTypes, a_linkKind, a_outgoing, a_incoming, a_allowed, a_candidates, a_behind, a_before, a_nodeFor, a_levelSpot, a_levelLeft, a_edgeLink, a_choiceLeft, a_choice, a_pickedEdge) (nI p) (nI i) :=
  gx_isSpot hp hi (fun z => br_t rfl (h0 z)) (fun z => br_f (by decide) (h1 z))
theorem gx_edgesOf_l {post : Int32 → Prop} {x1 : Int32} {ty : Nat → Nat} (hty : ∀ e, e < 20 → a_typeOf e = nI (ty e) ∧ ty e < 32) : ∀ (d i : Nat) (acc : Int32) (n : Nat), i + d = 20 → d < n → (∀ r, (∀ m, m < 32 → bt r m = (bt acc m || gb_an (fun e => bt f_edgeSet e && bt x1 (ty e) && decide (m = e)) i d)) → post r) → wX_edgesOf_4 post x1 f_nodeSet f_edgeSet f_sortedCount f_keptCount f_which f_inOrder f_total f_depth f_begun f_assigned f_usedNodes f_edgeLinks a_labelOf a_valueOf a_fromOf a_toOf a_typeOf a_weightOf a_firstPage a_pageUsed a_pageNext a_pageSize a_pageEdge a_labelled a_sorted a_modeOf a_spotSet a_spotLabels a_spotLeast a_spotGreatest a_linkSet a_linkFrom a_linkTo a_linkTypes a_linkKind a_outgoing a_incoming a_allowed a_candidates a_behind a_before a_nodeFor a_levelSpot a_levelLeft a_edgeLink a_choiceLeft a_choice a_pickedEdge n acc (nI i) := by
  intro d
  induction d with
  | zero =>
    intro i acc n hi hn hp
    obtain ⟨n, rfl⟩ : ∃ k, n = k + 1 := ⟨n - 1, by omega⟩
    refine pk_le 20 i (fun _ => hp acc (fun m _ => ?_)) (fun h => by omega)
    show bt acc m = (bt acc m || false)
    rw [Bool.or_false]
  | succ d ih =>
    intro i acc n hi hn hp
    obtain ⟨n, rfl⟩ : ∃ k, n = k + 1 := ⟨n - 1, by omega⟩
    obtain ⟨t1, t2⟩ := hty i (by omega)
    refine pk_le 20 i (fun h => by omega) (fun _ => gx_isEdgeB (by omega) (fun z => ?_) (fun z => ?_))
    · refine nm_e (nm_r (nI_1 i) (ih (i + 1) _ n (by omega) (by omega) (fun r hr => hp r (fun m hm => ?_))))
      rw [hr m hm, b_or, b_0]
      show _ = (bt acc m || ((bt f_edgeSet i && bt x1 (ty i) && decide (m = i)) || _))
      rw [z]; simp
    · refine And.intro (vp_in_nI (by omega) (by omega)) ?_
      rw [nI_clamp (n := i) (by omega), t1]
      refine gb_br (ty i) t2 (fun y => ?_) (fun y => ?_)
      · refine nm_e (nm_r (nI_1 i) (ih (i + 1) _ n (by omega) (by omega) (fun r hr => hp r (fun m hm => ?_))))
        rw [hr m hm, b_or, b_0]
        show _ = (bt acc m || ((bt f_edgeSet i && bt x1 (ty i) && decide (m = i)) || _))
        rw [y]; simp
      · refine nm_e (nm_r (nI_1 i) (ih (i + 1) _ n (by omega) (by omega) (fun r hr => hp r (fun m hm => ?_))))
        rw [hr m hm, b_or, gb_one (by omega)]
        show _ = (bt acc m || ((bt f_edgeSet i && bt x1 (ty i) && decide (m = i)) || _))
        rw [y, z, Bool.or_assoc]; simp
theorem gx_edgesOf {post : Int32 → Prop} {x1 : Int32} {ty : Nat → Nat} (hty : ∀ e, e < 20 → a_typeOf e = nI (ty e) ∧ ty e < 32) (hp : post (gb_mk (fun e => decide (e < 20) && bt f_edgeSet e && bt x1 (ty e)))) : wpX_edgesOf post (f_nodeSet, f_edgeSet, f_sortedCount, f_keptCount, f_which, f_inOrder, f_total, f_depth, f_begun, f_assigned, f_usedNodes, f_edgeLinks, a_labelOf, a_valueOf, a_fromOf, a_toOf, a_typeOf, a_weightOf, a_firstPage, a_pageUsed, a_pageNext, a_pageSize, a_pageEdge, a_labelled, a_sorted, a_modeOf, a_spotSet, a_spotLabels, a_spotLeast, a_spotGreatest, a_linkSet, a_linkFrom, a_linkTo, a_linkTypes, a_linkKind, a_outgoing, a_incoming, a_allowed, a_candidates, a_behind, a_before, a_nodeFor, a_levelSpot, a_levelLeft, a_edgeLink, a_choiceLeft, a_choice, a_pickedEdge) x1 := by
  refine Exists.intro 21 (gx_edgesOf_l hty 20 0 0 21 rfl (by omega) (fun r hr => ?_))
  have e : r = gb_mk (fun e => decide (e < 20) && bt f_edgeSet e && bt x1 (ty e)) := by
    apply gb_mk_of
    intro m hm
    rw [hr m hm, b_0, Bool.false_or]
    apply gb_bool
    rw [gb_an_iff]
    constructor
    · rintro ⟨t, _, h2, h3⟩
      simp only [Bool.and_eq_true, decide_eq_true_eq] at h3 ⊢
      obtain ⟨⟨h3, h4⟩, rfl⟩ := h3
      exact ⟨⟨by omega, h3⟩, h4⟩
    · intro h
      simp only [Bool.and_eq_true, decide_eq_true_eq] at h
      exact ⟨m, by omega, by omega, by simp [h.1.2, h.2]⟩
  rw [e]; exact hp
theorem gx_step40 {post : Int32 → Prop} {J5 : Int32 → Int32 → Prop} {x1 x2 x4 : Int32} {to : Nat → Nat} : ∀ (l : List Nat) (x6 x3 : Int32) (n : Nat), gb_bl x6 = l → l.length < n → (∀ e, e ∈ l → e < 20 ∧ a_toOf e = nI (to e) ∧ to e < 32) → (∀ r, (∀ m, m < 32 → bt r m = (bt x3 m || l.any (fun e => decide (m = to e)))) → J5 r (x4 + 1)) → wX_step_40 post J5 x1 x2 x4 f_nodeSet f_edgeSet f_sortedCount f_keptCount f_which f_inOrder f_total f_depth f_begun f_assigned f_usedNodes f_edgeLinks a_labelOf a_valueOf a_fromOf a_toOf a_typeOf a_weightOf a_firstPage a_pageUsed a_pageNext a_pageSize a_pageEdge a_labelled a_sorted a_modeOf a_spotSet a_spotLabels a_spotLeast a_spotGreatest a_linkSet a_linkFrom a_linkTo a_linkTypes a_linkKind a_outgoing a_incoming a_allowed a_candidates a_behind a_before a_nodeFor a_levelSpot a_levelLeft a_edgeLink a_choiceLeft a_choice a_pickedEdge n x3 x6 := by
  intro l
  induction l with
  | nil =>
    intro x6 x3 n hl hn _ hp
    obtain ⟨n, rfl⟩ : ∃ k, n = k + 1 := ⟨n - 1, by simp at hn; omega⟩
    refine br_t (gb_bl_0 hl) (nm_e (hp x3 (fun m _ => ?_)))
    simp
  | cons e l ih =>
    intro x6 x3 n hl hn he hp
    obtain ⟨n, rfl⟩ : ∃ k, n = k + 1 := ⟨n - 1, by simp at hn; omega⟩
    obtain ⟨h1, h2, h3⟩ := he e (List.mem_cons_self ..)
    refine br_f (gb_bl_n hl) (gb_low hl (And.intro (vp_in_nI h1 (by omega)) ?_))
    rw [nI_clamp (n := e) (by omega), h2]
    refine nm_e (nm_e (ih _ _ n (gb_rst hl) (by simp at hn; omega) (fun a ha => he a (List.mem_cons_of_mem _ ha)) (fun r hr => hp r (fun m hm => ?_))))
    rw [hr m hm, b_or, gb_one h3, List.any_cons, Bool.or_assoc]
theorem gx_step5 {post : Int32 → Prop} {x1 x2 : Int32} {to : Nat → Nat} (hto : ∀ n e, n < 12 → bt (a_outgoing n) e = true → e < 20 ∧ a_toOf e = nI (to e) ∧ to e < 32) : ∀ (d i : Nat) (acc : Int32) (n : Nat), i + d = 12 → d < n → (∀ r, (∀ m, m < 32 → bt r m = (bt acc m || gb_an (fun k => bt x1 k && (gb_bl (a_outgoing k &&& x2)).any (fun e => decide (m = to e))) i d)) → post r) → wX_step_5 post x1 x2 f_nodeSet f_edgeSet f_sortedCount f_keptCount f_which f_inOrder f_total f_depth f_begun f_assigned f_usedNodes f_edgeLinks a_labelOf a_valueOf a_fromOf a_toOf a_typeOf a_weightOf a_firstPage a_pageUsed a_pageNext a_pageSize a_pageEdge a_labelled a_sorted a_modeOf a_spotSet a_spotLabels a_spotLeast a_spotGreatest a_linkSet a_linkFrom a_linkTo a_linkTypes a_linkKind a_outgoing a_incoming a_allowed a_candidates a_behind a_before a_nodeFor a_levelSpot a_levelLeft a_edgeLink a_choiceLeft a_choice a_pickedEdge n acc (nI i) := by
  intro d
  induction d with
  | zero =>
    intro i acc n hi hn hp
    obtain ⟨n, rfl⟩ : ∃ k, n = k + 1 := ⟨n - 1, by omega⟩
    refine pk_le 12 i (fun _ => hp acc (fun m _ => ?_)) (fun h => by omega)
    show bt acc m = (bt acc m || false)
    rw [Bool.or_false]
  | succ d ih =>
    intro i acc n hi hn hp
    obtain ⟨n, rfl⟩ : ∃ k, n = k + 1 := ⟨n - 1, by omega⟩
    refine pk_le 12 i (fun h => by omega) (fun _ => gb_br i (by omega) (fun z => ?_) (fun z => ?_))
    · refine Exists.intro 1 (gx_step40 (to := to) [] 0 acc 1 gb_bl_z (by simp) (fun e he => by cases he) (fun r hr => ?_))
      rw [nI_1 i]
      refine ih (i + 1) r n (by omega) (by omega) (fun r' hr' => hp r' (fun m hm => ?_))
      rw [hr' m hm, hr m hm]
      show _ = (bt acc m || ((bt x1 i && _) || _))
      rw [z]; simp
    · refine And.intro (vp_in_nI (by omega) (by omega)) ?_
      rw [nI_clamp (n := i) (by omega)]
      refine nm_e (Exists.intro _ (gx_step40 (to := to) _ _ acc _ rfl (Nat.lt_succ_self _) (fun e he => ?_) (fun r hr => ?_)))
      · have := gb_bl_m.mp he
        rw [b_and, Bool.and_eq_true] at this
        exact hto i e (by omega) this.1
      · rw [nI_1 i]
        refine ih (i + 1) r n (by omega) (by omega) (fun r' hr' => hp r' (fun m hm => ?_))
        rw [hr' m hm, hr m hm, Bool.or_assoc]
        show _ = (bt acc m || ((bt x1 i && _) || _))
        rw [z, Bool.true_and]
end
/-! steps and ways, pure -/
def gp_stp (al : Nat → Bool) (fr to : Nat → Nat) (S : Nat → Bool) (m : Nat) : Bool := gb_an (fun e => al e && S (fr e) && decide (to e = m)) 0 20
def gp_rc (al : Nat → Bool) (fr to : Nat → Nat) : Nat → (Nat → Bool) → Nat → Bool
  | 0, _, _ => false
  | k + 1, S, m => gp_stp al fr to S m || gp_rc al fr to k (gp_stp al fr to S) m
theorem gp_stp_c {al al' : Nat → Bool} {fr to : Nat → Nat} {S S' : Nat → Bool} (ha : ∀ e, e < 20 → al e = al' e) (hf : ∀ e, e < 20 → fr e < 12) (hS : ∀ n, n < 12 → S n = S' n) (m : Nat) : gp_stp al fr to S m = gp_stp al' fr to S' m := by
  unfold gp_stp
  apply gb_an_c
  intro e _ he
  rw [ha e (by omega), hS _ (hf e (by omega))]
theorem gp_rc_c {al al' : Nat → Bool} {fr to : Nat → Nat} (ha : ∀ e, e < 20 → al e = al' e) (hf : ∀ e, e < 20 → fr e < 12) : ∀ (k : Nat) {S S' : Nat → Bool} (_ : ∀ n, n < 12 → S n = S' n) (m : Nat), gp_rc al fr to k S m = gp_rc al' fr to k S' m
  | 0, _, _, _, _ => rfl
  | k + 1, S, S', hS, m => by
    show (gp_stp al fr to S m || gp_rc al fr to k (gp_stp al fr to S) m) = (gp_stp al' fr to S' m || gp_rc al' fr to k (gp_stp al' fr to S') m)
    rw [gp_stp_c ha hf hS, gp_rc_c ha hf k (fun n _ => gp_stp_c ha hf hS n)]
section
variable {f_nodeSet f_edgeSet f_sortedCount f_keptCount f_which f_inOrder f_total f_depth f_begun f_assigned f_usedNodes f_edgeLinks : Int32} {a_labelOf a_valueOf a_fromOf a_toOf a_typeOf a_weightOf a_firstPage a_pageUsed a_pageNext a_pageSize a_pageEdge a_labelled a_sorted a_modeOf a_spotSet a_spotLabels a_spotLeast a_spotGreatest a_linkSet a_linkFrom a_linkTo a_linkTypes a_linkKind a_outgoing a_incoming a_allowed a_candidates a_behind a_before a_nodeFor a_levelSpot a_levelLeft a_edgeLink a_choiceLeft a_choice a_pickedEdge : Nat → Int32}
/-- the lists of edges from and to the nodes, as they are read -/
def gx_Out (eth : Nat → Bool) (fr : Nat → Nat) (out : Nat → Int32) : Prop := ∀ n, n < 12 → out n = gb_mk (fun e => decide (e < 20) && eth e && decide (fr e = n))
def gx_Nm (a : Nat → Int32) (f : Nat → Nat) (N B : Nat) : Prop := ∀ e, e < N → a e = nI (f e) ∧ f e < B
theorem gx_step {post : Int32 → Prop} {x1 x2 : Int32} {eth : Nat → Bool} {fr to : Nat → Nat} (ho : gx_Out eth fr a_outgoing) (hf : gx_Nm a_fromOf fr 20 12) (ht : gx_Nm a_toOf to 20 12) (hp : post (gb_mk (gp_stp (fun e => eth e && bt x2 e) fr to (bt x1)))) : wpX_step post (f_nodeSet, f_edgeSet, f_sortedCount, f_keptCount, f_which, f_inOrder, f_total, f_depth, f_begun, f_assigned, f_usedNodes, f_edgeLinks, a_labelOf, a_valueOf, a_fromOf, a_toOf, a_typeOf, a_weightOf, a_firstPage, a_pageUsed, a_pageNext, a_pageSize, a_pageEdge, a_labelled, a_sorted, a_modeOf, a_spotSet, a_spotLabels, a_spotLeast, a_spotGreatest, a_linkSet, a_linkFrom, a_linkTo, a_linkTypes, a_linkKind, a_outgoing, a_incoming, a_allowed, a_candidates, a_behind, a_before, a_nodeFor, a_levelSpot, a_levelLeft, a_edgeLink, a_choiceLeft, a_choice, a_pickedEdge) x1 x2 := by
  have hout : ∀ n e, n < 12 → bt (a_outgoing n) e = true → e < 20 ∧ a_toOf e = nI (to e) ∧ to e < 32 := by
    intro n e hn h
    rw [ho n hn, gb_mk_l _ (gb_lt h)] at h
    simp only [Bool.and_eq_true, decide_eq_true_eq] at h
    have := ht e h.1.1
    exact ⟨h.1.1, this.1, by omega⟩
  refine Exists.intro 13 (gx_step5 hout 12 0 0 13 rfl (by omega) (fun r hr => ?_))
  have e : r = gb_mk (gp_stp (fun e => eth e && bt x2 e) fr to (bt x1)) := by
    apply gb_mk_of
    intro m hm
    rw [hr m hm, b_0, Bool.false_or]
    apply gb_bool
    unfold gp_stp
    rw [gb_an_iff, gb_an_iff]
    constructor
    · rintro ⟨k, _, hk, h⟩
      rw [Bool.and_eq_true, List.any_eq_true] at h
      obtain ⟨h1, e, h2, h3⟩ := h
      have h4 := gb_bl_m.mp h2
      rw [b_and, ho k (by omega), Bool.and_eq_true] at h4
      have h5 := h4.1
      rw [gb_mk_l _ (gb_lt h5)] at h5
      simp only [Bool.and_eq_true, decide_eq_true_eq] at h5 h3
      refine ⟨e, by omega, by omega, ?_⟩
      simp only [Bool.and_eq_true, decide_eq_true_eq]
      exact ⟨⟨⟨h5.1.2, h4.2⟩, by rw [h5.2]; exact h1⟩, h3.symm⟩
    · rintro ⟨e, _, he, h⟩
      simp only [Bool.and_eq_true, decide_eq_true_eq] at h
      obtain ⟨⟨⟨h1, h2⟩, h3⟩, h4⟩ := h
      have hfe := (hf e (by omega)).2
      refine ⟨fr e, by omega, by omega, ?_⟩
      rw [Bool.and_eq_true, List.any_eq_true]
      refine ⟨h3, e, gb_bl_m.mpr ?_, by simp [h4]⟩
      rw [b_and, ho _ hfe, gb_mk_l _ (gb_lt h2), h2]
      simp [h1]; omega
  rw [e]; exact hp
theorem gx_reached_l {post : Int32 → Prop} {x2 : Int32} {k : Nat} {eth : Nat → Bool} {fr to : Nat → Nat} (hk : k < 100) (ho : gx_Out eth fr a_outgoing) (hf : gx_Nm a_fromOf fr 20 12) (ht : gx_Nm a_toOf to 20 12) : ∀ (d i : Nat) (x4 x5 : Int32) (n : Nat), i + d = k → d < n → (∀ r, (∀ m, m < 32 → bt r m = (bt x4 m || gp_rc (fun e => eth e && bt x2 e) fr to d (bt x5) m)) → post r) → wX_reached_11 post x2 (nI k) f_nodeSet f_edgeSet f_sortedCount f_keptCount f_which f_inOrder f_total f_depth f_begun f_assigned f_usedNodes f_edgeLinks a_labelOf a_valueOf a_fromOf a_toOf a_typeOf a_weightOf a_firstPage a_pageUsed a_pageNext a_pageSize a_pageEdge a_labelled a_sorted a_modeOf a_spotSet a_spotLabels a_spotLeast a_spotGreatest a_linkSet a_linkFrom a_linkTo a_linkTypes a_linkKind a_outgoing a_incoming a_allowed a_candidates a_behind a_before a_nodeFor a_levelSpot a_levelLeft a_edgeLink a_choiceLeft a_choice a_pickedEdge n x4 x5 (nI i) := by
  intro d
  induction d with
  | zero =>
    intro i x4 x5 n hi hn hp
    obtain ⟨n, rfl⟩ : ∃ k, n = k + 1 := ⟨n - 1, by omega⟩
    refine pk_le k i (fun _ => hp x4 (fun m _ => ?_)) (fun h => by omega)
    show bt x4 m = (bt x4 m || false)
    rw [Bool.or_false]
  | succ d ih =>
    intro i x4 x5 n hi hn hp
    obtain ⟨n, rfl⟩ : ∃ k, n = k + 1 := ⟨n - 1, by omega⟩
    refine pk_le k i (fun h => by omega) (fun _ => gx_step ho hf ht ?_)
    refine nm_e (nm_r (nI_1 i) (ih (i + 1) _ _ n (by omega) (by omega) (fun r hr => hp r (fun m hm => ?_))))
    rw [hr m hm, b_or, gb_mk_l _ hm, Bool.or_assoc]
    show _ = (bt x4 m || (gp_stp _ fr to (bt x5) m || gp_rc _ fr to d (gp_stp _ fr to (bt x5)) m))
    rw [gp_rc_c (fun e _ => rfl) (fun e he => (hf e he).2) d (S' := gp_stp (fun e => eth e && bt x2 e) fr to (bt x5)) (fun q hq => gb_mk_l _ (by omega)) m]
theorem gx_reached {post : Int32 → Prop} {x2 : Int32} {s k : Nat} {eth : Nat → Bool} {fr to : Nat → Nat} (hs : s < 12) (hk : k < 100) (ho : gx_Out eth fr a_outgoing) (hf : gx_Nm a_fromOf fr 20 12) (ht : gx_Nm a_toOf to 20 12) (hp : post (gb_mk (gp_rc (fun e => eth e && bt x2 e) fr to k (fun n => decide (n = s))))) : wpX_reached post (f_nodeSet, f_edgeSet, f_sortedCount, f_keptCount, f_which, f_inOrder, f_total, f_depth, f_begun, f_assigned, f_usedNodes, f_edgeLinks, a_labelOf, a_valueOf, a_fromOf, a_toOf, a_typeOf, a_weightOf, a_firstPage, a_pageUsed, a_pageNext, a_pageSize, a_pageEdge, a_labelled, a_sorted, a_modeOf, a_spotSet, a_spotLabels, a_spotLeast, a_spotGreatest, a_linkSet, a_linkFrom, a_linkTo, a_linkTypes, a_linkKind, a_outgoing, a_incoming, a_allowed, a_candidates, a_behind, a_before, a_nodeFor, a_levelSpot, a_levelLeft, a_edgeLink, a_choiceLeft, a_choice, a_pickedEdge) (nI s) x2 (nI k) := by
  refine nm_e (Exists.intro (k + 1) (gx_reached_l hk ho hf ht k 0 0 _ (k + 1) (by omega) (by omega) (fun r hr => ?_)))
  have e : r = gb_mk (gp_rc (fun e => eth e && bt x2 e) fr to k (fun n => decide (n = s))) := by
    apply gb_mk_of
    intro m hm
    rw [hr m hm, b_0, Bool.false_or]
    exact gp_rc_c (fun e _ => rfl) (fun e he => (hf e he).2) k (fun n _ => gb_one (by omega) n) m
  rw [e]; exact hp
end
end
section
/-! labels, values, turning around, spreading -/
theorem gx_ix12 (j s : Nat) : nI j * 12 + nI s = nI (j * 12 + s) := by
  rw [show (12 : Int32) = nI 12 from rfl, pk_mul, nI_add]
theorem gx_ix4 (j s : Nat) : nI j * 4 + nI s = nI (j * 4 + s) := by
  rw [show (4 : Int32) = nI 4 from rfl, pk_mul, nI_add]
theorem gx_S (n : Nat) (h : 0 < n) : ∃ k, n = k + 1 := ⟨n - 1, by omega⟩
def gx_So (th : Nat → Bool) (sc : Nat) (so : Nat → Nat) (sorted valueOf : Nat → Int32) : Prop :=
  sc ≤ 12 ∧ (∀ i, i < sc → sorted i = nI (so i) ∧ so i < 12 ∧ th (so i) = true) ∧ (∀ i j, i < sc → j < sc → so i = so j → i = j) ∧ (∀ n, th n = true → ∃ i, i < sc ∧ so i = n) ∧ (∀ i j, i ≤ j → j < sc → valueOf (so i) ≤ valueOf (so j))
def gx_bd : Nat → Nat
  | 0 => 12
  | r + 1 => gx_bd r / 2
section
variable {f_nodeSet f_edgeSet f_sortedCount f_keptCount f_which f_inOrder f_total f_depth f_begun f_assigned f_usedNodes f_edgeLinks : Int32} {a_labelOf a_valueOf a_fromOf a_toOf a_typeOf a_weightOf a_firstPage a_pageUsed a_pageNext a_pageSize a_pageEdge a_labelled a_sorted a_modeOf a_spotSet a_spotLabels a_spotLeast a_spotGreatest a_linkSet a_linkFrom a_linkTo a_linkTypes a_linkKind a_outgoing a_incoming a_allowed a_candidates a_behind a_before a_nodeFor a_levelSpot a_levelLeft a_edgeLink a_choiceLeft a_choice a_pickedEdge : Nat → Int32}
theorem gx_withLabels_l {post : Int32 → Prop} {x1 : Int32} : ∀ (d i : Nat) (acc : Int32) (n : Nat), i + d = 4 → d < n → (∀ r, (∀ m, m < 32 → bt r m = (bt acc m || gb_an (fun t => bt x1 t && bt (a_labelled t) m) i d)) → post r) → wX_withLabels_4 post x1 f_nodeSet f_edgeSet f_sortedCount f_keptCount f_which f_inOrder f_total f_depth f_begun f_assigned f_usedNodes f_edgeLinks a_labelOf a_valueOf a_fromOf a_toOf a_typeOf a_weightOf a_firstPage a_pageUsed a_pageNext a_pageSize a_pageEdge a_labelled a_sorted a_modeOf a_spotSet a_spotLabels a_spotLeast a_spotGreatest a_linkSet a_linkFrom a_linkTo a_linkTypes a_linkKind a_outgoing a_incoming a_allowed a_candidates a_behind a_before a_nodeFor a_levelSpot a_levelLeft a_edgeLink a_choiceLeft a_choice a_pickedEdge n acc (nI i) := by
  intro d
  induction d with
  | zero =>
    intro i acc n hi hn hp
    obtain ⟨n, rfl⟩ := gx_S n (by omega)
    refine pk_le 4 i (fun _ => hp acc (fun m _ => ?_)) (fun h => by omega)
    show bt acc m = (bt acc m || false)
    rw [Bool.or_false]
  | succ d ih =>
    intro i acc n hi hn hp
    obtain ⟨n, rfl⟩ := gx_S n (by omega)
    refine pk_le 4 i (fun h => by omega) (fun _ => gb_br i (by omega) (fun z => ?_) (fun z => ?_))
    · refine nm_e (nm_r (nI_1 i) (ih (i + 1) _ n (by omega) (by omega) (fun r hr => hp r (fun m hm => ?_))))
      rw [hr m hm, b_or, b_0]
      show _ = (bt acc m || ((bt x1 i && _) || _))
      rw [z]; simp
    · refine And.intro (vp_in_nI (by omega) (by omega)) ?_
      rw [nI_clamp (n := i) (by omega)]
      refine nm_e (nm_r (nI_1 i) (ih (i + 1) _ n (by omega) (by omega) (fun r hr => hp r (fun m hm => ?_))))
      rw [hr m hm, b_or, Bool.or_assoc]
      show _ = (bt acc m || ((bt x1 i && _) || _))
      rw [z, Bool.true_and]
theorem gx_withLabels {post : Int32 → Prop} {x1 : Int32} (hp : post (gb_mk (fun m => gb_an (fun t => bt x1 t && bt (a_labelled t) m) 0 4))) : wpX_withLabels post (f_nodeSet, f_edgeSet, f_sortedCount, f_keptCount, f_which, f_inOrder, f_total, f_depth, f_begun, f_assigned, f_usedNodes, f_edgeLinks, a_labelOf, a_valueOf, a_fromOf, a_toOf, a_typeOf, a_weightOf, a_firstPage, a_pageUsed, a_pageNext, a_pageSize, a_pageEdge, a_labelled, a_sorted, a_modeOf, a_spotSet, a_spotLabels, a_spotLeast, a_spotGreatest, a_linkSet, a_linkFrom, a_linkTo, a_linkTypes, a_linkKind, a_outgoing, a_incoming, a_allowed, a_candidates, a_behind, a_before, a_nodeFor, a_levelSpot, a_levelLeft, a_edgeLink, a_choiceLeft, a_choice, a_pickedEdge) x1 := by
  refine Exists.intro 5 (gx_withLabels_l 4 0 0 5 rfl (by omega) (fun r hr => ?_))
  have e : r = gb_mk (fun m => gb_an (fun t => bt x1 t && bt (a_labelled t) m) 0 4) := gb_mk_of (fun m hm => by rw [hr m hm, b_0, Bool.false_or])
  rw [e]; exact hp
theorem gx_valued71 {post : Int32 → Prop} {x2 : Int32} {th : Nat → Bool} {sc : Nat} {so : Nat → Nat} (hS : gx_So th sc so a_sorted a_valueOf) : ∀ (d i : Nat) (acc : Int32) (n : Nat), i + d = sc → d < n → (∀ r, (∀ m, m < 32 → bt r m = (bt acc m || gb_an (fun t => decide (a_valueOf (so t) ≤ x2) && decide (m = so t)) i d)) → post r) → wX_valued_71 post x2 f_nodeSet f_edgeSet (nI sc) f_keptCount f_which f_inOrder f_total f_depth f_begun f_assigned f_usedNodes f_edgeLinks a_labelOf a_valueOf a_fromOf a_toOf a_typeOf a_weightOf a_firstPage a_pageUsed a_pageNext a_pageSize a_pageEdge a_labelled a_sorted a_modeOf a_spotSet a_spotLabels a_spotLeast a_spotGreatest a_linkSet a_linkFrom a_linkTo a_linkTypes a_linkKind a_outgoing a_incoming a_allowed a_candidates a_behind a_before a_nodeFor a_levelSpot a_levelLeft a_edgeLink a_choiceLeft a_choice a_pickedEdge n acc (nI i) := by
  obtain ⟨s1, s2, s3, s4, s5⟩ := hS
  intro d
  induction d with
  | zero =>
    intro i acc n hi hn hp
    obtain ⟨n, rfl⟩ := gx_S n (by omega)
    refine pk_le sc i (fun _ => hp acc (fun m _ => ?_)) (fun h => by omega)
    show bt acc m = (bt acc m || false)
    rw [Bool.or_false]
  | succ d ih =>
    intro i acc n hi hn hp
    obtain ⟨n, rfl⟩ := gx_S n (by omega)
    obtain ⟨t1, t2, t3⟩ := s2 i (by omega)
    refine pk_le sc i (fun h => by omega) (fun _ => And.intro (vp_in_nI (by omega) (by omega)) ?_)
    rw [nI_clamp (n := i) (by omega), t1]
    refine And.intro (vp_in_nI t2 (by omega)) ?_
    rw [nI_clamp (n := so i) (by omega)]
    refine br_c (fun z => hp acc (fun m hm => ?_)) (fun z => ?_)
    · have hn : gb_an (fun t => decide (a_valueOf (so t) ≤ x2) && decide (m = so t)) i (d + 1) = false := by
        cases hc : gb_an (fun t => decide (a_valueOf (so t) ≤ x2) && decide (m = so t)) i (d + 1)
        · rfl
        · obtain ⟨t, h1, h2, h3⟩ := gb_an_iff.mp hc
          rw [Bool.and_eq_true, decide_eq_true_eq] at h3
          have h4 := s5 i t h1 (by omega)
          have h5 := h3.1
          rw [Int32.le_iff_toInt_le] at h4 h5
          rw [Int32.lt_iff_toInt_lt] at z
          omega
      rw [hn, Bool.or_false]
    · have z' : a_valueOf (so i) ≤ x2 := Int32.not_lt.mp z
      refine And.intro (vp_in_nI (by omega) (by omega)) ?_
      refine nm_e (nm_r (nI_1 i) (ih (i + 1) _ n (by omega) (by omega) (fun r hr => hp r (fun m hm => ?_))))
      rw [hr m hm, b_or, gb_one (by omega), Bool.or_assoc]
      show _ = (bt acc m || ((decide (a_valueOf (so i) ≤ x2) && decide (m = so i)) || _))
      rw [decide_eq_true z', Bool.true_and]
theorem gx_valued11 {post : Int32 → Prop} {x1 x2 : Int32} {th : Nat → Bool} {sc : Nat} {so : Nat → Nat} (hS : gx_So th sc so a_sorted a_valueOf) (hp : post (gb_mk (fun m => th m && decide (x1 ≤ a_valueOf m) && decide (a_valueOf m ≤ x2)))) : ∀ (d lo hi r n : Nat), r + d = 5 → d < n → lo ≤ hi → hi ≤ sc → hi - lo ≤ gx_bd r → (∀ i, i < lo → a_valueOf (so i) < x1) → (∀ i, hi ≤ i → i < sc → x1 ≤ a_valueOf (so i)) → wX_valued_11 post x1 x2 f_nodeSet f_edgeSet (nI sc) f_keptCount f_which f_inOrder f_total f_depth f_begun f_assigned f_usedNodes f_edgeLinks a_labelOf a_valueOf a_fromOf a_toOf a_typeOf a_weightOf a_firstPage a_pageUsed a_pageNext a_pageSize a_pageEdge a_labelled a_sorted a_modeOf a_spotSet a_spotLabels a_spotLeast a_spotGreatest a_linkSet a_linkFrom a_linkTo a_linkTypes a_linkKind a_outgoing a_incoming a_allowed a_candidates a_behind a_before a_nodeFor a_levelSpot a_levelLeft a_edgeLink a_choiceLeft a_choice a_pickedEdge n (nI lo) (nI hi) (nI r) := by
  have hS0 := hS
  obtain ⟨s1, s2, s3, s4, s5⟩ := hS
  have fin : ∀ lo, lo ≤ sc → (∀ i, i < lo → a_valueOf (so i) < x1) → (∀ i, lo ≤ i → i < sc → x1 ≤ a_valueOf (so i)) → ∃ n71 : Nat, wX_valued_71 post x2 f_nodeSet f_edgeSet (nI sc) f_keptCount f_which f_inOrder f_total f_depth f_begun f_assigned f_usedNodes f_edgeLinks a_labelOf a_valueOf a_fromOf a_toOf a_typeOf a_weightOf a_firstPage a_pageUsed a_pageNext a_pageSize a_pageEdge a_labelled a_sorted a_modeOf a_spotSet a_spotLabels a_spotLeast a_spotGreatest a_linkSet a_linkFrom a_linkTo a_linkTypes a_linkKind a_outgoing a_incoming a_allowed a_candidates a_behind a_before a_nodeFor a_levelSpot a_levelLeft a_edgeLink a_choiceLeft a_choice a_pickedEdge n71 0 (nI lo) := by
    intro lo hlo h1 h2
    refine Exists.intro (sc - lo + 1) (gx_valued71 hS0 (sc - lo) lo 0 _ (by omega) (by omega) (fun r hr => ?_))
    have e : r = gb_mk (fun m => th m && decide (x1 ≤ a_valueOf m) && decide (a_valueOf m ≤ x2)) := by
      apply gb_mk_of
      intro m hm
      rw [hr m hm, b_0, Bool.false_or]
      apply gb_bool
      rw [gb_an_iff]
      simp only [Bool.and_eq_true, decide_eq_true_eq]
      constructor
      · rintro ⟨t, t1, t2, t3, rfl⟩
        exact ⟨⟨(s2 t (by omega)).2.2, h2 t t1 (by omega)⟩, t3⟩
      · rintro ⟨⟨t1, t2⟩, t3⟩
        obtain ⟨i, hi, rfl⟩ := s4 m t1
        refine ⟨i, ?_, by omega, t3, rfl⟩
        rcases Nat.lt_or_ge i lo with z | z
        · have := h1 i z
          rw [Int32.lt_iff_toInt_lt] at this
          rw [Int32.le_iff_toInt_le] at t2
          omega
        · exact z
    rw [e]; exact hp
  intro d
  induction d with
  | zero =>
    intro lo hi r n hr hn hlh hhs hb h1 h2
    obtain ⟨n, rfl⟩ := gx_S n (by omega)
    have : r = 5 := by omega
    subst this
    have hb5 : gx_bd 5 = 0 := rfl
    have : lo = hi := by omega
    subst this
    exact pk_le 5 5 (fun _ => fin lo hhs h1 h2) (fun h => by omega)
  | succ d ih =>
    intro lo hi r n hr hn hlh hhs hb h1 h2
    obtain ⟨n, rfl⟩ := gx_S n (by omega)
    refine pk_le 5 r (fun h => by omega) (fun _ => pk_le hi lo (fun h => ?_) (fun h => ?_))
    · have : lo = hi := by omega
      subst this
      exact fin lo hhs h1 h2
    · refine And.intro (by decide) ?_
      have em : (nI lo + nI hi) / 2 = nI ((lo + hi) / 2) := by
        rw [nI_add, show (2 : Int32) = nI 2 from rfl, pk_div (by omega) (by omega) (by omega)]
      have hm1 : (lo + hi) / 2 < hi := by omega
      have hm2 : lo ≤ (lo + hi) / 2 := by omega
      have hbd : gx_bd (r + 1) = gx_bd r / 2 := rfl
      obtain ⟨t1, t2, t3⟩ := s2 ((lo + hi) / 2) (by omega)
      refine nm_r em (And.intro (vp_in_nI (by omega) (by omega)) ?_)
      rw [nI_clamp (n := (lo + hi) / 2) (by omega), t1]
      refine And.intro (vp_in_nI t2 (by omega)) ?_
      rw [nI_clamp (n := so ((lo + hi) / 2)) (by omega)]
      refine br_c (fun z => ?_) (fun z => ?_)
      · refine nm_r (nI_1 r) (ih lo _ (r + 1) n (by omega) (by omega) hm2 (by omega) (by omega) h1 (fun i i1 i2 => ?_))
        have := s5 _ i i1 i2
        rw [Int32.le_iff_toInt_le] at this z ⊢
        omega
      · refine nm_r (nI_1 _) (nm_r (nI_1 r) (ih _ hi (r + 1) n (by omega) (by omega) (by omega) hhs (by omega) (fun i i1 => ?_) h2))
        have := s5 i ((lo + hi) / 2) (by omega) (by omega)
        rw [Int32.le_iff_toInt_le] at this z
        rw [Int32.lt_iff_toInt_lt]
        omega
theorem gx_valued {post : Int32 → Prop} {x1 x2 : Int32} {th : Nat → Bool} {sc : Nat} {so : Nat → Nat} (hS : gx_So th sc so a_sorted a_valueOf) (hp : post (gb_mk (fun m => th m && decide (x1 ≤ a_valueOf m) && decide (a_valueOf m ≤ x2)))) : wpX_valued post (f_nodeSet, f_edgeSet, nI sc, f_keptCount, f_which, f_inOrder, f_total, f_depth, f_begun, f_assigned, f_usedNodes, f_edgeLinks, a_labelOf, a_valueOf, a_fromOf, a_toOf, a_typeOf, a_weightOf, a_firstPage, a_pageUsed, a_pageNext, a_pageSize, a_pageEdge, a_labelled, a_sorted, a_modeOf, a_spotSet, a_spotLabels, a_spotLeast, a_spotGreatest, a_linkSet, a_linkFrom, a_linkTo, a_linkTypes, a_linkKind, a_outgoing, a_incoming, a_allowed, a_candidates, a_behind, a_before, a_nodeFor, a_levelSpot, a_levelLeft, a_edgeLink, a_choiceLeft, a_choice, a_pickedEdge) x1 x2 := by
  have h12 := hS.1
  exact Exists.intro 6 (gx_valued11 hS hp 5 0 sc 0 6 rfl (by omega) (by omega) (by omega) (by show sc - 0 ≤ 12; omega) (fun i hi => by omega) (fun i h1 h2 => by omega))
/-! turnAround -/
theorem gx_ta13 {post : SX → Prop} {J2 : Int32 → (Nat → Int32) → (Nat → Int32) → (Nat → Int32) → (Nat → Int32) → (Nat → Int32) → (Nat → Int32) → (Nat → Int32) → (Nat → Int32) → (Nat → Int32) → (Nat → Int32) → (Nat → Int32) → (Nat → Int32) → (Nat → Int32) → (Nat → Int32) → (Nat → Int32) → (Nat → Int32) → (Nat → Int32) → (Nat → Int32) → (Nat → Int32) → (Nat → Int32) → (Nat → Int32) → (Nat → Int32) → (Nat → Int32) → (Nat → Int32) → (Nat → Int32) → (Nat → Int32) → (Nat → Int32) → (Nat → Int32) → (Nat → Int32) → (Nat → Int32) → (Nat → Int32) → (Nat → Int32) → (Nat → Int32) → (Nat → Int32) → (Nat → Int32) → (Nat → Int32) →  Prop} {j s : Nat} (hj : j < 4) (hs : s < 12) : ∀ (d m : Nat) (acc : Int32) (n : Nat), m + d = 12 → d < n → (∀ r, (∀ q, q < 32 → bt r q = (bt acc q || gb_an (fun t => bt (a_behind (j * 12 + t)) s && decide (q = t)) m d)) → J2 (nI (s + 1)) a_labelOf a_valueOf a_fromOf a_toOf a_typeOf a_weightOf a_firstPage a_pageUsed a_pageNext a_pageSize a_pageEdge a_labelled a_sorted a_modeOf a_spotSet a_spotLabels a_spotLeast a_spotGreatest a_linkSet a_linkFrom a_linkTo a_linkTypes a_linkKind a_outgoing a_incoming a_allowed a_candidates a_behind (upd a_before (j * 12 + s) r) a_nodeFor a_levelSpot a_levelLeft a_edgeLink a_choiceLeft a_choice a_pickedEdge) → wX_turnAround_13 post J2 (nI j) (nI s) f_nodeSet f_edgeSet f_sortedCount f_keptCount f_which f_inOrder f_total f_depth f_begun f_assigned f_usedNodes f_edgeLinks a_labelOf a_valueOf a_fromOf a_toOf a_typeOf a_weightOf a_firstPage a_pageUsed a_pageNext a_pageSize a_pageEdge a_labelled a_sorted a_modeOf a_spotSet a_spotLabels a_spotLeast a_spotGreatest a_linkSet a_linkFrom a_linkTo a_linkTypes a_linkKind a_outgoing a_incoming a_allowed a_candidates a_behind a_before a_nodeFor a_levelSpot a_levelLeft a_edgeLink a_choiceLeft a_choice a_pickedEdge n acc (nI m) := by
  intro d
  induction d with
  | zero =>
    intro m acc n hi hn hp
    obtain ⟨n, rfl⟩ := gx_S n (by omega)
    refine pk_le 12 m (fun _ => ?_) (fun h => by omega)
    rw [gx_ix12]
    refine And.intro (vp_in_nI (by omega) (by omega)) ?_
    rw [nI_clamp (n := j * 12 + s) (by omega)]
    refine nm_e (nm_r (nI_1 s) (hp acc (fun q _ => ?_)))
    show bt acc q = (bt acc q || false)
    rw [Bool.or_false]
  | succ d ih =>
    intro m acc n hi hn hp
    obtain ⟨n, rfl⟩ := gx_S n (by omega)
    refine pk_le 12 m (fun h => by omega) (fun _ => ?_)
    rw [gx_ix12]
    refine And.intro (vp_in_nI (by omega) (by omega)) ?_
    rw [nI_clamp (n := j * 12 + m) (by omega)]
    refine gb_br s (by omega) (fun z => ?_) (fun z => ?_)
    · refine nm_e (nm_r (nI_1 m) (ih (m + 1) _ n (by omega) (by omega) (fun r hr => hp r (fun q hq => ?_))))
      rw [hr q hq, b_or, b_0]
      show _ = (bt acc q || ((bt (a_behind (j * 12 + m)) s && _) || _))
      rw [z]; simp
    · refine nm_e (nm_r (nI_1 m) (ih (m + 1) _ n (by omega) (by omega) (fun r hr => hp r (fun q hq => ?_))))
      rw [hr q hq, b_or, gb_one (by omega), Bool.or_assoc]
      show _ = (bt acc q || ((bt (a_behind (j * 12 + m)) s && _) || _))
      rw [z, Bool.true_and]
end
def gx_row (bh : Nat → Int32) (j t : Nat) : Int32 := gb_mk (fun m => decide (m < 12) && bt (bh (j * 12 + m)) t)
section
variable {f_nodeSet f_edgeSet f_sortedCount f_keptCount f_which f_inOrder f_total f_depth f_begun f_assigned f_usedNodes f_edgeLinks : Int32} {a_labelOf a_valueOf a_fromOf a_toOf a_typeOf a_weightOf a_firstPage a_pageUsed a_pageNext a_pageSize a_pageEdge a_labelled a_sorted a_modeOf a_spotSet a_spotLabels a_spotLeast a_spotGreatest a_linkSet a_linkFrom a_linkTo a_linkTypes a_linkKind a_outgoing a_incoming a_allowed a_candidates a_behind a_before a_nodeFor a_levelSpot a_levelLeft a_edgeLink a_choiceLeft a_choice a_pickedEdge : Nat → Int32}
theorem gx_ta2 {post : SX → Prop} {j : Nat} (hj : j < 4) (bf0 : Nat → Int32) (hp : ∀ bf, (∀ t, t < 12 → bf (j * 12 + t) = gx_row a_behind j t) → (∀ k, (k < j * 12 ∨ j * 12 + 12 ≤ k) → bf k = bf0 k) → post (f_nodeSet, f_edgeSet, f_sortedCount, f_keptCount, f_which, f_inOrder, f_total, f_depth, f_begun, f_assigned, f_usedNodes, f_edgeLinks, a_labelOf, a_valueOf, a_fromOf, a_toOf, a_typeOf, a_weightOf, a_firstPage, a_pageUsed, a_pageNext, a_pageSize, a_pageEdge, a_labelled, a_sorted, a_modeOf, a_spotSet, a_spotLabels, a_spotLeast, a_spotGreatest, a_linkSet, a_linkFrom, a_linkTo, a_linkTypes, a_linkKind, a_outgoing, a_incoming, a_allowed, a_candidates, a_behind, bf, a_nodeFor, a_levelSpot, a_levelLeft, a_edgeLink, a_choiceLeft, a_choice, a_pickedEdge)) : ∀ (d s : Nat) (bf : Nat → Int32) (n : Nat), s + d = 12 → d < n → (∀ t, t < s → bf (j * 12 + t) = gx_row a_behind j t) → (∀ k, (k < j * 12 ∨ j * 12 + 12 ≤ k) → bf k = bf0 k) → wX_turnAround_2 post (nI j) f_nodeSet f_edgeSet f_sortedCount f_keptCount f_which f_inOrder f_total f_depth f_begun f_assigned f_usedNodes f_edgeLinks n (nI s) a_labelOf a_valueOf a_fromOf a_toOf a_typeOf a_weightOf a_firstPage a_pageUsed a_pageNext a_pageSize a_pageEdge a_labelled a_sorted a_modeOf a_spotSet a_spotLabels a_spotLeast a_spotGreatest a_linkSet a_linkFrom a_linkTo a_linkTypes a_linkKind a_outgoing a_incoming a_allowed a_candidates a_behind bf a_nodeFor a_levelSpot a_levelLeft a_edgeLink a_choiceLeft a_choice a_pickedEdge := by
  intro d
  induction d with
  | zero =>
    intro s bf n hs hn h1 h2
    obtain ⟨n, rfl⟩ := gx_S n (by omega)
    exact pk_le 12 s (fun _ => hp bf (fun t ht => h1 t (by omega)) h2) (fun h => by omega)
  | succ d ih =>
    intro s bf n hs hn h1 h2
    obtain ⟨n, rfl⟩ := gx_S n (by omega)
    refine pk_le 12 s (fun h => by omega) (fun _ => Exists.intro 13 (gx_ta13 hj (by omega) 12 0 0 13 rfl (by omega) (fun r hr => ?_)))
    refine ih (s + 1) _ n (by omega) (by omega) (fun t ht => ?_) (fun k hk => ?_)
    · by_cases e : t = s
      · subst e
        rw [pk_us]
        apply gb_mk_of
        intro q hq
        rw [hr q hq, b_0, Bool.false_or]
        apply gb_bool
        rw [gb_an_iff]
        simp only [Bool.and_eq_true, decide_eq_true_eq]
        constructor
        · rintro ⟨w, w1, w2, w3, rfl⟩
          exact ⟨by omega, w3⟩
        · rintro ⟨w1, w2⟩
          exact ⟨q, by omega, by omega, w2, rfl⟩
      · rw [pk_un (by omega)]
        exact h1 t (by omega)
    · rw [pk_un (by omega)]
      exact h2 k hk
theorem gx_turnAround {post : SX → Prop} {j : Nat} (hj : j < 4) (hp : ∀ bf, (∀ t, t < 12 → bf (j * 12 + t) = gx_row a_behind j t) → (∀ k, (k < j * 12 ∨ j * 12 + 12 ≤ k) → bf k = a_before k) → post (f_nodeSet, f_edgeSet, f_sortedCount, f_keptCount, f_which, f_inOrder, f_total, f_depth, f_begun, f_assigned, f_usedNodes, f_edgeLinks, a_labelOf, a_valueOf, a_fromOf, a_toOf, a_typeOf, a_weightOf, a_firstPage, a_pageUsed, a_pageNext, a_pageSize, a_pageEdge, a_labelled, a_sorted, a_modeOf, a_spotSet, a_spotLabels, a_spotLeast, a_spotGreatest, a_linkSet, a_linkFrom, a_linkTo, a_linkTypes, a_linkKind, a_outgoing, a_incoming, a_allowed, a_candidates, a_behind, bf, a_nodeFor, a_levelSpot, a_levelLeft, a_edgeLink, a_choiceLeft, a_choice, a_pickedEdge)) : wpX_turnAround post (f_nodeSet, f_edgeSet, f_sortedCount, f_keptCount, f_which, f_inOrder, f_total, f_depth, f_begun, f_assigned, f_usedNodes, f_edgeLinks, a_labelOf, a_valueOf, a_fromOf, a_toOf, a_typeOf, a_weightOf, a_firstPage, a_pageUsed, a_pageNext, a_pageSize, a_pageEdge, a_labelled, a_sorted, a_modeOf, a_spotSet, a_spotLabels, a_spotLeast, a_spotGreatest, a_linkSet, a_linkFrom, a_linkTo, a_linkTypes, a_linkKind, a_outgoing, a_incoming, a_allowed, a_candidates, a_behind, a_before, a_nodeFor, a_levelSpot, a_levelLeft, a_edgeLink, a_choiceLeft, a_choice, a_pickedEdge) (nI j) :=
  Exists.intro 13 (gx_ta2 hj a_before hp 12 0 a_before 13 rfl (by omega) (fun t ht => by omega) (fun k _ => rfl))
end
end
section
/-! spread -/
def gx_BH (w : Nat) (ns : Int32) (ls lkd alw : Nat → Int32) (eth : Nat → Bool) (fr to : Nat → Nat) (j n : Nat) : Int32 :=
  if bt (ls w) j && bt ns n then gb_mk (gp_rc (fun e => eth e && bt (alw j) e) fr to (if lkd (w * 4 + j) = 1 then 3 else 1) (fun q => decide (q = n))) else 0
section
variable {f_nodeSet f_edgeSet f_sortedCount f_keptCount f_which f_inOrder f_total f_depth f_begun f_assigned f_usedNodes f_edgeLinks : Int32} {a_labelOf a_valueOf a_fromOf a_toOf a_typeOf a_weightOf a_firstPage a_pageUsed a_pageNext a_pageSize a_pageEdge a_labelled a_sorted a_modeOf a_spotSet a_spotLabels a_spotLeast a_spotGreatest a_linkSet a_linkFrom a_linkTo a_linkTypes a_linkKind a_outgoing a_incoming a_allowed a_candidates a_behind a_before a_nodeFor a_levelSpot a_levelLeft a_edgeLink a_choiceLeft a_choice a_pickedEdge : Nat → Int32}
theorem gx_sp32 {post : SX → Prop} {J2 : Int32 → Int32 → Int32 → Int32 → Int32 → Int32 → Int32 → Int32 → Int32 → Int32 → Int32 → Int32 → Int32 →  (Nat → Int32) → (Nat → Int32) → (Nat → Int32) → (Nat → Int32) → (Nat → Int32) → (Nat → Int32) → (Nat → Int32) → (Nat → Int32) → (Nat → Int32) → (Nat → Int32) → (Nat → Int32) → (Nat → Int32) → (Nat → Int32) → (Nat → Int32) → (Nat → Int32) → (Nat → Int32) → (Nat → Int32) → (Nat → Int32) → (Nat → Int32) → (Nat → Int32) → (Nat → Int32) → (Nat → Int32) → (Nat → Int32) → (Nat → Int32) → (Nat → Int32) → (Nat → Int32) → (Nat → Int32) → (Nat → Int32) → (Nat → Int32) → (Nat → Int32) → (Nat → Int32) → (Nat → Int32) → (Nat → Int32) → (Nat → Int32) → (Nat → Int32) → (Nat → Int32) →  Prop} {w j ws : Nat} {eth : Nat → Bool} {fr to : Nat → Nat} (hw : w < 2) (hj : j < 4) (hws : ws = if a_linkKind (w * 4 + j) = 1 then 3 else 1) (ho : gx_Out eth fr a_outgoing) (hf : gx_Nm a_fromOf fr 20 12) (ht : gx_Nm a_toOf to 20 12) (bh0 : Nat → Int32)
    (hp : ∀ bh bf, (∀ s, s < 12 → bh (j * 12 + s) = gx_BH w f_nodeSet a_linkSet a_linkKind a_allowed eth fr to j s) → (∀ s, s < 12 → bf (j * 12 + s) = gx_row bh j s) → (∀ k, k < j * 12 → bh k = bh0 k ∧ bf k = a_before k) → J2 (nI (j + 1)) f_nodeSet f_edgeSet f_sortedCount f_keptCount (nI w) f_inOrder f_total f_depth f_begun f_assigned f_usedNodes f_edgeLinks a_labelOf a_valueOf a_fromOf a_toOf a_typeOf a_weightOf a_firstPage a_pageUsed a_pageNext a_pageSize a_pageEdge a_labelled a_sorted a_modeOf a_spotSet a_spotLabels a_spotLeast a_spotGreatest a_linkSet a_linkFrom a_linkTo a_linkTypes a_linkKind a_outgoing a_incoming a_allowed a_candidates bh bf a_nodeFor a_levelSpot a_levelLeft a_edgeLink a_choiceLeft a_choice a_pickedEdge) :
    ∀ (d s : Nat) (bh : Nat → Int32) (n : Nat), s + d = 12 → d < n → (∀ t, t < s → bh (j * 12 + t) = gx_BH w f_nodeSet a_linkSet a_linkKind a_allowed eth fr to j t) → (∀ k, k < j * 12 → bh k = bh0 k) → wX_spread_32 post J2 (nI j) (nI ws) f_nodeSet f_edgeSet f_sortedCount f_keptCount (nI w) f_inOrder f_total f_depth f_begun f_assigned f_usedNodes f_edgeLinks n (nI s) a_labelOf a_valueOf a_fromOf a_toOf a_typeOf a_weightOf a_firstPage a_pageUsed a_pageNext a_pageSize a_pageEdge a_labelled a_sorted a_modeOf a_spotSet a_spotLabels a_spotLeast a_spotGreatest a_linkSet a_linkFrom a_linkTo a_linkTypes a_linkKind a_outgoing a_incoming a_allowed a_candidates bh a_before a_nodeFor a_levelSpot a_levelLeft a_edgeLink a_choiceLeft a_choice a_pickedEdge := by
  intro d
  induction d with
  | zero =>
    intro s bh n hs hn h1 h2
    obtain ⟨n, rfl⟩ := gx_S n (by omega)
    refine pk_le 12 s (fun _ => gx_turnAround hj (fun bf b1 b2 => nm_r (nI_1 j) (hp bh bf (fun t ht => h1 t (by omega)) b1 (fun k hk => ⟨h2 k hk, b2 k (Or.inl hk)⟩)))) (fun h => by omega)
  | succ d ih =>
    intro s bh n hs hn h1 h2
    obtain ⟨n, rfl⟩ := gx_S n (by omega)
    have step : ∀ r, r = gx_BH w f_nodeSet a_linkSet a_linkKind a_allowed eth fr to j s → wX_spread_32 post J2 (nI j) (nI ws) f_nodeSet f_edgeSet f_sortedCount f_keptCount (nI w) f_inOrder f_total f_depth f_begun f_assigned f_usedNodes f_edgeLinks n (nI (s + 1)) a_labelOf a_valueOf a_fromOf a_toOf a_typeOf a_weightOf a_firstPage a_pageUsed a_pageNext a_pageSize a_pageEdge a_labelled a_sorted a_modeOf a_spotSet a_spotLabels a_spotLeast a_spotGreatest a_linkSet a_linkFrom a_linkTo a_linkTypes a_linkKind a_outgoing a_incoming a_allowed a_candidates (upd bh (j * 12 + s) r) a_before a_nodeFor a_levelSpot a_levelLeft a_edgeLink a_choiceLeft a_choice a_pickedEdge := by
      intro r hr
      refine ih (s + 1) _ n (by omega) (by omega) (fun t ht => ?_) (fun k hk => ?_)
      · by_cases e : t = s
        · subst e; rw [pk_us]; exact hr
        · rw [pk_un (by omega)]; exact h1 t (by omega)
      · rw [pk_un (by omega)]; exact h2 k hk
    have hin : vp_in (nI j * 12 + nI s) 48 := by rw [gx_ix12]; exact vp_in_nI (by omega) (by omega)
    have hcl : (nI j * 12 + nI s).toNatClampNeg = j * 12 + s := by rw [gx_ix12]; exact nI_clamp (by omega)
    refine pk_le 12 s (fun h => by omega) (fun _ => gx_isLinkB hw (by omega) (fun z => ?_) (fun z => gx_isNodeB (by omega) (fun y => ?_) (fun y => ?_)))
    · refine And.intro hin ?_
      rw [hcl]
      refine nm_e (nm_r (nI_1 s) (step 0 ?_))
      unfold gx_BH; rw [z]; rfl
    · refine And.intro hin ?_
      rw [hcl]
      refine nm_e (nm_r (nI_1 s) (step 0 ?_))
      unfold gx_BH; rw [z, y]; rfl
    · refine And.intro (vp_in_nI hj (by omega)) ?_
      rw [nI_clamp (n := j) (by omega)]
      refine gx_reached (by omega) (by rw [hws]; split <;> omega) ho hf ht ?_
      refine And.intro hin ?_
      rw [hcl]
      refine nm_e (nm_r (nI_1 s) (step _ ?_))
      unfold gx_BH; rw [z, y, hws]; rfl
theorem gx_sp2 {post : SX → Prop} {w : Nat} {eth : Nat → Bool} {fr to : Nat → Nat} (hw : w < 2) (ho : gx_Out eth fr a_outgoing) (hf : gx_Nm a_fromOf fr 20 12) (ht : gx_Nm a_toOf to 20 12)
    (hp : ∀ bh bf, (∀ j s, j < 4 → s < 12 → bh (j * 12 + s) = gx_BH w f_nodeSet a_linkSet a_linkKind a_allowed eth fr to j s ∧ bf (j * 12 + s) = gb_mk (fun m => decide (m < 12) && bt (gx_BH w f_nodeSet a_linkSet a_linkKind a_allowed eth fr to j m) s)) → post (f_nodeSet, f_edgeSet, f_sortedCount, f_keptCount, nI w, f_inOrder, nI (gb_bl (a_spotSet w)).length, f_depth, 0, f_assigned, f_usedNodes, f_edgeLinks, a_labelOf, a_valueOf, a_fromOf, a_toOf, a_typeOf, a_weightOf, a_firstPage, a_pageUsed, a_pageNext, a_pageSize, a_pageEdge, a_labelled, a_sorted, a_modeOf, a_spotSet, a_spotLabels, a_spotLeast, a_spotGreatest, a_linkSet, a_linkFrom, a_linkTo, a_linkTypes, a_linkKind, a_outgoing, a_incoming, a_allowed, a_candidates, bh, bf, a_nodeFor, a_levelSpot, a_levelLeft, a_edgeLink, a_choiceLeft, a_choice, a_pickedEdge)) :
    ∀ (d j : Nat) (bh bf : Nat → Int32) (n : Nat), j + d = 4 → d < n → (∀ i s, i < j → s < 12 → bh (i * 12 + s) = gx_BH w f_nodeSet a_linkSet a_linkKind a_allowed eth fr to i s ∧ bf (i * 12 + s) = gb_mk (fun m => decide (m < 12) && bt (gx_BH w f_nodeSet a_linkSet a_linkKind a_allowed eth fr to i m) s)) → wX_spread_2 post n (nI j) f_nodeSet f_edgeSet f_sortedCount f_keptCount (nI w) f_inOrder f_total f_depth f_begun f_assigned f_usedNodes f_edgeLinks a_labelOf a_valueOf a_fromOf a_toOf a_typeOf a_weightOf a_firstPage a_pageUsed a_pageNext a_pageSize a_pageEdge a_labelled a_sorted a_modeOf a_spotSet a_spotLabels a_spotLeast a_spotGreatest a_linkSet a_linkFrom a_linkTo a_linkTypes a_linkKind a_outgoing a_incoming a_allowed a_candidates bh bf a_nodeFor a_levelSpot a_levelLeft a_edgeLink a_choiceLeft a_choice a_pickedEdge := by
  intro d
  induction d with
  | zero =>
    intro j bh bf n hj hn h
    obtain ⟨n, rfl⟩ := gx_S n (by omega)
    refine pk_le 4 j (fun _ => And.intro (vp_in_nI hw (by omega)) ?_) (fun h => by omega)
    rw [nI_clamp (n := w) (by omega)]
    exact gb_ones (hp bh bf (fun i s hi hs => h i s (by omega) hs))
  | succ d ih =>
    intro j bh bf n hj hn h
    obtain ⟨n, rfl⟩ := gx_S n (by omega)
    have key : ∀ ws, ws = (if a_linkKind (w * 4 + j) = 1 then 3 else 1) → ∃ n32 : Nat, wX_spread_32 post (wX_spread_2 post n) (nI j) (nI ws) f_nodeSet f_edgeSet f_sortedCount f_keptCount (nI w) f_inOrder f_total f_depth f_begun f_assigned f_usedNodes f_edgeLinks n32 0 a_labelOf a_valueOf a_fromOf a_toOf a_typeOf a_weightOf a_firstPage a_pageUsed a_pageNext a_pageSize a_pageEdge a_labelled a_sorted a_modeOf a_spotSet a_spotLabels a_spotLeast a_spotGreatest a_linkSet a_linkFrom a_linkTo a_linkTypes a_linkKind a_outgoing a_incoming a_allowed a_candidates bh bf a_nodeFor a_levelSpot a_levelLeft a_edgeLink a_choiceLeft a_choice a_pickedEdge := by
      intro ws hws
      refine Exists.intro 13 (gx_sp32 hw (by omega) hws ho hf ht bh (fun bh' bf' b1 b2 b3 => ?_) 12 0 bh 13 rfl (by omega) (fun t ht => by omega) (fun k _ => rfl))
      refine ih (j + 1) bh' bf' n (by omega) (by omega) (fun i s hi hs => ?_)
      by_cases e : i = j
      · subst e
        refine ⟨b1 s hs, ?_⟩
        rw [b2 s hs]
        apply gb_mk_e
        intro m _
        by_cases hm : m < 12
        · rw [b1 m hm]
        · simp [hm]
      · have := h i s (by omega) hs
        have hlt : i * 12 + s < j * 12 := by omega
        rw [(b3 _ hlt).1, (b3 _ hlt).2]
        exact this
    refine pk_le 4 j (fun h => by omega) (fun _ => ?_)
    rw [gx_ix4]
    refine And.intro (vp_in_nI (by omega) (by omega)) ?_
    rw [nI_clamp (n := w * 4 + j) (by omega)]
    exact br_c (fun z => key 3 (by rw [if_pos z])) (fun z => key 1 (by rw [if_neg z]))
theorem gx_spread {post : SX → Prop} {w : Nat} {eth : Nat → Bool} {fr to : Nat → Nat} (hw : w < 2) (ho : gx_Out eth fr a_outgoing) (hf : gx_Nm a_fromOf fr 20 12) (ht : gx_Nm a_toOf to 20 12)
    (hp : ∀ bh bf, (∀ j s, j < 4 → s < 12 → bh (j * 12 + s) = gx_BH w f_nodeSet a_linkSet a_linkKind a_allowed eth fr to j s ∧ bf (j * 12 + s) = gb_mk (fun m => decide (m < 12) && bt (gx_BH w f_nodeSet a_linkSet a_linkKind a_allowed eth fr to j m) s)) → post (f_nodeSet, f_edgeSet, f_sortedCount, f_keptCount, nI w, f_inOrder, nI (gb_bl (a_spotSet w)).length, f_depth, 0, f_assigned, f_usedNodes, f_edgeLinks, a_labelOf, a_valueOf, a_fromOf, a_toOf, a_typeOf, a_weightOf, a_firstPage, a_pageUsed, a_pageNext, a_pageSize, a_pageEdge, a_labelled, a_sorted, a_modeOf, a_spotSet, a_spotLabels, a_spotLeast, a_spotGreatest, a_linkSet, a_linkFrom, a_linkTo, a_linkTypes, a_linkKind, a_outgoing, a_incoming, a_allowed, a_candidates, bh, bf, a_nodeFor, a_levelSpot, a_levelLeft, a_edgeLink, a_choiceLeft, a_choice, a_pickedEdge)) : wpX_spread post (f_nodeSet, f_edgeSet, f_sortedCount, f_keptCount, nI w, f_inOrder, f_total, f_depth, f_begun, f_assigned, f_usedNodes, f_edgeLinks, a_labelOf, a_valueOf, a_fromOf, a_toOf, a_typeOf, a_weightOf, a_firstPage, a_pageUsed, a_pageNext, a_pageSize, a_pageEdge, a_labelled, a_sorted, a_modeOf, a_spotSet, a_spotLabels, a_spotLeast, a_spotGreatest, a_linkSet, a_linkFrom, a_linkTo, a_linkTypes, a_linkKind, a_outgoing, a_incoming, a_allowed, a_candidates, a_behind, a_before, a_nodeFor, a_levelSpot, a_levelLeft, a_edgeLink, a_choiceLeft, a_choice, a_pickedEdge) :=
  Exists.intro 5 (gx_sp2 hw ho hf ht hp 4 0 a_behind a_before 5 rfl (by omega) (fun i s hi => by omega))
/-! prepare, behind the lists -/
/-- the links of kind 0, in their order -/
def gx_ll (w : Nat) (ls lkd : Nat → Int32) (j : Nat) : List Nat := gb_fl (fun j => bt (ls w) j && decide (lkd (w * 4 + j) = 0)) 0 j
theorem gx_ll_s (w : Nat) (ls lkd : Nat → Int32) (j : Nat) : gx_ll w ls lkd (j + 1) = gx_ll w ls lkd j ++ (if bt (ls w) j && decide (lkd (w * 4 + j) = 0) then [j] else []) := by
  unfold gx_ll
  rw [gb_fl_app, Nat.zero_add]
  rfl
def gx_cand (w : Nat) (th : Nat → Bool) (lbd val ss sl sg sb : Nat → Int32) (i m : Nat) : Bool :=
  bt (ss w) i && (gb_an (fun t => bt (sb (w * 4 + i)) t && bt (lbd t) m) 0 4 && (th m && decide (sl (w * 4 + i) ≤ val m) && decide (val m ≤ sg (w * 4 + i))))
theorem gx_pr110 {post : SX → Prop} {w sc : Nat} {th : Nat → Bool} {so : Nat → Nat} (hw : w < 2) (hS : gx_So th sc so a_sorted a_valueOf) (Hsp : ∀ cand, (∀ i, i < 4 → cand i = gb_mk (gx_cand w th a_labelled a_valueOf a_spotSet a_spotLeast a_spotGreatest a_spotLabels i)) → wpX_spread post (f_nodeSet, f_edgeSet, nI sc, f_keptCount, f_which, f_inOrder, f_total, f_depth, f_begun, f_assigned, f_usedNodes, f_edgeLinks, a_labelOf, a_valueOf, a_fromOf, a_toOf, a_typeOf, a_weightOf, a_firstPage, a_pageUsed, a_pageNext, a_pageSize, a_pageEdge, a_labelled, a_sorted, a_modeOf, a_spotSet, a_spotLabels, a_spotLeast, a_spotGreatest, a_linkSet, a_linkFrom, a_linkTo, a_linkTypes, a_linkKind, a_outgoing, a_incoming, a_allowed, cand, a_behind, a_before, a_nodeFor, a_levelSpot, a_levelLeft, a_edgeLink, a_choiceLeft, a_choice, a_pickedEdge)) : ∀ (d i : Nat) (cand : Nat → Int32) (n : Nat), i + d = 4 → d < n → (∀ k, k < i → cand k = gb_mk (gx_cand w th a_labelled a_valueOf a_spotSet a_spotLeast a_spotGreatest a_spotLabels k)) → wX_prepare_110 post (nI w) f_nodeSet f_edgeSet (nI sc) f_keptCount f_which f_inOrder f_total f_depth f_begun f_assigned f_usedNodes f_edgeLinks n (nI i) a_labelOf a_valueOf a_fromOf a_toOf a_typeOf a_weightOf a_firstPage a_pageUsed a_pageNext a_pageSize a_pageEdge a_labelled a_sorted a_modeOf a_spotSet a_spotLabels a_spotLeast a_spotGreatest a_linkSet a_linkFrom a_linkTo a_linkTypes a_linkKind a_outgoing a_incoming a_allowed cand a_behind a_before a_nodeFor a_levelSpot a_levelLeft a_edgeLink a_choiceLeft a_choice a_pickedEdge := by
  intro d
  induction d with
  | zero =>
    intro i cand n hi hn h
    obtain ⟨n, rfl⟩ := gx_S n (by omega)
    exact pk_le 4 i (fun _ => Hsp cand (fun k hk => h k (by omega))) (fun h => by omega)
  | succ d ih =>
    intro i cand n hi hn h
    obtain ⟨n, rfl⟩ := gx_S n (by omega)
    have step : ∀ r, r = gb_mk (gx_cand w th a_labelled a_valueOf a_spotSet a_spotLeast a_spotGreatest a_spotLabels i) → wX_prepare_110 post (nI w) f_nodeSet f_edgeSet (nI sc) f_keptCount f_which f_inOrder f_total f_depth f_begun f_assigned f_usedNodes f_edgeLinks n (nI (i + 1)) a_labelOf a_valueOf a_fromOf a_toOf a_typeOf a_weightOf a_firstPage a_pageUsed a_pageNext a_pageSize a_pageEdge a_labelled a_sorted a_modeOf a_spotSet a_spotLabels a_spotLeast a_spotGreatest a_linkSet a_linkFrom a_linkTo a_linkTypes a_linkKind a_outgoing a_incoming a_allowed (upd cand i r) a_behind a_before a_nodeFor a_levelSpot a_levelLeft a_edgeLink a_choiceLeft a_choice a_pickedEdge := by
      intro r hr
      refine ih (i + 1) _ n (by omega) (by omega) (fun k hk => ?_)
      by_cases e : k = i
      · subst e; rw [pk_us]; exact hr
      · rw [pk_un e]; exact h k (by omega)
    have hin : vp_in (nI i) 4 := vp_in_nI (by omega) (by omega)
    have hin8 : vp_in (nI (w * 4 + i)) 8 := vp_in_nI (by omega) (by omega)
    refine pk_le 4 i (fun h => by omega) (fun _ => nm_r (gx_ix4 w i) (gx_isSpotB hw (by omega) (fun z => ?_) (fun z => ?_)))
    · refine And.intro hin ?_
      rw [nI_clamp (n := i) (by omega)]
      refine nm_e (nm_r (nI_1 i) (step 0 ?_))
      rw [← gb_mk_0]
      apply gb_mk_e
      intro m _
      unfold gx_cand
      rw [z]; rfl
    · refine And.intro hin8 ?_
      rw [nI_clamp (n := w * 4 + i) (by omega)]
      refine gx_withLabels (And.intro hin8 (And.intro hin8 (gx_valued hS (And.intro hin ?_))))
      rw [nI_clamp (n := i) (by omega)]
      refine nm_e (nm_r (nI_1 i) (step _ ?_))
      apply gb_mk_of
      intro m hm
      rw [b_and, gb_mk_l _ hm, gb_mk_l _ hm]
      unfold gx_cand
      rw [z, Bool.true_and]
/-- what prepare leaves behind, ahead of spread -/
def gx_Pr (w : Nat) (th : Nat → Bool) (eset : Int32) (ty : Nat → Nat) (lbd val ss sl sg sb ls lkd lty alw elk cand : Nat → Int32) (q : Nat) : Prop :=
  (∀ j, j < 4 → alw j = if bt (ls w) j then gb_mk (fun e => decide (e < 20) && bt eset e && bt (lty (w * 4 + j)) (ty e)) else 0) ∧ q = (gx_ll w ls lkd 4).length ∧ (∀ k x, (gx_ll w ls lkd 4)[k]? = some x → elk k = nI x) ∧ (∀ i, i < 4 → cand i = gb_mk (gx_cand w th lbd val ss sl sg sb i))
theorem gx_byte4 {j : Nat} (h : j < 48) : vp_nar .byte (nI j).toInt8.toInt32 = nI j := by
  rw [pk_vb]
  exact (by decide +kernel : ∀ j, j < 48 → (nI j).toInt8.toInt32 = nI j) j h
theorem gx_pr21 {post : SX → Prop} {w sc : Nat} {th : Nat → Bool} {so ty : Nat → Nat} (hw : w < 2) (hS : gx_So th sc so a_sorted a_valueOf) (hty : ∀ e, e < 20 → a_typeOf e = nI (ty e) ∧ ty e < 32)
    (Hsp : ∀ q alw elk cand, gx_Pr w th f_edgeSet ty a_labelled a_valueOf a_spotSet a_spotLeast a_spotGreatest a_spotLabels a_linkSet a_linkKind a_linkTypes alw elk cand q → wpX_spread post (f_nodeSet, f_edgeSet, nI sc, f_keptCount, f_which, f_inOrder, f_total, f_depth, f_begun, f_assigned, f_usedNodes, nI q, a_labelOf, a_valueOf, a_fromOf, a_toOf, a_typeOf, a_weightOf, a_firstPage, a_pageUsed, a_pageNext, a_pageSize, a_pageEdge, a_labelled, a_sorted, a_modeOf, a_spotSet, a_spotLabels, a_spotLeast, a_spotGreatest, a_linkSet, a_linkFrom, a_linkTo, a_linkTypes, a_linkKind, a_outgoing, a_incoming, alw, cand, a_behind, a_before, a_nodeFor, a_levelSpot, a_levelLeft, elk, a_choiceLeft, a_choice, a_pickedEdge)) :
    ∀ (d j q : Nat) (alw elk : Nat → Int32) (n : Nat), j + d = 4 → d < n → (∀ i, i < j → alw i = if bt (a_linkSet w) i then gb_mk (fun e => decide (e < 20) && bt f_edgeSet e && bt (a_linkTypes (w * 4 + i)) (ty e)) else 0) → q = (gx_ll w a_linkSet a_linkKind j).length → (∀ k x, (gx_ll w a_linkSet a_linkKind j)[k]? = some x → elk k = nI x) → wX_prepare_21 post (nI w) f_nodeSet f_edgeSet (nI sc) f_keptCount f_which f_inOrder f_total f_depth f_begun f_assigned f_usedNodes n (nI j) (nI q) a_labelOf a_valueOf a_fromOf a_toOf a_typeOf a_weightOf a_firstPage a_pageUsed a_pageNext a_pageSize a_pageEdge a_labelled a_sorted a_modeOf a_spotSet a_spotLabels a_spotLeast a_spotGreatest a_linkSet a_linkFrom a_linkTo a_linkTypes a_linkKind a_outgoing a_incoming alw a_candidates a_behind a_before a_nodeFor a_levelSpot a_levelLeft elk a_choiceLeft a_choice a_pickedEdge := by
  intro d
  induction d with
  | zero =>
    intro j q alw elk n hj hn h1 h2 h3
    obtain ⟨n, rfl⟩ := gx_S n (by omega)
    have : j = 4 := by omega
    subst this
    refine pk_le 4 4 (fun _ => Exists.intro 5 (gx_pr110 hw hS (fun cand hc => Hsp q alw elk cand ⟨h1, h2, h3, hc⟩) 4 0 a_candidates 5 rfl (by omega) (fun k hk => by omega))) (fun h => by omega)
  | succ d ih =>
    intro j q alw elk n hj hn h1 h2 h3
    obtain ⟨n, rfl⟩ := gx_S n (by omega)
    have hq : q ≤ j := by
      rw [h2]
      exact gb_fl_len _ _ _
    have step : ∀ r, r = (if bt (a_linkSet w) j then gb_mk (fun e => decide (e < 20) && bt f_edgeSet e && bt (a_linkTypes (w * 4 + j)) (ty e)) else 0) → wX_prepare_58 post (wX_prepare_21 post (nI w) f_nodeSet f_edgeSet (nI sc) f_keptCount f_which f_inOrder f_total f_depth f_begun f_assigned f_usedNodes n) (nI w) (nI j) r (nI j) f_nodeSet f_edgeSet (nI sc) f_keptCount f_which f_inOrder f_total f_depth f_begun f_assigned f_usedNodes (nI q) a_labelOf a_valueOf a_fromOf a_toOf a_typeOf a_weightOf a_firstPage a_pageUsed a_pageNext a_pageSize a_pageEdge a_labelled a_sorted a_modeOf a_spotSet a_spotLabels a_spotLeast a_spotGreatest a_linkSet a_linkFrom a_linkTo a_linkTypes a_linkKind a_outgoing a_incoming alw a_candidates a_behind a_before a_nodeFor a_levelSpot a_levelLeft elk a_choiceLeft a_choice a_pickedEdge := by
      intro r hr
      have hal : ∀ i, i < j + 1 → upd alw j r i = if bt (a_linkSet w) i then gb_mk (fun e => decide (e < 20) && bt f_edgeSet e && bt (a_linkTypes (w * 4 + i)) (ty e)) else 0 := by
        intro i hi
        by_cases e : i = j
        · subst e; rw [pk_us]; exact hr
        · rw [pk_un e]; exact h1 i (by omega)
      refine And.intro (vp_in_nI (by omega) (by omega)) ?_
      rw [nI_clamp (n := j) (by omega)]
      refine nm_e (gx_isLinkB hw (by omega) (fun z => ?_) (fun z => ?_))
      · have e : gx_ll w a_linkSet a_linkKind (j + 1) = gx_ll w a_linkSet a_linkKind j := by
          rw [gx_ll_s, z]; simp
        exact nm_r (nI_1 j) (ih (j + 1) q _ elk n (by omega) (by omega) hal (by rw [e]; exact h2) (by rw [e]; exact h3))
      · rw [gx_ix4]
        refine And.intro (vp_in_nI (by omega) (by omega)) ?_
        rw [nI_clamp (n := w * 4 + j) (by omega)]
        refine br_c (fun y => ?_) (fun y => ?_)
        · have e : gx_ll w a_linkSet a_linkKind (j + 1) = gx_ll w a_linkSet a_linkKind j ++ [j] := by
            rw [gx_ll_s, z]; simp [y]
          refine And.intro (vp_in_nI (by omega) (by omega)) ?_
          rw [nI_clamp (n := q) (by omega), gx_byte4 (by omega)]
          refine nm_e (nm_r (nI_1 q) (nm_r (nI_1 j) (ih (j + 1) (q + 1) _ _ n (by omega) (by omega) hal ?_ (fun k x hk => ?_))))
          · rw [e, List.length_append, ← h2]; rfl
          · rw [e, List.getElem?_append] at hk
            by_cases c : k < (gx_ll w a_linkSet a_linkKind j).length
            · rw [if_pos c] at hk
              rw [pk_un (by omega)]
              exact h3 k x hk
            · rw [if_neg c] at hk
              have hk0 : k - (gx_ll w a_linkSet a_linkKind j).length = 0 := by
                rcases Nat.eq_zero_or_pos (k - (gx_ll w a_linkSet a_linkKind j).length) with z0 | z0
                · exact z0
                · rw [List.getElem?_eq_none (by simp; omega)] at hk; cases hk
              rw [hk0] at hk
              have hx : j = x := by simpa using hk
              have hkq : k = q := by omega
              rw [hkq, pk_us, hx]
        · have e : gx_ll w a_linkSet a_linkKind (j + 1) = gx_ll w a_linkSet a_linkKind j := by
            rw [gx_ll_s]; simp [y]
          exact nm_r (nI_1 j) (ih (j + 1) q _ elk n (by omega) (by omega) hal (by rw [e]; exact h2) (by rw [e]; exact h3))
    refine pk_le 4 j (fun h => by omega) (fun _ => gx_isLinkB hw (by omega) (fun z => step 0 (by rw [z]; rfl)) (fun z => ?_))
    rw [gx_ix4]
    refine And.intro (vp_in_nI (by omega) (by omega)) ?_
    rw [nI_clamp (n := w * 4 + j) (by omega)]
    exact gx_edgesOf hty (step _ (by rw [z]; rfl))
end
end
section
/-! leftFor, openLevel, release -/
theorem gb_al_s (f : Nat → Bool) : ∀ (d i : Nat), gb_al f i (d + 1) = (gb_al f i d && f (i + d))
  | 0, i => by show (f i && true) = (true && f i); rw [Bool.and_true, Bool.true_and]
  | d + 1, i => by
    show (f i && gb_al f (i + 1) (d + 1)) = ((f i && gb_al f (i + 1) d) && f (i + (d + 1)))
    rw [gb_al_s f d (i + 1), Bool.and_assoc, show i + 1 + d = i + (d + 1) from by omega]
/-- what a search starts from -/
def gx_SC (w : Nat) (sp lk : Nat → Bool) (la lb : Nat → Nat) (cd : Nat → Nat → Bool) (cn : Nat → Nat → Nat → Bool) (md : Bool) (ns : Int32) (mo ss ls lf lt cand bh bf : Nat → Int32) : Prop :=
  w < 2 ∧ (∀ i, i < 4 → bt (ss w) i = sp i) ∧ (∀ j, j < 4 → bt (ls w) j = lk j) ∧ ((mo w &&& 1) = 0 ↔ md = false) ∧
  (∀ j, j < 4 → lk j = true → lf (w * 4 + j) = nI (la j) ∧ la j < 4 ∧ lt (w * 4 + j) = nI (lb j) ∧ lb j < 4) ∧
  (∀ i, i < 4 → cand i = gb_mk (cd i)) ∧ (∀ i n, cd i n = true → n < 12 ∧ bt ns n = true) ∧
  (∀ j n m, j < 4 → lk j = true → n < 12 → bt ns n = true → m < 32 → bt (bh (j * 12 + n)) m = cn j n m) ∧
  (∀ j m n, j < 4 → lk j = true → m < 12 → n < 32 → bt (bf (j * 12 + m)) n = (decide (n < 12) && bt ns n && cn j n m))
/-- the spots that have a node, and the nodes that they have -/
def gx_As (g : Nat → Nat) (ns asg : Int32) (nf : Nat → Int32) : Prop :=
  (∀ i, i < 4 → bt asg i = decide (g i ≠ 50)) ∧ (∀ i, i < 4 → g i ≠ 50 → nf i = nI (g i) ∧ g i < 12 ∧ bt ns (g i) = true)
def gx_Us (g : Nat → Nat) (us : Int32) : Prop := ∀ n, n < 12 → bt us n = gb_an (fun k => decide (g k = n)) 0 4
section
variable {f_nodeSet f_edgeSet f_sortedCount f_keptCount f_which f_inOrder f_total f_depth f_begun f_assigned f_usedNodes f_edgeLinks : Int32} {a_labelOf a_valueOf a_fromOf a_toOf a_typeOf a_weightOf a_firstPage a_pageUsed a_pageNext a_pageSize a_pageEdge a_labelled a_sorted a_modeOf a_spotSet a_spotLabels a_spotLeast a_spotGreatest a_linkSet a_linkFrom a_linkTo a_linkTypes a_linkKind a_outgoing a_incoming a_allowed a_candidates a_behind a_before a_nodeFor a_levelSpot a_levelLeft a_edgeLink a_choiceLeft a_choice a_pickedEdge : Nat → Int32}
theorem gx_rings_l {post : Int32 → Prop} {j : Nat} (hj : j < 4) : ∀ (d i : Nat) (acc : Int32) (n : Nat), i + d = 12 → d < n → (∀ r, (∀ m, m < 32 → bt r m = (bt acc m || gb_an (fun t => bt (a_behind (j * 12 + t)) m && decide (m = t)) i d)) → post r) → wX_rings_4 post (nI j) f_nodeSet f_edgeSet f_sortedCount f_keptCount f_which f_inOrder f_total f_depth f_begun f_assigned f_usedNodes f_edgeLinks a_labelOf a_valueOf a_fromOf a_toOf a_typeOf a_weightOf a_firstPage a_pageUsed a_pageNext a_pageSize a_pageEdge a_labelled a_sorted a_modeOf a_spotSet a_spotLabels a_spotLeast a_spotGreatest a_linkSet a_linkFrom a_linkTo a_linkTypes a_linkKind a_outgoing a_incoming a_allowed a_candidates a_behind a_before a_nodeFor a_levelSpot a_levelLeft a_edgeLink a_choiceLeft a_choice a_pickedEdge n acc (nI i) := by
  intro d
  induction d with
  | zero =>
    intro i acc n hi hn hp
    obtain ⟨n, rfl⟩ := gx_S n (by omega)
    refine pk_le 12 i (fun _ => hp acc (fun m _ => ?_)) (fun h => by omega)
    show bt acc m = (bt acc m || false)
    rw [Bool.or_false]
  | succ d ih =>
    intro i acc n hi hn hp
    obtain ⟨n, rfl⟩ := gx_S n (by omega)
    refine pk_le 12 i (fun h => by omega) (fun _ => ?_)
    rw [gx_ix12]
    refine And.intro (vp_in_nI (by omega) (by omega)) ?_
    rw [nI_clamp (n := j * 12 + i) (by omega)]
    refine nm_e (nm_r (nI_1 i) (ih (i + 1) _ n (by omega) (by omega) (fun r hr => hp r (fun m hm => ?_))))
    rw [hr m hm, b_or, b_and, gb_one (by omega), Bool.or_assoc]
    rfl
theorem gx_rings {post : Int32 → Prop} {j : Nat} (hj : j < 4) (hp : post (gb_mk (fun m => decide (m < 12) && bt (a_behind (j * 12 + m)) m))) : wpX_rings post (f_nodeSet, f_edgeSet, f_sortedCount, f_keptCount, f_which, f_inOrder, f_total, f_depth, f_begun, f_assigned, f_usedNodes, f_edgeLinks, a_labelOf, a_valueOf, a_fromOf, a_toOf, a_typeOf, a_weightOf, a_firstPage, a_pageUsed, a_pageNext, a_pageSize, a_pageEdge, a_labelled, a_sorted, a_modeOf, a_spotSet, a_spotLabels, a_spotLeast, a_spotGreatest, a_linkSet, a_linkFrom, a_linkTo, a_linkTypes, a_linkKind, a_outgoing, a_incoming, a_allowed, a_candidates, a_behind, a_before, a_nodeFor, a_levelSpot, a_levelLeft, a_edgeLink, a_choiceLeft, a_choice, a_pickedEdge) (nI j) := by
  refine Exists.intro 13 (gx_rings_l hj 12 0 0 13 rfl (by omega) (fun r hr => ?_))
  have e : r = gb_mk (fun m => decide (m < 12) && bt (a_behind (j * 12 + m)) m) := by
    apply gb_mk_of
    intro m hm
    rw [hr m hm, b_0, Bool.false_or]
    apply gb_bool
    rw [gb_an_iff]
    simp only [Bool.and_eq_true, decide_eq_true_eq]
    constructor
    · rintro ⟨t, t1, t2, t3, rfl⟩
      exact ⟨by omega, t3⟩
    · rintro ⟨t1, t2⟩
      exact ⟨m, by omega, by omega, t2, rfl⟩
  rw [e]; exact hp
theorem gx_left32 {post : Int32 → Prop} {w i : Nat} {sp lk : Nat → Bool} {la lb g : Nat → Nat} {cd : Nat → Nat → Bool} {cn : Nat → Nat → Nat → Bool} {md : Bool} (hi : i < 4)
    (hC : gx_SC w sp lk la lb cd cn md f_nodeSet a_modeOf a_spotSet a_linkSet a_linkFrom a_linkTo a_candidates a_behind a_before) (hA : gx_As g f_nodeSet f_assigned a_nodeFor) (hg : g i = 50)
    (bs : Nat → Bool) (hbs : ∀ n, bs n = true → cd i n = true) (hp : post (gb_mk (fun n => bs n && gb_al (fun j => gp_lo lk la lb cn i (gp_st g i n) j) 0 4))) :
    ∀ (d j : Nat) (x2 : Int32) (n : Nat), j + d = 4 → d < n → (∀ m, m < 32 → bt x2 m = (bs m && gb_al (fun j => gp_lo lk la lb cn i (gp_st g i m) j) 0 j)) → wX_leftFor_32 post (nI i) f_nodeSet f_edgeSet f_sortedCount f_keptCount (nI w) f_inOrder f_total f_depth f_begun f_assigned f_usedNodes f_edgeLinks a_labelOf a_valueOf a_fromOf a_toOf a_typeOf a_weightOf a_firstPage a_pageUsed a_pageNext a_pageSize a_pageEdge a_labelled a_sorted a_modeOf a_spotSet a_spotLabels a_spotLeast a_spotGreatest a_linkSet a_linkFrom a_linkTo a_linkTypes a_linkKind a_outgoing a_incoming a_allowed a_candidates a_behind a_before a_nodeFor a_levelSpot a_levelLeft a_edgeLink a_choiceLeft a_choice a_pickedEdge n x2 (nI j) := by
  obtain ⟨c1, c2, c3, c4, c5, c6, c7, c8, c9⟩ := hC
  obtain ⟨a1, a2⟩ := hA
  intro d
  induction d with
  | zero =>
    intro j x2 n hj hn hx
    obtain ⟨n, rfl⟩ := gx_S n (by omega)
    have : j = 4 := by omega
    subst this
    have e : x2 = gb_mk (fun n => bs n && gb_al (fun j => gp_lo lk la lb cn i (gp_st g i n) j) 0 4) := gb_mk_of hx
    exact pk_le 4 4 (fun _ => by rw [e]; exact hp) (fun h => by omega)
  | succ d ih =>
    intro j x2 n hj hn hx
    obtain ⟨n, rfl⟩ := gx_S n (by omega)
    refine pk_le 4 j (fun h => by omega) (fun _ => br_c (fun z => ?_) (fun z => ?_))
    · have e : x2 = gb_mk (fun n => bs n && gb_al (fun j => gp_lo lk la lb cn i (gp_st g i n) j) 0 4) := by
        rw [z]
        refine (gb_eq0 (fun m hm => ?_)).symm
        rw [gb_mk_l _ hm]
        have := hx m hm
        rw [z, b_0] at this
        cases hb : (bs m && gb_al (fun j => gp_lo lk la lb cn i (gp_st g i m) j) 0 4)
        · rfl
        · rw [Bool.and_eq_true, gb_al_iff] at hb
          have h2 : (bs m && gb_al (fun j => gp_lo lk la lb cn i (gp_st g i m) j) 0 j) = true := by
            rw [Bool.and_eq_true, gb_al_iff]
            exact ⟨hb.1, fun t t1 t2 => hb.2 t t1 (by omega)⟩
          rw [h2] at this; cases this
      rw [e]; exact hp
    · have next : ∀ x2', (∀ m, m < 32 → bt x2' m = (bt x2 m && gp_lo lk la lb cn i (gp_st g i m) j)) → wX_leftFor_32 post (nI i) f_nodeSet f_edgeSet f_sortedCount f_keptCount (nI w) f_inOrder f_total f_depth f_begun f_assigned f_usedNodes f_edgeLinks a_labelOf a_valueOf a_fromOf a_toOf a_typeOf a_weightOf a_firstPage a_pageUsed a_pageNext a_pageSize a_pageEdge a_labelled a_sorted a_modeOf a_spotSet a_spotLabels a_spotLeast a_spotGreatest a_linkSet a_linkFrom a_linkTo a_linkTypes a_linkKind a_outgoing a_incoming a_allowed a_candidates a_behind a_before a_nodeFor a_levelSpot a_levelLeft a_edgeLink a_choiceLeft a_choice a_pickedEdge n x2' (nI (j + 1)) := by
        intro x2' hx'
        refine ih (j + 1) x2' n (by omega) (by omega) (fun m hm => ?_)
        rw [hx' m hm, hx m hm, gb_al_s, Nat.zero_add, Bool.and_assoc]
      have hj4 : j < 4 := by omega
      have same : (∀ m, m < 32 → gp_lo lk la lb cn i (gp_st g i m) j = true) → wX_leftFor_32 post (nI i) f_nodeSet f_edgeSet f_sortedCount f_keptCount (nI w) f_inOrder f_total f_depth f_begun f_assigned f_usedNodes f_edgeLinks a_labelOf a_valueOf a_fromOf a_toOf a_typeOf a_weightOf a_firstPage a_pageUsed a_pageNext a_pageSize a_pageEdge a_labelled a_sorted a_modeOf a_spotSet a_spotLabels a_spotLeast a_spotGreatest a_linkSet a_linkFrom a_linkTo a_linkTypes a_linkKind a_outgoing a_incoming a_allowed a_candidates a_behind a_before a_nodeFor a_levelSpot a_levelLeft a_edgeLink a_choiceLeft a_choice a_pickedEdge n x2 (nI (j + 1)) := fun h => next x2 (fun m hm => by rw [h m hm, Bool.and_true])
      have hb : ∀ m, m < 32 → bt x2 m = true → m < 12 ∧ bt f_nodeSet m = true := by
        intro m hm h
        rw [hx m hm, Bool.and_eq_true] at h
        exact c7 i m (hbs m h.1)
      refine gx_isLinkB c1 (by omega) (fun y => ?_) (fun y => ?_)
      · rw [c3 j hj4] at y
        refine nm_r (nI_1 j) (same (fun m _ => gp_lo_iff.mpr (fun k => by rw [y] at k; cases k)))
      · rw [c3 j hj4] at y
        obtain ⟨l1, l2, l3, l4⟩ := c5 j hj4 y
        rw [gx_ix4, nI_clamp (n := w * 4 + j) (by omega), l1, l3]
        refine And.intro (vp_in_nI (by omega) (by omega)) (nm_e (And.intro (vp_in_nI (by omega) (by omega)) (nm_e ?_)))
        -- the link's ends a and b
        have j147 : la j ≠ i ∨ (lb j ≠ i ∧ g (lb j) = 50) → wX_leftFor_147 post (wX_leftFor_32 post (nI i) f_nodeSet f_edgeSet f_sortedCount f_keptCount (nI w) f_inOrder f_total f_depth f_begun f_assigned f_usedNodes f_edgeLinks a_labelOf a_valueOf a_fromOf a_toOf a_typeOf a_weightOf a_firstPage a_pageUsed a_pageNext a_pageSize a_pageEdge a_labelled a_sorted a_modeOf a_spotSet a_spotLabels a_spotLeast a_spotGreatest a_linkSet a_linkFrom a_linkTo a_linkTypes a_linkKind a_outgoing a_incoming a_allowed a_candidates a_behind a_before a_nodeFor a_levelSpot a_levelLeft a_edgeLink a_choiceLeft a_choice a_pickedEdge n) (nI i) x2 (nI j) (nI (la j)) (nI (lb j)) f_nodeSet f_edgeSet f_sortedCount f_keptCount (nI w) f_inOrder f_total f_depth f_begun f_assigned f_usedNodes f_edgeLinks a_labelOf a_valueOf a_fromOf a_toOf a_typeOf a_weightOf a_firstPage a_pageUsed a_pageNext a_pageSize a_pageEdge a_labelled a_sorted a_modeOf a_spotSet a_spotLabels a_spotLeast a_spotGreatest a_linkSet a_linkFrom a_linkTo a_linkTypes a_linkKind a_outgoing a_incoming a_allowed a_candidates a_behind a_before a_nodeFor a_levelSpot a_levelLeft a_edgeLink a_choiceLeft a_choice a_pickedEdge := by
          intro hab
          refine pk_eq (lb j) i (fun eb => ?_) (fun eb => nm_r (nI_1 j) (same (fun m _ => ?_)))
          · have ea : la j ≠ i := by
              rcases hab with h | h
              · exact h
              · exact absurd eb h.1
            refine gb_br (la j) (by omega) (fun za => nm_r (nI_1 j) (same (fun m _ => ?_))) (fun za => ?_)
            · rw [a1 _ l2] at za
              refine gp_lo_iff.mpr (fun _ _ h3 _ => ?_)
              rw [gp_st_n ea] at h3
              simp [h3] at za
            · rw [a1 _ l2, decide_eq_true_eq] at za
              obtain ⟨n1, n2, n3⟩ := a2 _ l2 za
              refine And.intro (vp_in_nI l2 (by omega)) ?_
              rw [nI_clamp (n := la j) (by omega), n1, gx_ix12]
              refine And.intro (vp_in_nI (by omega) (by omega)) ?_
              rw [nI_clamp (n := j * 12 + g (la j)) (by omega)]
              refine nm_e (nm_r (nI_1 j) (next _ (fun m hm => ?_)))
              rw [b_and]
              cases hm2 : bt x2 m
              · rfl
              · obtain ⟨m1, m2⟩ := hb m hm hm2
                rw [c8 j _ m hj4 y n2 n3 hm, Bool.true_and, Bool.true_and]
                apply gb_bool
                rw [gp_lo_iff, gp_st_n ea, eb, gp_st_s]
                exact ⟨fun h _ _ _ _ => h, fun h => h y (Or.inr rfl) za (by omega)⟩
          · refine gp_lo_iff.mpr (fun _ h2 _ h4 => ?_)
            rcases h2 with h | h
            · rcases hab with h' | h'
              · exact absurd h h'
              · rw [gp_st_n eb] at h4
                exact absurd h'.2 h4
            · exact absurd h eb
        have j106 : ¬ (la j = i ∧ lb j = i) → wX_leftFor_106 post (wX_leftFor_32 post (nI i) f_nodeSet f_edgeSet f_sortedCount f_keptCount (nI w) f_inOrder f_total f_depth f_begun f_assigned f_usedNodes f_edgeLinks a_labelOf a_valueOf a_fromOf a_toOf a_typeOf a_weightOf a_firstPage a_pageUsed a_pageNext a_pageSize a_pageEdge a_labelled a_sorted a_modeOf a_spotSet a_spotLabels a_spotLeast a_spotGreatest a_linkSet a_linkFrom a_linkTo a_linkTypes a_linkKind a_outgoing a_incoming a_allowed a_candidates a_behind a_before a_nodeFor a_levelSpot a_levelLeft a_edgeLink a_choiceLeft a_choice a_pickedEdge n) (nI i) x2 (nI j) (nI (la j)) (nI (lb j)) f_nodeSet f_edgeSet f_sortedCount f_keptCount (nI w) f_inOrder f_total f_depth f_begun f_assigned f_usedNodes f_edgeLinks a_labelOf a_valueOf a_fromOf a_toOf a_typeOf a_weightOf a_firstPage a_pageUsed a_pageNext a_pageSize a_pageEdge a_labelled a_sorted a_modeOf a_spotSet a_spotLabels a_spotLeast a_spotGreatest a_linkSet a_linkFrom a_linkTo a_linkTypes a_linkKind a_outgoing a_incoming a_allowed a_candidates a_behind a_before a_nodeFor a_levelSpot a_levelLeft a_edgeLink a_choiceLeft a_choice a_pickedEdge := by
          intro hab
          refine pk_eq (la j) i (fun ea => ?_) (fun ea => j147 (Or.inl ea))
          have eb : lb j ≠ i := fun e => hab ⟨ea, e⟩
          refine gb_br (lb j) (by omega) (fun za => ?_) (fun za => ?_)
          · rw [a1 _ l4] at za
            exact j147 (Or.inr ⟨eb, by simpa using za⟩)
          · rw [a1 _ l4, decide_eq_true_eq] at za
            obtain ⟨n1, n2, n3⟩ := a2 _ l4 za
            refine And.intro (vp_in_nI l4 (by omega)) ?_
            rw [nI_clamp (n := lb j) (by omega), n1, gx_ix12]
            refine And.intro (vp_in_nI (by omega) (by omega)) ?_
            rw [nI_clamp (n := j * 12 + g (lb j)) (by omega)]
            refine nm_e (nm_r (nI_1 j) (next _ (fun m hm => ?_)))
            rw [b_and]
            cases hm2 : bt x2 m
            · rfl
            · obtain ⟨m1, m2⟩ := hb m hm hm2
              rw [c9 j _ m hj4 y n2 hm, Bool.true_and, Bool.true_and, decide_eq_true m1, m2, Bool.true_and, Bool.true_and]
              apply gb_bool
              rw [gp_lo_iff, gp_st_n eb, ea, gp_st_s]
              exact ⟨fun h _ _ _ _ => h, fun h => h y (Or.inl rfl) (by omega) za⟩
        refine pk_eq (la j) i (fun ea => pk_eq (lb j) i (fun eb => ?_) (fun eb => j106 (fun h => eb h.2))) (fun ea => j106 (fun h => ea h.1))
        refine gx_rings hj4 (nm_e (nm_r (nI_1 j) (next _ (fun m hm => ?_))))
        rw [b_and]
        cases hm2 : bt x2 m
        · rfl
        · obtain ⟨m1, m2⟩ := hb m hm hm2
          rw [gb_mk_l _ hm, decide_eq_true m1, c8 j m m hj4 y m1 m2 hm, Bool.true_and, Bool.true_and, Bool.true_and]
          apply gb_bool
          rw [gp_lo_iff, ea, eb, gp_st_s]
          exact ⟨fun h _ _ _ _ => h, fun h => h y (Or.inl rfl) (by omega) (by omega)⟩
theorem gx_leftFor {post : Int32 → Prop} {w i : Nat} {sp lk : Nat → Bool} {la lb g : Nat → Nat} {cd : Nat → Nat → Bool} {cn : Nat → Nat → Nat → Bool} {md : Bool} (hi : i < 4)
    (hC : gx_SC w sp lk la lb cd cn md f_nodeSet a_modeOf a_spotSet a_linkSet a_linkFrom a_linkTo a_candidates a_behind a_before) (hA : gx_As g f_nodeSet f_assigned a_nodeFor) (hU : gx_Us g f_usedNodes) (hg : g i = 50)
    (hp : post (gb_mk (gp_ft cd md lk la lb cn g i))) : wpX_leftFor post (f_nodeSet, f_edgeSet, f_sortedCount, f_keptCount, nI w, f_inOrder, f_total, f_depth, f_begun, f_assigned, f_usedNodes, f_edgeLinks, a_labelOf, a_valueOf, a_fromOf, a_toOf, a_typeOf, a_weightOf, a_firstPage, a_pageUsed, a_pageNext, a_pageSize, a_pageEdge, a_labelled, a_sorted, a_modeOf, a_spotSet, a_spotLabels, a_spotLeast, a_spotGreatest, a_linkSet, a_linkFrom, a_linkTo, a_linkTypes, a_linkKind, a_outgoing, a_incoming, a_allowed, a_candidates, a_behind, a_before, a_nodeFor, a_levelSpot, a_levelLeft, a_edgeLink, a_choiceLeft, a_choice, a_pickedEdge) (nI i) := by
  have hC0 := hC
  obtain ⟨c1, c2, c3, c4, c5, c6, c7, c8, c9⟩ := hC
  refine And.intro (vp_in_nI hi (by omega)) (nm_e (And.intro (vp_in_nI c1 (by omega)) ?_))
  rw [nI_clamp (n := i) (by omega), nI_clamp (n := w) (by omega), c6 i hi]
  refine br_c (fun z => ?_) (fun z => ?_)
  · have hm := c4.mp z
    refine Exists.intro 5 (gx_left32 hi hC0 hA hg (cd i) (fun n h => h) ?_ 4 0 _ 5 rfl (by omega) (fun m hm => ?_))
    · have e : gp_ft cd md lk la lb cn g i = (fun n => cd i n && gb_al (fun j => gp_lo lk la lb cn i (gp_st g i n) j) 0 4) := by
        funext n
        unfold gp_ft
        rw [hm]; simp
      rw [e] at hp; exact hp
    · rw [gb_mk_l _ hm]
      show _ = (cd i m && true)
      rw [Bool.and_true]
  · have hm : md = true := by
      cases h : md
      · exact absurd (c4.mpr h) z
      · rfl
    refine nm_e (Exists.intro 5 (gx_left32 hi hC0 hA hg (fun n => cd i n && gb_al (fun k => decide (g k ≠ n)) 0 4) (fun n h => by rw [Bool.and_eq_true] at h; exact h.1) ?_ 4 0 _ 5 rfl (by omega) (fun m hm => ?_)))
    · have e : gp_ft cd md lk la lb cn g i = (fun n => (cd i n && gb_al (fun k => decide (g k ≠ n)) 0 4) && gb_al (fun j => gp_lo lk la lb cn i (gp_st g i n) j) 0 4) := by
        funext n
        unfold gp_ft
        rw [hm]; simp
      rw [e] at hp; exact hp
    · rw [b_and, gb_mk_l _ hm, gb_not hm]
      show _ = ((cd i m && _) && true)
      rw [Bool.and_true]
      cases hc : cd i m
      · rfl
      · have := c7 i m hc
        rw [hU m this.1, Bool.true_and, Bool.true_and]
        apply gb_bool
        rw [gb_al_iff, Bool.not_eq_true', ← Bool.not_eq_true, gb_an_iff]
        constructor
        · intro h t t1 t2
          simp only [decide_eq_true_eq]
          intro e
          exact h ⟨t, t1, t2, by simpa using e⟩
        · rintro h ⟨t, t1, t2, t3⟩
          have := h t t1 t2
          simp only [decide_eq_true_eq] at this t3
          exact this t3
/-! release -/
theorem gx_rel39 {post : SX → Prop} {h : Nat → Nat} (hn : ∀ k, k < 4 → bt f_assigned k = true → a_nodeFor k = nI (h k) ∧ h k < 12) : ∀ (d i : Nat) (acc : Int32) (n : Nat), i + d = 4 → d < n → (∀ us, (∀ m, m < 32 → bt us m = (bt acc m || gb_an (fun k => bt f_assigned k && decide (m = h k)) i d)) → post (f_nodeSet, f_edgeSet, f_sortedCount, f_keptCount, f_which, f_inOrder, f_total, f_depth, f_begun, f_assigned, us, f_edgeLinks, a_labelOf, a_valueOf, a_fromOf, a_toOf, a_typeOf, a_weightOf, a_firstPage, a_pageUsed, a_pageNext, a_pageSize, a_pageEdge, a_labelled, a_sorted, a_modeOf, a_spotSet, a_spotLabels, a_spotLeast, a_spotGreatest, a_linkSet, a_linkFrom, a_linkTo, a_linkTypes, a_linkKind, a_outgoing, a_incoming, a_allowed, a_candidates, a_behind, a_before, a_nodeFor, a_levelSpot, a_levelLeft, a_edgeLink, a_choiceLeft, a_choice, a_pickedEdge)) → wX_release_39 post f_nodeSet f_edgeSet f_sortedCount f_keptCount f_which f_inOrder f_total f_depth f_begun f_assigned f_edgeLinks a_labelOf a_valueOf a_fromOf a_toOf a_typeOf a_weightOf a_firstPage a_pageUsed a_pageNext a_pageSize a_pageEdge a_labelled a_sorted a_modeOf a_spotSet a_spotLabels a_spotLeast a_spotGreatest a_linkSet a_linkFrom a_linkTo a_linkTypes a_linkKind a_outgoing a_incoming a_allowed a_candidates a_behind a_before a_nodeFor a_levelSpot a_levelLeft a_edgeLink a_choiceLeft a_choice a_pickedEdge n (nI i) acc := by
  intro d
  induction d with
  | zero =>
    intro i acc n hi hm hp
    obtain ⟨n, rfl⟩ := gx_S n (by omega)
    refine pk_le 4 i (fun _ => hp acc (fun m _ => ?_)) (fun h => by omega)
    show bt acc m = (bt acc m || false)
    rw [Bool.or_false]
  | succ d ih =>
    intro i acc n hi hm hp
    obtain ⟨n, rfl⟩ := gx_S n (by omega)
    refine pk_le 4 i (fun h => by omega) (fun _ => gb_br i (by omega) (fun z => ?_) (fun z => ?_))
    · refine nm_e (nm_r (nI_1 i) (ih (i + 1) _ n (by omega) (by omega) (fun r hr => hp r (fun m hm => ?_))))
      rw [hr m hm, b_or, b_0]
      show _ = (bt acc m || ((bt f_assigned i && _) || _))
      rw [z]; simp
    · obtain ⟨h1, h2⟩ := hn i (by omega) z
      refine And.intro (vp_in_nI (by omega) (by omega)) ?_
      rw [nI_clamp (n := i) (by omega), h1]
      refine nm_e (nm_r (nI_1 i) (ih (i + 1) _ n (by omega) (by omega) (fun r hr => hp r (fun m hm => ?_))))
      rw [hr m hm, b_or, gb_one (by omega), Bool.or_assoc]
      show _ = (bt acc m || ((bt f_assigned i && _) || _))
      rw [z, Bool.true_and]
theorem gx_release {post : SX → Prop} {l s : Nat} {h : Nat → Nat} (hl : l < 4) (hs : a_levelSpot l = nI s) (hs4 : s < 4) (hn : ∀ k, k < 4 → bt f_assigned k = true → k ≠ s → a_nodeFor k = nI (h k) ∧ h k < 12) (h0 : bt f_assigned s = false → post (f_nodeSet, f_edgeSet, f_sortedCount, f_keptCount, f_which, f_inOrder, f_total, f_depth, f_begun, f_assigned, f_usedNodes, f_edgeLinks, a_labelOf, a_valueOf, a_fromOf, a_toOf, a_typeOf, a_weightOf, a_firstPage, a_pageUsed, a_pageNext, a_pageSize, a_pageEdge, a_labelled, a_sorted, a_modeOf, a_spotSet, a_spotLabels, a_spotLeast, a_spotGreatest, a_linkSet, a_linkFrom, a_linkTo, a_linkTypes, a_linkKind, a_outgoing, a_incoming, a_allowed, a_candidates, a_behind, a_before, a_nodeFor, a_levelSpot, a_levelLeft, a_edgeLink, a_choiceLeft, a_choice, a_pickedEdge))
    (h1 : bt f_assigned s = true → ∀ asg us, (∀ k, k < 32 → bt asg k = (bt f_assigned k && decide (k ≠ s))) → (∀ m, m < 32 → bt us m = gb_an (fun k => bt asg k && decide (m = h k)) 0 4) → post (f_nodeSet, f_edgeSet, f_sortedCount, f_keptCount, f_which, f_inOrder, f_total, f_depth, f_begun, asg, us, f_edgeLinks, a_labelOf, a_valueOf, a_fromOf, a_toOf, a_typeOf, a_weightOf, a_firstPage, a_pageUsed, a_pageNext, a_pageSize, a_pageEdge, a_labelled, a_sorted, a_modeOf, a_spotSet, a_spotLabels, a_spotLeast, a_spotGreatest, a_linkSet, a_linkFrom, a_linkTo, a_linkTypes, a_linkKind, a_outgoing, a_incoming, a_allowed, a_candidates, a_behind, a_before, a_nodeFor, a_levelSpot, a_levelLeft, a_edgeLink, a_choiceLeft, a_choice, a_pickedEdge)) : wpX_release post (f_nodeSet, f_edgeSet, f_sortedCount, f_keptCount, f_which, f_inOrder, f_total, f_depth, f_begun, f_assigned, f_usedNodes, f_edgeLinks, a_labelOf, a_valueOf, a_fromOf, a_toOf, a_typeOf, a_weightOf, a_firstPage, a_pageUsed, a_pageNext, a_pageSize, a_pageEdge, a_labelled, a_sorted, a_modeOf, a_spotSet, a_spotLabels, a_spotLeast, a_spotGreatest, a_linkSet, a_linkFrom, a_linkTo, a_linkTypes, a_linkKind, a_outgoing, a_incoming, a_allowed, a_candidates, a_behind, a_before, a_nodeFor, a_levelSpot, a_levelLeft, a_edgeLink, a_choiceLeft, a_choice, a_pickedEdge) (nI l) := by
  refine And.intro (vp_in_nI hl (by omega)) ?_
  rw [nI_clamp (n := l) (by omega), hs]
  refine nm_e (gb_br s (by omega) h0 (fun z => nm_e (Exists.intro 5 ?_)))
  have hb : ∀ k, k < 32 → bt (f_assigned &&& (((1 : Int32) <<< (nI s &&& 31)) ^^^ (-1))) k = (bt f_assigned k && decide (k ≠ s)) := by
    intro k hk
    rw [b_and, gb_not hk, gb_one (by omega)]
    by_cases e : k = s <;> simp [e]
  refine gx_rel39 (h := h) (fun k hk hk2 => ?_) 4 0 0 5 rfl (by omega) (fun us hus => ?_)
  · rw [hb k (by omega), Bool.and_eq_true, decide_eq_true_eq] at hk2
    exact hn k hk hk2.1 hk2.2
  · exact h1 z _ us hb (fun m hm => by rw [hus m hm, b_0, Bool.false_or])
/-! openLevel -/
theorem gx_neg1 : (-1 : Int32) < 0 := by decide
def gx_e4 (b : Nat) : Int32 := if b = 4 then (-1) else nI b
theorem gx_open6 {post : SX → Prop} {w dp : Nat} {io : Bool} {sp lk : Nat → Bool} {la lb g : Nat → Nat} {cd : Nat → Nat → Bool} {cn : Nat → Nat → Nat → Bool} {md : Bool} (hd : dp < 4) (hio : f_inOrder = 0 ↔ io = false)
    (hC : gx_SC w sp lk la lb cd cn md f_nodeSet a_modeOf a_spotSet a_linkSet a_linkFrom a_linkTo a_candidates a_behind a_before) (hA : gx_As g f_nodeSet f_assigned a_nodeFor) (hU : gx_Us g f_usedNodes) :
    ∀ (d i b : Nat) (n : Nat) (x2 : Int32), i + d = 4 → d < n → (b = 4 ∨ b < i) → (b = 4 ∨ x2 = gb_mk (gp_ft cd md lk la lb cn g b)) → gp_pd (fun i => sp i && decide (g i = 50)) (fun i => if io then 0 else (gb_fl (gp_ft cd md lk la lb cn g i) 0 12).length) d i b < 4 →
    post (f_nodeSet, f_edgeSet, f_sortedCount, f_keptCount, nI w, f_inOrder, f_total, nI dp, f_begun, f_assigned, f_usedNodes, f_edgeLinks, a_labelOf, a_valueOf, a_fromOf, a_toOf, a_typeOf, a_weightOf, a_firstPage, a_pageUsed, a_pageNext, a_pageSize, a_pageEdge, a_labelled, a_sorted, a_modeOf, a_spotSet, a_spotLabels, a_spotLeast, a_spotGreatest, a_linkSet, a_linkFrom, a_linkTo, a_linkTypes, a_linkKind, a_outgoing, a_incoming, a_allowed, a_candidates, a_behind, a_before, a_nodeFor, upd a_levelSpot dp (nI (gp_pd (fun i => sp i && decide (g i = 50)) (fun i => if io then 0 else (gb_fl (gp_ft cd md lk la lb cn g i) 0 12).length) d i b)), upd a_levelLeft dp (gb_mk (gp_ft cd md lk la lb cn g (gp_pd (fun i => sp i && decide (g i = 50)) (fun i => if io then 0 else (gb_fl (gp_ft cd md lk la lb cn g i) 0 12).length) d i b))), a_edgeLink, a_choiceLeft, a_choice, a_pickedEdge) →
    wX_openLevel_6 post f_nodeSet f_edgeSet f_sortedCount f_keptCount (nI w) f_inOrder f_total (nI dp) f_begun f_assigned f_usedNodes f_edgeLinks a_labelOf a_valueOf a_fromOf a_toOf a_typeOf a_weightOf a_firstPage a_pageUsed a_pageNext a_pageSize a_pageEdge a_labelled a_sorted a_modeOf a_spotSet a_spotLabels a_spotLeast a_spotGreatest a_linkSet a_linkFrom a_linkTo a_linkTypes a_linkKind a_outgoing a_incoming a_allowed a_candidates a_behind a_before a_nodeFor a_levelSpot a_levelLeft a_edgeLink a_choiceLeft a_choice a_pickedEdge n (gx_e4 b) x2 (nI i) := by
  have hC0 := hC
  obtain ⟨c1, c2, c3, c4, c5, c6, c7, c8, c9⟩ := hC
  have hlen : ∀ i, (gb_bl (gb_mk (gp_ft cd md lk la lb cn g i))).length = (gb_fl (gp_ft cd md lk la lb cn g i) 0 12).length := by
    intro i
    rw [gb_bl_mk (d := 12) (by omega)]
    intro k hk _
    cases hf : gp_ft cd md lk la lb cn g i k
    · rfl
    · have := c7 i k (gp_ft_iff.mp hf).1
      omega
  intro d
  induction d with
  | zero =>
    intro i b n x2 hi hn hb hx hlt hp
    obtain ⟨n, rfl⟩ := gx_S n (by omega)
    have hb4 : b ≠ 4 := by
      intro e
      have : gp_pd (fun i => sp i && decide (g i = 50)) (fun i => if io then 0 else (gb_fl (gp_ft cd md lk la lb cn g i) 0 12).length) 0 i b = b := rfl
      omega
    have e1 : gx_e4 b = nI b := if_neg hb4
    have e2 : x2 = gb_mk (gp_ft cd md lk la lb cn g b) := by
      rcases hx with h | h
      · exact absurd h hb4
      · exact h
    refine pk_le 4 i (fun _ => And.intro (vp_in_nI hd (by omega)) ?_) (fun h => by omega)
    rw [nI_clamp (n := dp) (by omega), e1, gx_byte4 (by omega), e2]
    exact nm_e (And.intro (vp_in_nI hd (by omega)) (nm_e hp))
  | succ d ih =>
    intro i b n x2 hi hn hb hx hlt hp
    obtain ⟨n, rfl⟩ := gx_S n (by omega)
    have hlen2 : ∀ k, (gb_fl (gp_ft cd md lk la lb cn g k) 0 12).length < 2 ^ 31 := fun k => by have := gb_fl_len (gp_ft cd md lk la lb cn g k) 12 0; omega
    have keep : (sp i && decide (g i = 50) && (decide (b = 4) || decide ((if io then 0 else (gb_fl (gp_ft cd md lk la lb cn g i) 0 12).length) < (if io then 0 else (gb_fl (gp_ft cd md lk la lb cn g b) 0 12).length)))) = false → wX_openLevel_6 post f_nodeSet f_edgeSet f_sortedCount f_keptCount (nI w) f_inOrder f_total (nI dp) f_begun f_assigned f_usedNodes f_edgeLinks a_labelOf a_valueOf a_fromOf a_toOf a_typeOf a_weightOf a_firstPage a_pageUsed a_pageNext a_pageSize a_pageEdge a_labelled a_sorted a_modeOf a_spotSet a_spotLabels a_spotLeast a_spotGreatest a_linkSet a_linkFrom a_linkTo a_linkTypes a_linkKind a_outgoing a_incoming a_allowed a_candidates a_behind a_before a_nodeFor a_levelSpot a_levelLeft a_edgeLink a_choiceLeft a_choice a_pickedEdge n (gx_e4 b) x2 (nI (i + 1)) := by
      intro hk
      have e : gp_pd (fun i => sp i && decide (g i = 50)) (fun i => if io then 0 else (gb_fl (gp_ft cd md lk la lb cn g i) 0 12).length) (d + 1) i b = gp_pd (fun i => sp i && decide (g i = 50)) (fun i => if io then 0 else (gb_fl (gp_ft cd md lk la lb cn g i) 0 12).length) d (i + 1) b := by
        show gp_pd _ _ d (i + 1) (if (sp i && decide (g i = 50) && (decide (b = 4) || decide ((if io then 0 else (gb_fl (gp_ft cd md lk la lb cn g i) 0 12).length) < (if io then 0 else (gb_fl (gp_ft cd md lk la lb cn g b) 0 12).length)))) then i else b) = _
        rw [hk]; rfl
      rw [e] at hlt hp
      exact ih (i + 1) b n x2 (by omega) (by omega) (by omega) hx hlt hp
    have take : (sp i && decide (g i = 50) && (decide (b = 4) || decide ((if io then 0 else (gb_fl (gp_ft cd md lk la lb cn g i) 0 12).length) < (if io then 0 else (gb_fl (gp_ft cd md lk la lb cn g b) 0 12).length)))) = true → wX_openLevel_6 post f_nodeSet f_edgeSet f_sortedCount f_keptCount (nI w) f_inOrder f_total (nI dp) f_begun f_assigned f_usedNodes f_edgeLinks a_labelOf a_valueOf a_fromOf a_toOf a_typeOf a_weightOf a_firstPage a_pageUsed a_pageNext a_pageSize a_pageEdge a_labelled a_sorted a_modeOf a_spotSet a_spotLabels a_spotLeast a_spotGreatest a_linkSet a_linkFrom a_linkTo a_linkTypes a_linkKind a_outgoing a_incoming a_allowed a_candidates a_behind a_before a_nodeFor a_levelSpot a_levelLeft a_edgeLink a_choiceLeft a_choice a_pickedEdge n (nI i) (gb_mk (gp_ft cd md lk la lb cn g i)) (nI (i + 1)) := by
      intro hk
      have e : gp_pd (fun i => sp i && decide (g i = 50)) (fun i => if io then 0 else (gb_fl (gp_ft cd md lk la lb cn g i) 0 12).length) (d + 1) i b = gp_pd (fun i => sp i && decide (g i = 50)) (fun i => if io then 0 else (gb_fl (gp_ft cd md lk la lb cn g i) 0 12).length) d (i + 1) i := by
        show gp_pd _ _ d (i + 1) (if (sp i && decide (g i = 50) && (decide (b = 4) || decide ((if io then 0 else (gb_fl (gp_ft cd md lk la lb cn g i) 0 12).length) < (if io then 0 else (gb_fl (gp_ft cd md lk la lb cn g b) 0 12).length)))) then i else b) = _
        rw [hk]; rfl
      rw [e] at hlt hp
      have e4 : nI i = gx_e4 i := (if_neg (by omega)).symm
      rw [e4]
      exact ih (i + 1) i n _ (by omega) (by omega) (by omega) (Or.inr rfl) hlt hp
    have j38 : (sp i && decide (g i = 50)) = false → wX_openLevel_38 post (wX_openLevel_6 post f_nodeSet f_edgeSet f_sortedCount f_keptCount (nI w) f_inOrder f_total (nI dp) f_begun f_assigned f_usedNodes f_edgeLinks a_labelOf a_valueOf a_fromOf a_toOf a_typeOf a_weightOf a_firstPage a_pageUsed a_pageNext a_pageSize a_pageEdge a_labelled a_sorted a_modeOf a_spotSet a_spotLabels a_spotLeast a_spotGreatest a_linkSet a_linkFrom a_linkTo a_linkTypes a_linkKind a_outgoing a_incoming a_allowed a_candidates a_behind a_before a_nodeFor a_levelSpot a_levelLeft a_edgeLink a_choiceLeft a_choice a_pickedEdge n) (gx_e4 b) x2 (nI i) f_nodeSet f_edgeSet f_sortedCount f_keptCount (nI w) f_inOrder f_total (nI dp) f_begun f_assigned f_usedNodes f_edgeLinks a_labelOf a_valueOf a_fromOf a_toOf a_typeOf a_weightOf a_firstPage a_pageUsed a_pageNext a_pageSize a_pageEdge a_labelled a_sorted a_modeOf a_spotSet a_spotLabels a_spotLeast a_spotGreatest a_linkSet a_linkFrom a_linkTo a_linkTypes a_linkKind a_outgoing a_incoming a_allowed a_candidates a_behind a_before a_nodeFor a_levelSpot a_levelLeft a_edgeLink a_choiceLeft a_choice a_pickedEdge := by
      intro hk
      exact br_t rfl (nm_r (nI_1 i) (keep (by rw [hk]; rfl)))
    refine pk_le 4 i (fun h => by omega) (fun _ => gx_isSpotB c1 (by omega) (fun z => j38 (by rw [c2 i (by omega)] at z; rw [z]; rfl)) (fun z => gb_br i (by omega) (fun y => ?_) (fun y => j38 ?_)))
    · rw [c2 i (by omega)] at z
      rw [hA.1 i (by omega)] at y
      have hg : g i = 50 := by simpa using y
      have j57 : (b = 4 ∨ io = false) → wX_openLevel_57 post (wX_openLevel_6 post f_nodeSet f_edgeSet f_sortedCount f_keptCount (nI w) f_inOrder f_total (nI dp) f_begun f_assigned f_usedNodes f_edgeLinks a_labelOf a_valueOf a_fromOf a_toOf a_typeOf a_weightOf a_firstPage a_pageUsed a_pageNext a_pageSize a_pageEdge a_labelled a_sorted a_modeOf a_spotSet a_spotLabels a_spotLeast a_spotGreatest a_linkSet a_linkFrom a_linkTo a_linkTypes a_linkKind a_outgoing a_incoming a_allowed a_candidates a_behind a_before a_nodeFor a_levelSpot a_levelLeft a_edgeLink a_choiceLeft a_choice a_pickedEdge n) (gx_e4 b) x2 (nI i) f_nodeSet f_edgeSet f_sortedCount f_keptCount (nI w) f_inOrder f_total (nI dp) f_begun f_assigned f_usedNodes f_edgeLinks a_labelOf a_valueOf a_fromOf a_toOf a_typeOf a_weightOf a_firstPage a_pageUsed a_pageNext a_pageSize a_pageEdge a_labelled a_sorted a_modeOf a_spotSet a_spotLabels a_spotLeast a_spotGreatest a_linkSet a_linkFrom a_linkTo a_linkTypes a_linkKind a_outgoing a_incoming a_allowed a_candidates a_behind a_before a_nodeFor a_levelSpot a_levelLeft a_edgeLink a_choiceLeft a_choice a_pickedEdge := by
        intro hbo
        refine gx_leftFor (by omega) hC0 hA hU hg ?_
        by_cases hb4 : b = 4
        · subst hb4
          exact br_t gx_neg1 (nm_r (nI_1 i) (take (by rw [z, hg]; rfl)))
        · have hio2 : io = false := by
            rcases hbo with h | h
            · exact absurd h hb4
            · exact h
          have e1 : gx_e4 b = nI b := if_neg hb4
          have e2 : x2 = gb_mk (gp_ft cd md lk la lb cn g b) := by
            rcases hx with h | h
            · exact absurd h hb4
            · exact h
          rw [e1]
          refine br_f (nI_pos (by omega)) (gb_ones ?_)
          rw [e2]
          refine gb_ones ?_
          rw [hlen i, hlen b]
          refine pk_le _ _ (fun h => ?_) (fun h => ?_) rfl rfl (hlen2 b) (hlen2 i)
          · refine nm_r (nI_1 i) ?_
            have := keep (by rw [hio2, z, hg]; simp [hb4, Nat.not_lt.mpr h])
            rw [e1, e2] at this
            exact this
          · exact nm_r (nI_1 i) (take (by rw [hio2, z, hg]; simp [h]))
      refine br_f (by decide) ?_
      by_cases hb4 : b = 4
      · subst hb4
        exact br_t gx_neg1 (j57 (Or.inl rfl))
      · have e1 : gx_e4 b = nI b := if_neg hb4
        have hneg : ¬ gx_e4 b < 0 := by rw [e1]; exact nI_pos (by omega)
        refine br_f hneg (br_c (fun q => j57 (Or.inr (hio.mp q))) (fun q => nm_r (nI_1 i) (keep ?_)))
        have : io = true := by
          cases h : io
          · exact absurd (hio.mpr h) q
          · rfl
        rw [this]; simp [hb4]
    · rw [hA.1 i (by omega)] at y
      simp at y
      simp [y]
theorem gx_openLevel {post : SX → Prop} {w dp : Nat} {io : Bool} {sp lk : Nat → Bool} {la lb g : Nat → Nat} {cd : Nat → Nat → Bool} {cn : Nat → Nat → Nat → Bool} {md : Bool} (hd : dp < 4) (hio : f_inOrder = 0 ↔ io = false)
    (hC : gx_SC w sp lk la lb cd cn md f_nodeSet a_modeOf a_spotSet a_linkSet a_linkFrom a_linkTo a_candidates a_behind a_before) (hA : gx_As g f_nodeSet f_assigned a_nodeFor) (hU : gx_Us g f_usedNodes) (hne : gp_us sp g ≠ [])
    (hp : post (f_nodeSet, f_edgeSet, f_sortedCount, f_keptCount, nI w, f_inOrder, f_total, nI dp, f_begun, f_assigned, f_usedNodes, f_edgeLinks, a_labelOf, a_valueOf, a_fromOf, a_toOf, a_typeOf, a_weightOf, a_firstPage, a_pageUsed, a_pageNext, a_pageSize, a_pageEdge, a_labelled, a_sorted, a_modeOf, a_spotSet, a_spotLabels, a_spotLeast, a_spotGreatest, a_linkSet, a_linkFrom, a_linkTo, a_linkTypes, a_linkKind, a_outgoing, a_incoming, a_allowed, a_candidates, a_behind, a_before, a_nodeFor, upd a_levelSpot dp (nI (gp_pk io sp (gp_ft cd md lk la lb cn) g)), upd a_levelLeft dp (gb_mk (gp_ft cd md lk la lb cn g (gp_pk io sp (gp_ft cd md lk la lb cn) g))), a_edgeLink, a_choiceLeft, a_choice, a_pickedEdge)) : wpX_openLevel post (f_nodeSet, f_edgeSet, f_sortedCount, f_keptCount, nI w, f_inOrder, f_total, nI dp, f_begun, f_assigned, f_usedNodes, f_edgeLinks, a_labelOf, a_valueOf, a_fromOf, a_toOf, a_typeOf, a_weightOf, a_firstPage, a_pageUsed, a_pageNext, a_pageSize, a_pageEdge, a_labelled, a_sorted, a_modeOf, a_spotSet, a_spotLabels, a_spotLeast, a_spotGreatest, a_linkSet, a_linkFrom, a_linkTo, a_linkTypes, a_linkKind, a_outgoing, a_incoming, a_allowed, a_candidates, a_behind, a_before, a_nodeFor, a_levelSpot, a_levelLeft, a_edgeLink, a_choiceLeft, a_choice, a_pickedEdge) := by
  have h4 := (gp_us_m.mp (gp_pk_m (io := io) (ft := gp_ft cd md lk la lb cn) g hne)).1
  exact Exists.intro 5 (gx_open6 hd hio hC hA hU 4 0 4 5 0 rfl (by omega) (Or.inl rfl) (Or.inl rfl) h4 hp)
end
end
section
/-! nextNodes -/
theorem gp_w12 : gp_w 12 0 = 1 ∧ gp_w 12 1 = 14 ∧ gp_w 12 2 = 170 ∧ gp_w 12 3 = 2042 := ⟨rfl, rfl, rfl, rfl⟩
theorem gp_mu_s (B : Nat) (cs : Nat → List Nat) (l m : Nat) : gp_mu B cs (l + 1) m = 1 + (cs l).length * gp_w B m + gp_mu B cs l (m + 1) := rfl
theorem gp_R_s (T : Nat → (Nat → Nat) → List (Nat → Nat)) (sd v : Nat → Nat) (cs : Nat → List Nat) (l m : Nat) : gp_R T sd v cs (l + 1) m = (cs l).flatMap (fun n => T m (gp_st (gp_g sd v l) (sd l) n)) ++ gp_R T sd v cs l (m + 1) := rfl
/-- levels 0 .. l of a search for nodes -/
def gx_NI (sp : Nat → Bool) (ft : (Nat → Nat) → Nat → Nat → Bool) (tot l : Nat) (sd v : Nat → Nat) (cs : Nat → List Nat) (nf lsp llf : Nat → Int32) : Prop :=
  l < tot ∧ (∀ k, k ≤ l → lsp k = nI (sd k) ∧ gb_bl (llf k) = cs k ∧ sd k ∈ gp_us sp (gp_g sd v k) ∧ (gp_us sp (gp_g sd v k)).length + k = tot ∧ (∀ n, n ∈ cs k → ft (gp_g sd v k) (sd k) n = true)) ∧
  (∀ k, k < l → nf (sd k) = nI (v k) ∧ ft (gp_g sd v k) (sd k) (v k) = true)
/-- the spots and nodes at a level: released, or not yet -/
def gx_St (g : Nat → Nat) (s : Nat) (ns asg us : Int32) (nf : Nat → Int32) : Prop :=
  (∀ i, i < 4 → g i ≠ 50 → nf i = nI (g i) ∧ g i < 12 ∧ bt ns (g i) = true) ∧ ((gx_As g ns asg nf ∧ gx_Us g us) ∨ (∀ i, i < 4 → bt asg i = (decide (g i ≠ 50) || decide (i = s))))
/-- where a search stands between two calls: a is at hand, R is still to come -/
def gx_NO (sp : Nat → Bool) (ft : (Nat → Nat) → Nat → Nat → Bool) (pk : (Nat → Nat) → Nat) (tot : Nat) (ns asg us : Int32) (nf lsp llf : Nat → Int32) (a : Nat → Nat) (R : List (Nat → Nat)) : Prop :=
  ∃ l sd v cs, tot = l + 1 ∧ gx_NI sp ft tot l sd v cs nf lsp llf ∧ gx_St (gp_g sd v l) (sd l) ns asg us nf ∧ nf (sd l) = nI (v l) ∧ ft (gp_g sd v l) (sd l) (v l) = true ∧ a = gp_g sd v (l + 1) ∧ R = gp_R (gp_L ft pk) sd v cs (l + 1) 0
theorem gx_mu_le {cs : Nat → List Nat} {l tot : Nat} (ht : tot ≤ 4) (hl : l < tot) (hc : ∀ k, k ≤ l → (cs k).length ≤ 12) : gp_mu 12 cs (l + 1) (tot - 1 - l) ≤ 26728 := by
  obtain ⟨w0, w1, w2, w3⟩ := gp_w12
  have h0 := hc 0 (by omega)
  have key : (tot = 1 ∧ l = 0) ∨ (tot = 2 ∧ l = 0) ∨ (tot = 2 ∧ l = 1) ∨ (tot = 3 ∧ l = 0) ∨ (tot = 3 ∧ l = 1) ∨ (tot = 3 ∧ l = 2) ∨ (tot = 4 ∧ l = 0) ∨ (tot = 4 ∧ l = 1) ∨ (tot = 4 ∧ l = 2) ∨ (tot = 4 ∧ l = 3) := by omega
  rcases key with ⟨rfl, rfl⟩ | ⟨rfl, rfl⟩ | ⟨rfl, rfl⟩ | ⟨rfl, rfl⟩ | ⟨rfl, rfl⟩ | ⟨rfl, rfl⟩ | ⟨rfl, rfl⟩ | ⟨rfl, rfl⟩ | ⟨rfl, rfl⟩ | ⟨rfl, rfl⟩
  · simp only [gp_mu, w0]; omega
  · simp only [gp_mu, w1]; omega
  · have h1 := hc 1 (by omega); simp only [gp_mu, w0, w1]; omega
  · simp only [gp_mu, w2]; omega
  · have h1 := hc 1 (by omega); simp only [gp_mu, w1, w2]; omega
  · have h1 := hc 1 (by omega); have h2 := hc 2 (by omega); simp only [gp_mu, w0, w1, w2]; omega
  · simp only [gp_mu, w3]; omega
  · have h1 := hc 1 (by omega); simp only [gp_mu, w2, w3]; omega
  · have h1 := hc 1 (by omega); have h2 := hc 2 (by omega); simp only [gp_mu, w1, w2, w3]; omega
  · have h1 := hc 1 (by omega); have h2 := hc 2 (by omega); have h3 := hc 3 (by omega); simp only [gp_mu, w0, w1, w2, w3]; omega
theorem gx_ft12 {w : Nat} {sp lk : Nat → Bool} {la lb : Nat → Nat} {cd : Nat → Nat → Bool} {cn : Nat → Nat → Nat → Bool} {md : Bool} {ns : Int32} {mo ss ls lf lt cand bh bf : Nat → Int32} (hC : gx_SC w sp lk la lb cd cn md ns mo ss ls lf lt cand bh bf) {g : Nat → Nat} {i n : Nat} (h : gp_ft cd md lk la lb cn g i n = true) : n < 12 ∧ bt ns n = true := hC.2.2.2.2.2.2.1 i n (gp_ft_iff.mp h).1
/-- the nodes of a whole choice -/
def gx_Nd (sp : Nat → Bool) (nf : Nat → Int32) (a : Nat → Nat) : Prop := (∀ i, i < 4 → sp i = true → nf i = nI (a i) ∧ a i < 12) ∧ (∀ i, sp i = false ∨ 4 ≤ i → a i = 50)
section
variable {f_nodeSet f_edgeSet f_sortedCount f_keptCount f_which f_inOrder f_total f_depth f_begun f_assigned f_usedNodes f_edgeLinks : Int32} {a_labelOf a_valueOf a_fromOf a_toOf a_typeOf a_weightOf a_firstPage a_pageUsed a_pageNext a_pageSize a_pageEdge a_labelled a_sorted a_modeOf a_spotSet a_spotLabels a_spotLeast a_spotGreatest a_linkSet a_linkFrom a_linkTo a_linkTypes a_linkKind a_outgoing a_incoming a_allowed a_candidates a_behind a_before a_nodeFor a_levelSpot a_levelLeft a_edgeLink a_choiceLeft a_choice a_pickedEdge : Nat → Int32}
variable {w tot : Nat} {io : Bool} {sp lk : Nat → Bool} {la lb : Nat → Nat} {cd : Nat → Nat → Bool} {cn : Nat → Nat → Nat → Bool} {md : Bool}
theorem gx_relSt {post : SX → Prop} {g : Nat → Nat} {l s : Nat} (hl : l < 4) (hs : a_levelSpot l = nI s) (hs4 : s < 4) (hg : g s = 50) (hSt : gx_St g s f_nodeSet f_assigned f_usedNodes a_nodeFor) (body : ∀ asg us, gx_As g f_nodeSet asg a_nodeFor → gx_Us g us → post (f_nodeSet, f_edgeSet, f_sortedCount, f_keptCount, f_which, f_inOrder, f_total, f_depth, f_begun, asg, us, f_edgeLinks, a_labelOf, a_valueOf, a_fromOf, a_toOf, a_typeOf, a_weightOf, a_firstPage, a_pageUsed, a_pageNext, a_pageSize, a_pageEdge, a_labelled, a_sorted, a_modeOf, a_spotSet, a_spotLabels, a_spotLeast, a_spotGreatest, a_linkSet, a_linkFrom, a_linkTo, a_linkTypes, a_linkKind, a_outgoing, a_incoming, a_allowed, a_candidates, a_behind, a_before, a_nodeFor, a_levelSpot, a_levelLeft, a_edgeLink, a_choiceLeft, a_choice, a_pickedEdge)) : wpX_release post (f_nodeSet, f_edgeSet, f_sortedCount, f_keptCount, f_which, f_inOrder, f_total, f_depth, f_begun, f_assigned, f_usedNodes, f_edgeLinks, a_labelOf, a_valueOf, a_fromOf, a_toOf, a_typeOf, a_weightOf, a_firstPage, a_pageUsed, a_pageNext, a_pageSize, a_pageEdge, a_labelled, a_sorted, a_modeOf, a_spotSet, a_spotLabels, a_spotLeast, a_spotGreatest, a_linkSet, a_linkFrom, a_linkTo, a_linkTypes, a_linkKind, a_outgoing, a_incoming, a_allowed, a_candidates, a_behind, a_before, a_nodeFor, a_levelSpot, a_levelLeft, a_edgeLink, a_choiceLeft, a_choice, a_pickedEdge) (nI l) := by
  obtain ⟨s1, s2⟩ := hSt
  refine gx_release (h := g) hl hs hs4 (fun k hk hk2 hk3 => ?_) (fun z => ?_) (fun z asg' us' q1 q2 => ?_)
  · have hgk : g k ≠ 50 := by
      rcases s2 with ⟨hA, _⟩ | hB
      · rw [hA.1 k hk] at hk2; simpa using hk2
      · rw [hB k hk, decide_eq_false hk3, Bool.or_false] at hk2; simpa using hk2
    exact ⟨(s1 k hk hgk).1, (s1 k hk hgk).2.1⟩
  · rcases s2 with ⟨hA, hU⟩ | hB
    · exact body _ _ hA hU
    · rw [hB _ hs4] at z; simp at z
  · have hg50 : ∀ k, k < 4 → bt asg' k = decide (g k ≠ 50) := by
      intro k hk
      rw [q1 k (by omega)]
      by_cases e : k = s
      · rw [e, hg]; simp
      · rw [decide_eq_true (show k ≠ s from e), Bool.and_true]
        rcases s2 with ⟨hA, _⟩ | hB
        · exact hA.1 k hk
        · rw [hB k hk, decide_eq_false e, Bool.or_false]
    refine body asg' us' ⟨hg50, s1⟩ (fun m hm => ?_)
    rw [q2 m (by omega)]
    apply gb_an_c
    intro k _ hk
    rw [hg50 k (by omega)]
    by_cases e : g k = 50
    · rw [e]
      have : decide (50 = m) = false := decide_eq_false (by omega)
      rw [this]; rfl
    · rw [decide_eq_true (show g k ≠ 50 from e), Bool.true_and]
      by_cases e2 : m = g k
      · rw [decide_eq_true e2, decide_eq_true e2.symm]
      · rw [decide_eq_false e2, decide_eq_false (fun h => e2 h.symm)]
theorem gx_nn64 {post : Int32 → SX → Prop} {RR : List (Nat → Nat)} (ht4 : tot ≤ 4) (hio : f_inOrder = 0 ↔ io = false)
    (hC : gx_SC w sp lk la lb cd cn md f_nodeSet a_modeOf a_spotSet a_linkSet a_linkFrom a_linkTo a_candidates a_behind a_before)
    (P0 : RR = [] → ∀ dp asg us nf lsp llf, post 0 (f_nodeSet, f_edgeSet, f_sortedCount, f_keptCount, nI w, f_inOrder, nI tot, dp, f_begun, asg, us, f_edgeLinks, a_labelOf, a_valueOf, a_fromOf, a_toOf, a_typeOf, a_weightOf, a_firstPage, a_pageUsed, a_pageNext, a_pageSize, a_pageEdge, a_labelled, a_sorted, a_modeOf, a_spotSet, a_spotLabels, a_spotLeast, a_spotGreatest, a_linkSet, a_linkFrom, a_linkTo, a_linkTypes, a_linkKind, a_outgoing, a_incoming, a_allowed, a_candidates, a_behind, a_before, nf, lsp, llf, a_edgeLink, a_choiceLeft, a_choice, a_pickedEdge))
    (P1 : ∀ a R, RR = a :: R → ∀ asg us nf lsp llf, gx_NO sp (gp_ft cd md lk la lb cn) (gp_pk io sp (gp_ft cd md lk la lb cn)) tot f_nodeSet asg us nf lsp llf a R → post 1 (f_nodeSet, f_edgeSet, f_sortedCount, f_keptCount, nI w, f_inOrder, nI tot, nI tot, f_begun, asg, us, f_edgeLinks, a_labelOf, a_valueOf, a_fromOf, a_toOf, a_typeOf, a_weightOf, a_firstPage, a_pageUsed, a_pageNext, a_pageSize, a_pageEdge, a_labelled, a_sorted, a_modeOf, a_spotSet, a_spotLabels, a_spotLeast, a_spotGreatest, a_linkSet, a_linkFrom, a_linkTo, a_linkTypes, a_linkKind, a_outgoing, a_incoming, a_allowed, a_candidates, a_behind, a_before, nf, lsp, llf, a_edgeLink, a_choiceLeft, a_choice, a_pickedEdge)) :
    ∀ (N l r n : Nat) (sd v : Nat → Nat) (cs : Nat → List Nat) (asg us : Int32) (nf lsp llf : Nat → Int32), gp_mu 12 cs (l + 1) (tot - 1 - l) ≤ N → r + N < 100000 → N + 1 < n →
    gx_NI sp (gp_ft cd md lk la lb cn) tot l sd v cs nf lsp llf → gx_St (gp_g sd v l) (sd l) f_nodeSet asg us nf → RR = gp_R (gp_L (gp_ft cd md lk la lb cn) (gp_pk io sp (gp_ft cd md lk la lb cn))) sd v cs (l + 1) (tot - 1 - l) →
    wX_nextNodes_64 post n (nI r) f_nodeSet f_edgeSet f_sortedCount f_keptCount (nI w) f_inOrder (nI tot) (nI l) f_begun asg us f_edgeLinks a_labelOf a_valueOf a_fromOf a_toOf a_typeOf a_weightOf a_firstPage a_pageUsed a_pageNext a_pageSize a_pageEdge a_labelled a_sorted a_modeOf a_spotSet a_spotLabels a_spotLeast a_spotGreatest a_linkSet a_linkFrom a_linkTo a_linkTypes a_linkKind a_outgoing a_incoming a_allowed a_candidates a_behind a_before nf lsp llf a_edgeLink a_choiceLeft a_choice a_pickedEdge := by
  intro N
  induction N with
  | zero =>
    intro l r n sd v cs asg us nf lsp llf hmu
    rw [gp_mu_s] at hmu
    omega
  | succ N ih =>
    intro l r n sd v cs asg us nf lsp llf hmu hr hn hNI hSt hR
    obtain ⟨n, rfl⟩ := gx_S n (by omega)
    have hNI0 := hNI
    obtain ⟨i1, i2, i3⟩ := hNI
    obtain ⟨t1, t2, t3, t4, t5⟩ := i2 l (Nat.le_refl _)
    obtain ⟨s1, s2⟩ := hSt
    have hsd := gp_us_m.mp t3
    refine pk_le 100000 r (fun h => by omega) (fun _ => br_f (nI_pos (by omega)) ?_)
    refine gx_relSt (g := gp_g sd v l) (by omega) t1 hsd.1 hsd.2.2 ⟨s1, s2⟩ (fun asg us hA hU => ?_)
    refine And.intro (vp_in_nI (by omega) (by omega)) ?_
    rw [nI_clamp (n := l) (by omega), t1, nI_clamp (n := sd l) (by omega)]
    have hin : vp_in (nI l) 4 := vp_in_nI (by omega) (by omega)
    cases hcs : cs l with
    | nil =>
      have hR2 : RR = gp_R (gp_L (gp_ft cd md lk la lb cn) (gp_pk io sp (gp_ft cd md lk la lb cn))) sd v cs l (tot - 1 - l + 1) := by
        rw [hR, gp_R_s, hcs]; rfl
      have hmu2 : gp_mu 12 cs l (tot - 1 - l + 1) ≤ N := by
        rw [gp_mu_s] at hmu; omega
      refine br_t (gb_bl_0 (t2.trans hcs)) ?_
      by_cases hl0 : l = 0
      · subst hl0
        obtain ⟨n, rfl⟩ := gx_S n (by omega)
        refine nm_r (e' := -1) (by rw [nI_0]; decide) (nm_r (nI_1 r) ?_)
        refine pk_le 100000 (r + 1) (fun h => by omega) (fun _ => br_t gx_neg1 (P0 hR2 _ _ _ _ _ _))
      · obtain ⟨l', rfl⟩ := gx_S l (by omega)
        obtain ⟨u1, u2, u3, u4, u5⟩ := i2 l' (by omega)
        obtain ⟨y1, y2⟩ := i3 l' (by omega)
        have hu := gp_us_m.mp u3
        have em : tot - 1 - (l' + 1) + 1 = tot - 1 - l' := by omega
        rw [em] at hmu2 hR2
        refine nm_r (nI_pred l') (nm_r (nI_1 r) (ih l' (r + 1) n sd v cs asg us nf lsp llf hmu2 (by omega) (by omega) ⟨by omega, fun k hk => i2 k (by omega), fun k hk => i3 k (by omega)⟩ ⟨fun i hi hgi => ?_, Or.inr (fun i hi => ?_)⟩ hR2))
        · have hne : i ≠ sd l' := fun e => hgi (e ▸ hu.2.2)
          have := hA.2 i hi
          rw [show gp_g sd v (l' + 1) i = gp_g sd v l' i from gp_st_n hne] at this
          exact this hgi
        · rw [hA.1 i hi]
          by_cases e : i = sd l'
          · rw [show gp_g sd v (l' + 1) i = v l' from by rw [e]; exact gp_st_s]
            have := (gx_ft12 hC y2).1
            have e1 : decide (v l' ≠ 50) = true := decide_eq_true (by omega)
            have e2 : decide (i = sd l') = true := decide_eq_true e
            rw [e1, e2, Bool.or_true]
          · rw [show gp_g sd v (l' + 1) i = gp_g sd v l' i from gp_st_n e, decide_eq_false e, Bool.or_false]
    | cons c cs' =>
      have hbl : gb_bl (llf l) = c :: cs' := t2.trans hcs
      have hftc : gp_ft cd md lk la lb cn (gp_g sd v l) (sd l) c = true := t5 c (by rw [hcs]; exact List.mem_cons_self ..)
      have hc12 := gx_ft12 hC hftc
      refine br_f (gb_bl_n hbl) (And.intro hin (gb_low hbl (And.intro hin (And.intro hin (nm_e (And.intro hin (And.intro (vp_in_nI hsd.1 (by omega)) ?_)))))))
      rw [gx_byte4 (by omega)]
      refine nm_e (And.intro hin (nm_e (nm_e (nm_r (nI_1 l) ?_))))
      -- the new functions
      have hsd' : ∀ k, k < l → sd k ≠ sd l := by
        intro k hk
        have := (gp_g_50 (sd := sd) (v := v) (i := sd l) (l := l) (fun q hq => by have := (gx_ft12 hC (i3 q hq).2).1; omega)).mp hsd.2.2
        exact this k hk
      have gv : ∀ k, k ≤ l → gp_g sd (fun q => if q = l then c else v q) k = gp_g sd v k := fun k hk => gp_g_c (fun q hq => ⟨rfl, if_neg (by omega)⟩)
      have gvs : gp_g sd (fun q => if q = l then c else v q) (l + 1) = gp_st (gp_g sd v l) (sd l) c := by
        show gp_st (gp_g sd (fun q => if q = l then c else v q) l) (sd l) (if l = l then c else v l) = _
        rw [gv l (Nat.le_refl _), if_pos rfl]
      have hus : gp_us sp (gp_st (gp_g sd v l) (sd l) c) = (gp_us sp (gp_g sd v l)).erase (sd l) := gp_us_st t3 (by omega)
      have husl : (gp_us sp (gp_st (gp_g sd v l) (sd l) c)).length + (l + 1) = tot := by
        rw [hus, List.length_erase_of_mem t3]
        have : 0 < (gp_us sp (gp_g sd v l)).length := List.length_pos_of_mem t3
        omega
      have hNI' : gx_NI sp (gp_ft cd md lk la lb cn) tot l sd (fun q => if q = l then c else v q) (fun q => if q = l then cs' else cs q) (upd nf (sd l) (nI c)) lsp (upd llf l (llf l &&& (((1 : Int32) <<< (nI c &&& 31)) ^^^ (-1)))) := by
        refine ⟨i1, fun k hk => ?_, fun k hk => ?_⟩
        · rw [gv k hk]
          obtain ⟨u1, u2, u3, u4, u5⟩ := i2 k hk
          refine ⟨u1, ?_, u3, u4, ?_⟩
          · by_cases e : k = l
            · subst e; dsimp only; rw [pk_us, if_pos rfl]; exact gb_clr hbl
            · dsimp only; rw [pk_un e, if_neg e]; exact u2
          · intro m hm
            dsimp only at hm
            by_cases e : k = l
            · subst e
              rw [if_pos rfl] at hm
              exact u5 m (by rw [hcs]; exact List.mem_cons_of_mem _ hm)
            · rw [if_neg e] at hm
              exact u5 m hm
        · rw [gv k (by omega)]
          dsimp only
          rw [if_neg (show k ≠ l by omega), pk_un (hsd' k hk)]
          exact i3 k hk
      have hg1 : ∀ i, i < 4 → gp_g sd v l i ≠ 50 → upd nf (sd l) (nI c) i = nI (gp_g sd v l i) ∧ gp_g sd v l i < 12 ∧ bt f_nodeSet (gp_g sd v l i) = true := by
        intro i hi hgi
        have hne : i ≠ sd l := fun e => hgi (e ▸ hsd.2.2)
        rw [pk_un hne]
        exact hA.2 i hi hgi
      have hbit : ∀ i, i < 4 → bt (asg ||| ((1 : Int32) <<< (nI (sd l) &&& 31))) i = (decide (gp_g sd v l i ≠ 50) || decide (i = sd l)) := by
        intro i hi
        rw [b_or, gb_one (by omega), hA.1 i hi]
      have hSt' : gx_St (gp_g sd (fun q => if q = l then c else v q) l) (sd l) f_nodeSet (asg ||| ((1 : Int32) <<< (nI (sd l) &&& 31))) (us ||| ((1 : Int32) <<< (nI c &&& 31))) (upd nf (sd l) (nI c)) := by
        rw [gv l (Nat.le_refl _)]
        exact ⟨hg1, Or.inr hbit⟩
      have hvl : (fun q => if q = l then c else v q) l = c := if_pos rfl
      -- the list of what is to come
      have hrest : gp_R (gp_L (gp_ft cd md lk la lb cn) (gp_pk io sp (gp_ft cd md lk la lb cn))) sd (fun q => if q = l then c else v q) (fun q => if q = l then cs' else cs q) (l + 1) (tot - 1 - l) = cs'.flatMap (fun n => gp_L (gp_ft cd md lk la lb cn) (gp_pk io sp (gp_ft cd md lk la lb cn)) (tot - 1 - l) (gp_st (gp_g sd v l) (sd l) n)) ++ gp_R (gp_L (gp_ft cd md lk la lb cn) (gp_pk io sp (gp_ft cd md lk la lb cn))) sd v cs l (tot - 1 - l + 1) := by
        rw [gp_R_s, gv l (Nat.le_refl _)]
        try dsimp only
        rw [if_pos rfl]
        congr 1
        exact gp_R_c (fun k hk => ⟨rfl, if_neg (by omega)⟩) (fun k hk => if_neg (by omega))
      have hRR : RR = gp_L (gp_ft cd md lk la lb cn) (gp_pk io sp (gp_ft cd md lk la lb cn)) (tot - 1 - l) (gp_st (gp_g sd v l) (sd l) c) ++ gp_R (gp_L (gp_ft cd md lk la lb cn) (gp_pk io sp (gp_ft cd md lk la lb cn))) sd (fun q => if q = l then c else v q) (fun q => if q = l then cs' else cs q) (l + 1) (tot - 1 - l) := by
        rw [hrest, hR, gp_R_s, hcs, List.flatMap_cons, List.append_assoc]
      refine pk_eq (l + 1) tot (fun hlt => ?_) (fun hlt => ?_)
      · subst hlt
        have hm0 : l + 1 - 1 - l = 0 := by omega
        rw [hm0] at hRR
        refine P1 _ _ hRR _ _ _ _ _ ⟨l, sd, _, _, rfl, hNI', hSt', ?_, ?_, ?_, rfl⟩
        · rw [pk_us, if_pos rfl]
        · rw [gv l (Nat.le_refl _), if_pos rfl]; exact hftc
        · rw [gvs]
      · -- one level more
        have hm1 : tot - 1 - l = (tot - 1 - (l + 1)) + 1 := by omega
        have hne : gp_us sp (gp_st (gp_g sd v l) (sd l) c) ≠ [] := by
          intro e; rw [e] at husl; simp at husl; omega
        have hA' : gx_As (gp_st (gp_g sd v l) (sd l) c) f_nodeSet (asg ||| ((1 : Int32) <<< (nI (sd l) &&& 31))) (upd nf (sd l) (nI c)) := by
          refine ⟨fun i hi => ?_, fun i hi hgi => ?_⟩
          · rw [hbit i hi]
            by_cases e : i = sd l
            · rw [e, gp_st_s]
              have e1 : decide (c ≠ 50) = true := decide_eq_true (by omega)
              rw [e1]; simp
            · rw [gp_st_n e, decide_eq_false e, Bool.or_false]
          · by_cases e : i = sd l
            · rw [e, gp_st_s, pk_us]; exact ⟨rfl, hc12⟩
            · rw [gp_st_n e] at hgi ⊢; exact hg1 i hi hgi
        have hU' : gx_Us (gp_st (gp_g sd v l) (sd l) c) (us ||| ((1 : Int32) <<< (nI c &&& 31))) := by
          intro m hm
          rw [b_or, gb_one (by omega), hU m hm]
          apply gb_bool
          rw [Bool.or_eq_true, gb_an_iff, gb_an_iff]
          simp only [decide_eq_true_eq]
          constructor
          · rintro (⟨k, k1, k2, k3⟩ | e)
            · have : k ≠ sd l := fun e => by rw [e, hsd.2.2] at k3; omega
              exact ⟨k, k1, k2, by rw [gp_st_n this]; exact k3⟩
            · exact ⟨sd l, by omega, by omega, by rw [gp_st_s]; exact e.symm⟩
          · rintro ⟨k, k1, k2, k3⟩
            by_cases e : k = sd l
            · rw [e, gp_st_s] at k3; exact Or.inr k3.symm
            · rw [gp_st_n e] at k3; exact Or.inl ⟨k, k1, k2, k3⟩
        have hpm := gp_pk_m (io := io) (ft := gp_ft cd md lk la lb cn) _ hne
        have hb12 : gb_bl (gb_mk (gp_ft cd md lk la lb cn (gp_st (gp_g sd v l) (sd l) c) (gp_pk io sp (gp_ft cd md lk la lb cn) (gp_st (gp_g sd v l) (sd l) c)))) = gb_fl (gp_ft cd md lk la lb cn (gp_st (gp_g sd v l) (sd l) c) (gp_pk io sp (gp_ft cd md lk la lb cn) (gp_st (gp_g sd v l) (sd l) c))) 0 12 := by
          apply gb_bl_mk (by omega)
          intro i h1 h2
          cases hf : gp_ft cd md lk la lb cn (gp_st (gp_g sd v l) (sd l) c) (gp_pk io sp (gp_ft cd md lk la lb cn) (gp_st (gp_g sd v l) (sd l) c)) i
          · rfl
          · have := (gx_ft12 hC hf).1; omega
        refine gx_openLevel (by omega) hio hC hA' hU' hne ?_
        generalize hpk : gp_pk io sp (gp_ft cd md lk la lb cn) (gp_st (gp_g sd v l) (sd l) c) = s' at hpm hb12
        -- with the new level's spot and nodes
        have gk : ∀ k, k ≤ l + 1 → gp_g (fun q => if q = l + 1 then s' else sd q) (fun q => if q = l then c else v q) k = gp_g sd (fun q => if q = l then c else v q) k := fun k hk => gp_g_c (fun q hq => ⟨if_neg (by omega), rfl⟩)
        have gk2 : gp_g (fun q => if q = l + 1 then s' else sd q) (fun q => if q = l then c else v q) (l + 1) = gp_st (gp_g sd v l) (sd l) c := by
          rw [gk (l + 1) (Nat.le_refl _), gvs]
        refine nm_r (nI_1 r) (ih (l + 1) (r + 1) n (fun q => if q = l + 1 then s' else sd q) (fun q => if q = l then c else v q) (fun q => if q = l + 1 then gb_fl (gp_ft cd md lk la lb cn (gp_st (gp_g sd v l) (sd l) c) s') 0 12 else if q = l then cs' else cs q) _ _ _ _ _ ?_ (by omega) (by omega) ⟨by omega, fun k hk => ?_, fun k hk => ?_⟩ ⟨?_, Or.inl ⟨?_, ?_⟩⟩ ?_)
        · -- the measure
          rw [gp_mu_s, gp_mu_s]
          try dsimp only
          rw [if_pos rfl, if_neg (show l ≠ l + 1 by omega), if_pos rfl]
          have e1 : gp_mu 12 (fun q => if q = l + 1 then gb_fl (gp_ft cd md lk la lb cn (gp_st (gp_g sd v l) (sd l) c) s') 0 12 else if q = l then cs' else cs q) l (tot - 1 - (l + 1) + 1 + 1) = gp_mu 12 cs l (tot - 1 - l + 1) := by
            rw [hm1]
            apply gp_mu_c
            intro k hk
            rw [if_neg (by omega), if_neg (by omega)]
          rw [e1]
          rw [gp_mu_s, hcs, List.length_cons, Nat.add_mul, Nat.one_mul] at hmu
          have hw : gp_w 12 (tot - 1 - l) = 2 + 12 * gp_w 12 (tot - 1 - (l + 1)) := by rw [hm1]; rfl
          have hle := Nat.mul_le_mul_right (gp_w 12 (tot - 1 - (l + 1))) (gb_fl_len (gp_ft cd md lk la lb cn (gp_st (gp_g sd v l) (sd l) c) s') 12 0)
          rw [← hm1]
          generalize (gb_fl (gp_ft cd md lk la lb cn (gp_st (gp_g sd v l) (sd l) c) s') 0 12).length * gp_w 12 (tot - 1 - (l + 1)) = A at *
          generalize cs'.length * gp_w 12 (tot - 1 - l) = C at *
          omega
        · by_cases e : k = l + 1
          · subst e
            rw [gk2]
            dsimp only
            rw [if_pos rfl, if_pos rfl, pk_us, pk_us]
            refine ⟨rfl, hb12, hpm, husl, fun m hm => (gb_fl_m.mp hm).2.2⟩
          · have hk' : k ≤ l := by omega
            rw [gk k (by omega)]
            dsimp only
            rw [if_neg e, if_neg e, pk_un e, pk_un e]
            exact hNI'.2.1 k hk'
        · have hk2 : k ≠ l + 1 := by omega
          rw [gk k (by omega)]
          dsimp only
          rw [if_neg hk2]
          by_cases e : k = l
          · subst e
            rw [gv k (Nat.le_refl _), if_pos rfl, pk_us]
            exact ⟨rfl, hftc⟩
          · exact hNI'.2.2 k (by omega)
        · rw [gk2]; exact hA'.2
        · rw [gk2]; exact hA'
        · rw [gk2]; exact hU'
        · rw [hRR, gp_R_s _ _ _ _ (l + 1) (tot - 1 - (l + 1)), gk2]
          try dsimp only
          rw [if_pos rfl, if_pos rfl, hm1]
          have hL : gp_L (gp_ft cd md lk la lb cn) (gp_pk io sp (gp_ft cd md lk la lb cn)) (tot - 1 - (l + 1) + 1) (gp_st (gp_g sd v l) (sd l) c) = (gb_fl (gp_ft cd md lk la lb cn (gp_st (gp_g sd v l) (sd l) c) s') 0 12).flatMap (fun n => gp_L (gp_ft cd md lk la lb cn) (gp_pk io sp (gp_ft cd md lk la lb cn)) (tot - 1 - (l + 1)) (gp_st (gp_st (gp_g sd v l) (sd l) c) s' n)) := by
            rw [← hpk]; rfl
          rw [hL]
          congr 1
          exact gp_R_c (fun k hk => ⟨(if_neg (by omega)).symm, (if_neg (by omega)).symm⟩) (fun k hk => rfl)
end
end
section
/-! choices of edges -/
def gp_ps (ll : List Nat) (k : Nat) : List Nat := (ll.drop k).map (fun j => 4 + j)
theorem gp_ps_c {ll : List Nat} {k j : Nat} (h : ll[k]? = some j) : gp_ps ll k = (4 + j) :: gp_ps ll (k + 1) := by
  obtain ⟨hk, e⟩ := List.getElem?_eq_some_iff.mp h
  unfold gp_ps
  rw [List.drop_eq_getElem_cons hk, e]; rfl
theorem gp_ps_e {ll : List Nat} {k : Nat} (h : ll.length ≤ k) : gp_ps ll k = [] := by
  unfold gp_ps
  rw [List.drop_eq_nil_of_le h]; rfl
theorem gp_ps_m {ll : List Nat} {k p : Nat} : p ∈ gp_ps ll k ↔ ∃ i j, k ≤ i ∧ ll[i]? = some j ∧ p = 4 + j := by
  unfold gp_ps
  rw [List.mem_map]
  constructor
  · rintro ⟨j, hj, rfl⟩
    obtain ⟨i, hi⟩ := List.mem_iff_getElem?.mp hj
    rw [List.getElem?_drop] at hi
    exact ⟨k + i, j, by omega, hi, rfl⟩
  · rintro ⟨i, j, h1, h2, rfl⟩
    refine ⟨j, List.mem_iff_getElem?.mpr ⟨i - k, ?_⟩, rfl⟩
    rw [List.getElem?_drop, show k + (i - k) = i from by omega]
    exact h2
/-- the edges of a link between the nodes of its spots -/
def gp_ed (al : Nat → Nat → Bool) (fr to la lb a : Nat → Nat) (j e : Nat) : Bool := al j e && decide (fr e = a (la j)) && decide (to e = a (lb j))
/-- what a choice of edges starts from -/
def gx_EC (w : Nat) (ll : List Nat) (la lb : Nat → Nat) (al : Nat → Nat → Bool) (eth : Nat → Bool) (fr to a : Nat → Nat) (lf lt nf out inc alw elk : Nat → Int32) : Prop :=
  w < 2 ∧ ll.length ≤ 4 ∧ gx_Out eth fr out ∧ gx_Out eth to inc ∧ (∀ j e, al j e = true → e < 20 ∧ eth e = true) ∧
  (∀ k x, ll[k]? = some x → elk k = nI x ∧ x < 4 ∧ lf (w * 4 + x) = nI (la x) ∧ la x < 4 ∧ lt (w * 4 + x) = nI (lb x) ∧ lb x < 4 ∧ nf (la x) = nI (a (la x)) ∧ a (la x) < 12 ∧ nf (lb x) = nI (a (lb x)) ∧ a (lb x) < 12 ∧ alw x = gb_mk (al x))
def gx_Ue (g : Nat → Nat) (T : Int32) : Prop := ∀ e, e < 32 → bt T e = gb_an (fun j => decide (g (4 + j) = e)) 0 4
/-- a choice so far: the nodes, and nothing for the links from k on -/
def gx_Gd (a g : Nat → Nat) (ll : List Nat) (k : Nat) : Prop := (∀ i, i < 4 → g i = a i) ∧ (∀ p, p ∈ gp_ps ll k → g p = 50) ∧ (∀ i, i < 4 → g (4 + i) < 20 ∨ g (4 + i) = 50)
theorem gx_Gd_s {a g : Nat → Nat} {ll : List Nat} {k j e : Nat} (hnd : ll.Nodup) (h : gx_Gd a g ll k) (hj : ll[k]? = some j) (he : e < 20) : gx_Gd a (gp_st g (4 + j) e) ll (k + 1) := by
  obtain ⟨h1, h2, h3⟩ := h
  refine ⟨fun i hi => by rw [gp_st_n (by omega)]; exact h1 i hi, fun p hp => ?_, fun i hi => ?_⟩
  · obtain ⟨i, j', i1, i2, rfl⟩ := gp_ps_m.mp hp
    have hne : 4 + j' ≠ 4 + j := by
      intro e'
      have : j' = j := by omega
      subst this
      have : i = k := (List.getElem?_inj (List.getElem?_eq_some_iff.mp i2).1 hnd).mp (i2.trans hj.symm)
      omega
    rw [gp_st_n hne]
    exact h2 _ (gp_ps_m.mpr ⟨i, j', by omega, i2, rfl⟩)
  · by_cases e' : 4 + i = 4 + j
    · rw [e', gp_st_s]; exact Or.inl he
    · rw [gp_st_n e']; exact h3 i hi
theorem gx_Ue_s {g : Nat → Nat} {T : Int32} {j e : Nat} (h : gx_Ue g T) (hj : j < 4) (he : e < 20) (hg : g (4 + j) = 50) : gx_Ue (gp_st g (4 + j) e) (T ||| ((1 : Int32) <<< (nI e &&& 31))) := by
  intro m hm
  rw [b_or, gb_one (by omega), h m hm]
  apply gb_bool
  rw [Bool.or_eq_true, gb_an_iff, gb_an_iff]
  simp only [decide_eq_true_eq]
  constructor
  · rintro (⟨k, k1, k2, k3⟩ | e')
    · have : 4 + k ≠ 4 + j := fun z => by rw [z, hg] at k3; omega
      exact ⟨k, k1, k2, by rw [gp_st_n this]; exact k3⟩
    · exact ⟨j, by omega, by omega, by rw [gp_st_s]; exact e'.symm⟩
  · rintro ⟨k, k1, k2, k3⟩
    by_cases e' : 4 + k = 4 + j
    · rw [e', gp_st_s] at k3; exact Or.inr k3.symm
    · rw [gp_st_n e'] at k3; exact Or.inl ⟨k, k1, k2, k3⟩
section
variable {al : Nat → Nat → Bool} {fr to la lb : Nat → Nat}
theorem gp_ef_f {a g : Nat → Nat} {j : Nat} (hla : la j < 4) (hlb : lb j < 4) (hg : ∀ i, i < 4 → g i = a i) : gp_ef al fr to false la lb g (4 + j) = gp_ed al fr to la lb a j := by
  funext e
  unfold gp_ef gp_ed
  rw [show 4 + j - 4 = j from by omega, hg _ hla, hg _ hlb]
  simp
theorem gp_ef_t {a g : Nat → Nat} {T : Int32} {j e : Nat} (hla : la j < 4) (hlb : lb j < 4) (hg : ∀ i, i < 4 → g i = a i) (hU : gx_Ue g T) (he : e < 32) : gp_ef al fr to true la lb g (4 + j) e = (gp_ed al fr to la lb a j e && !(bt T e)) := by
  unfold gp_ef gp_ed
  rw [show 4 + j - 4 = j from by omega, hg _ hla, hg _ hlb, hU e he]
  congr 1
  rw [Bool.not_true, Bool.false_or]
  apply gb_bool
  rw [gb_al_iff, Bool.not_eq_true', ← Bool.not_eq_true, gb_an_iff]
  simp only [decide_eq_true_eq]
  constructor
  · rintro h ⟨t, t1, t2, t3⟩; exact h t t1 t2 t3
  · intro h t t1 t2 t3; exact h ⟨t, t1, t2, t3⟩
/-- without 'other edges', how many there are depends on the nodes alone -/
theorem gp_Y_free : ∀ (ps : List Nat) (g g' : Nat → Nat), (∀ p, p ∈ ps → 4 ≤ p ∧ la (p - 4) < 4 ∧ lb (p - 4) < 4) → (∀ i, i < 4 → g i = g' i) → (gp_Y (gp_ef al fr to false la lb) ps g).length = (gp_Y (gp_ef al fr to false la lb) ps g').length
  | [], g, g', _, _ => rfl
  | p :: ps, g, g', h, hg => by
    obtain ⟨p4, pa, pb⟩ := h p (List.mem_cons_self ..)
    show ((gb_fl (gp_ef al fr to false la lb g p) 0 (gp_lim p)).flatMap (fun n => gp_Y (gp_ef al fr to false la lb) ps (gp_st g p n))).length = ((gb_fl (gp_ef al fr to false la lb g' p) 0 (gp_lim p)).flatMap (fun n => gp_Y (gp_ef al fr to false la lb) ps (gp_st g' p n))).length
    have e : gp_ef al fr to false la lb g p = gp_ef al fr to false la lb g' p := by
      funext e
      unfold gp_ef
      rw [hg _ pa, hg _ pb]; simp
    rw [gp_len_fm, gp_len_fm, e]
    apply gp_fs_c
    intro n _
    exact gp_Y_free ps _ _ (fun q hq => h q (List.mem_cons_of_mem _ hq)) (fun i hi => by rw [gp_st_n (by omega), gp_st_n (by omega)]; exact hg i hi)
theorem gp_Y_mul (ps : List Nat) (g : Nat → Nat) (p : Nat) (h : ∀ q, q ∈ p :: ps → 4 ≤ q ∧ la (q - 4) < 4 ∧ lb (q - 4) < 4) : (gp_Y (gp_ef al fr to false la lb) (p :: ps) g).length = (gb_fl (gp_ef al fr to false la lb g p) 0 20).length * (gp_Y (gp_ef al fr to false la lb) ps g).length := by
  obtain ⟨p4, pa, pb⟩ := h p (List.mem_cons_self ..)
  show ((gb_fl (gp_ef al fr to false la lb g p) 0 (gp_lim p)).flatMap (fun n => gp_Y (gp_ef al fr to false la lb) ps (gp_st g p n))).length = _
  rw [show gp_lim p = 20 from if_neg (by omega), gp_len_fm]
  have key : ∀ l : List Nat, gp_fs (fun a b : Nat => a + b) 0 (fun n => (gp_Y (gp_ef al fr to false la lb) ps (gp_st g p n)).length) l = l.length * (gp_Y (gp_ef al fr to false la lb) ps g).length := by
    intro l
    induction l with
    | nil => rw [List.length_nil, Nat.zero_mul]; rfl
    | cons n l ih =>
      show (gp_Y (gp_ef al fr to false la lb) ps (gp_st g p n)).length + gp_fs _ 0 _ l = _
      rw [ih, List.length_cons, Nat.add_mul, Nat.one_mul, gp_Y_free ps (gp_st g p n) g (fun q hq => h q (List.mem_cons_of_mem _ hq)) (fun i hi => gp_st_n (by omega))]
      omega
  exact key _
end
section
variable {f_nodeSet f_edgeSet f_sortedCount f_keptCount f_which f_inOrder f_total f_depth f_begun f_assigned f_usedNodes f_edgeLinks : Int32} {a_labelOf a_valueOf a_fromOf a_toOf a_typeOf a_weightOf a_firstPage a_pageUsed a_pageNext a_pageSize a_pageEdge a_labelled a_sorted a_modeOf a_spotSet a_spotLabels a_spotLeast a_spotGreatest a_linkSet a_linkFrom a_linkTo a_linkTypes a_linkKind a_outgoing a_incoming a_allowed a_candidates a_behind a_before a_nodeFor a_levelSpot a_levelLeft a_edgeLink a_choiceLeft a_choice a_pickedEdge : Nat → Int32}
variable {w : Nat} {ll : List Nat} {la lb : Nat → Nat} {al : Nat → Nat → Bool} {eth : Nat → Bool} {fr to a : Nat → Nat}
theorem gx_edgesFor {post : Int32 → Prop} {k j : Nat} (hE : gx_EC w ll la lb al eth fr to a a_linkFrom a_linkTo a_nodeFor a_outgoing a_incoming a_allowed a_edgeLink) (hk : ll[k]? = some j) (hp : post (gb_mk (gp_ed al fr to la lb a j))) : wpX_edgesFor post (f_nodeSet, f_edgeSet, f_sortedCount, f_keptCount, nI w, f_inOrder, f_total, f_depth, f_begun, f_assigned, f_usedNodes, f_edgeLinks, a_labelOf, a_valueOf, a_fromOf, a_toOf, a_typeOf, a_weightOf, a_firstPage, a_pageUsed, a_pageNext, a_pageSize, a_pageEdge, a_labelled, a_sorted, a_modeOf, a_spotSet, a_spotLabels, a_spotLeast, a_spotGreatest, a_linkSet, a_linkFrom, a_linkTo, a_linkTypes, a_linkKind, a_outgoing, a_incoming, a_allowed, a_candidates, a_behind, a_before, a_nodeFor, a_levelSpot, a_levelLeft, a_edgeLink, a_choiceLeft, a_choice, a_pickedEdge) (nI j) := by
  obtain ⟨h1, _, h2, h3, h4, h5⟩ := hE
  obtain ⟨_, j4, l1, l2, l3, l4, n1, n2, n3, n4, l5⟩ := h5 k j hk
  have e1 : (nI w * 4 + nI j).toNatClampNeg = w * 4 + j := by rw [gx_ix4]; exact nI_clamp (by omega)
  have hin : vp_in (nI w * 4 + nI j) 8 := by rw [gx_ix4]; exact vp_in_nI (by omega) (by omega)
  refine And.intro hin ?_
  rw [e1, l1, l3]
  refine And.intro (vp_in_nI l2 (by omega)) ?_
  rw [nI_clamp (n := la j) (by omega), nI_clamp (n := lb j) (by omega), n1, n3]
  refine nm_e (And.intro hin (And.intro (vp_in_nI l4 (by omega)) (nm_e (And.intro (vp_in_nI n2 (by omega)) (And.intro (vp_in_nI n4 (by omega)) (And.intro (vp_in_nI j4 (by omega)) ?_))))))
  rw [nI_clamp (n := a (la j)) (by omega), nI_clamp (n := a (lb j)) (by omega), nI_clamp (n := j) (by omega), h2 _ n2, h3 _ n4, l5]
  have e : gb_mk (fun e => decide (e < 20) && eth e && decide (fr e = a (la j))) &&& gb_mk (fun e => decide (e < 20) && eth e && decide (to e = a (lb j))) &&& gb_mk (al j) = gb_mk (gp_ed al fr to la lb a j) := by
    apply gb_mk_of
    intro m hm
    rw [b_and, b_and, gb_mk_l _ hm, gb_mk_l _ hm, gb_mk_l _ hm]
    unfold gp_ed
    cases hal : al j m
    · simp
    · obtain ⟨z1, z2⟩ := h4 j m hal
      rw [decide_eq_true z1, z2]
      simp
  rw [e]; exact hp
/-- the edges of a mask, as a list -/
theorem gx_ed_bl (hE : gx_EC w ll la lb al eth fr to a a_linkFrom a_linkTo a_nodeFor a_outgoing a_incoming a_allowed a_edgeLink) (j : Nat) : gb_bl (gb_mk (gp_ed al fr to la lb a j)) = gb_fl (gp_ed al fr to la lb a j) 0 20 := by
  apply gb_bl_mk (by omega)
  intro i h1 h2
  unfold gp_ed
  cases hal : al j i
  · simp
  · have := (hE.2.2.2.2.1 j i hal).1; omega
theorem gx_ed_blT {g : Nat → Nat} {T : Int32} {k j : Nat} (hE : gx_EC w ll la lb al eth fr to a a_linkFrom a_linkTo a_nodeFor a_outgoing a_incoming a_allowed a_edgeLink) (hk : ll[k]? = some j) (hg : ∀ i, i < 4 → g i = a i) (hU : gx_Ue g T) : gb_bl (gb_mk (gp_ed al fr to la lb a j) &&& (T ^^^ (-1))) = gb_fl (gp_ef al fr to true la lb g (4 + j)) 0 20 := by
  obtain ⟨_, j4, l1, l2, l3, l4, _⟩ := hE.2.2.2.2.2 k j hk
  unfold gb_bl
  have e : gb_fl (bt (gb_mk (gp_ed al fr to la lb a j) &&& (T ^^^ (-1)))) 0 32 = gb_fl (gp_ef al fr to true la lb g (4 + j)) 0 (20 + 12) := by
    apply gb_fl_c
    intro n _ hn
    rw [b_and, gb_mk_l _ (by omega), gb_not (by omega), gp_ef_t l2 l4 hg hU (by omega)]
  rw [e]
  apply gb_fl_cut
  intro n h1 h2
  rw [gp_ef_t l2 l4 hg hU (by omega)]
  unfold gp_ed
  cases hal : al j n
  · simp
  · have := (hE.2.2.2.2.1 j n hal).1; omega
theorem gx_ch26 {post : Int32 → SX → Prop} {g : Nat → Nat} (hE : gx_EC w ll la lb al eth fr to a a_linkFrom a_linkTo a_nodeFor a_outgoing a_incoming a_allowed a_edgeLink) (hg : ∀ i, i < 4 → g i = a i) : ∀ (d k acc n : Nat), k + d = ll.length → d < n → post (nI (acc * (gp_Y (gp_ef al fr to false la lb) (gp_ps ll k) g).length)) (f_nodeSet, f_edgeSet, f_sortedCount, f_keptCount, nI w, f_inOrder, f_total, f_depth, f_begun, f_assigned, f_usedNodes, nI ll.length, a_labelOf, a_valueOf, a_fromOf, a_toOf, a_typeOf, a_weightOf, a_firstPage, a_pageUsed, a_pageNext, a_pageSize, a_pageEdge, a_labelled, a_sorted, a_modeOf, a_spotSet, a_spotLabels, a_spotLeast, a_spotGreatest, a_linkSet, a_linkFrom, a_linkTo, a_linkTypes, a_linkKind, a_outgoing, a_incoming, a_allowed, a_candidates, a_behind, a_before, a_nodeFor, a_levelSpot, a_levelLeft, a_edgeLink, a_choiceLeft, a_choice, a_pickedEdge) → wX_choicesFrom_26 post f_nodeSet f_edgeSet f_sortedCount f_keptCount (nI w) f_inOrder f_total f_depth f_begun f_assigned f_usedNodes (nI ll.length) a_labelOf a_valueOf a_fromOf a_toOf a_typeOf a_weightOf a_firstPage a_pageUsed a_pageNext a_pageSize a_pageEdge a_labelled a_sorted a_modeOf a_spotSet a_spotLabels a_spotLeast a_spotGreatest a_linkSet a_linkFrom a_linkTo a_linkTypes a_linkKind a_outgoing a_incoming a_allowed a_candidates a_behind a_before a_nodeFor a_levelSpot a_levelLeft a_edgeLink a_choiceLeft a_choice a_pickedEdge n (nI acc) (nI k) := by
  have h4 := hE.2.1
  intro d
  induction d with
  | zero =>
    intro k acc n hk hn hp
    obtain ⟨n, rfl⟩ := gx_S n (by omega)
    refine pk_le ll.length k (fun _ => ?_) (fun h => by omega)
    rw [gp_ps_e (by omega)] at hp
    have : acc * (gp_Y (gp_ef al fr to false la lb) [] g).length = acc := Nat.mul_one acc
    rw [this] at hp; exact hp
  | succ d ih =>
    intro k acc n hk hn hp
    obtain ⟨n, rfl⟩ := gx_S n (by omega)
    obtain ⟨j, hj⟩ : ∃ j, ll[k]? = some j := ⟨_, List.getElem?_eq_getElem (by omega)⟩
    obtain ⟨e1, j4, l1, l2, l3, l4, _⟩ := hE.2.2.2.2.2 k j hj
    refine pk_le ll.length k (fun h => by omega) (fun _ => And.intro (vp_in_nI (by omega) (by omega)) ?_)
    rw [nI_clamp (n := k) (by omega), e1]
    refine gx_edgesFor hE hj (gb_ones ?_)
    rw [gx_ed_bl hE j]
    refine nm_r (pk_mul _ _) (nm_r (nI_1 k) (ih (k + 1) _ n (by omega) (by omega) ?_))
    rw [gp_ps_c hj, gp_Y_mul, gp_ef_f l2 l4 hg, ← Nat.mul_assoc] at hp
    · exact hp
    · intro q hq
      rw [← gp_ps_c hj] at hq
      obtain ⟨i, j', _, i2, rfl⟩ := gp_ps_m.mp hq
      obtain ⟨_, _, _, l2', _, l4', _⟩ := hE.2.2.2.2.2 i j' i2
      rw [show 4 + j' - 4 = j' from by omega]
      exact ⟨by omega, l2', l4'⟩
end
def gx_Cb : Nat → Nat → Nat
  | 0, _ => 1
  | m + 1, s => 1 + s * (1 + gx_Cb m 20)
theorem gx_Cb_1 (m s : Nat) : 1 ≤ gx_Cb m s := by
  cases m with
  | zero => exact Nat.le_refl _
  | succ m => show 1 ≤ 1 + s * (1 + gx_Cb m 20); omega
theorem gx_Cb_s (m s : Nat) : gx_Cb (m + 1) (s + 1) = 1 + gx_Cb m 20 + gx_Cb (m + 1) s := by
  show 1 + (s + 1) * (1 + gx_Cb m 20) = 1 + gx_Cb m 20 + (1 + s * (1 + gx_Cb m 20))
  rw [Nat.add_mul, Nat.one_mul]; omega
theorem gx_Cb_mono : ∀ (m : Nat) {s t : Nat}, s ≤ t → gx_Cb m s ≤ gx_Cb m t
  | 0, _, _, _ => Nat.le_refl _
  | m + 1, s, t, h => by
    show 1 + s * (1 + gx_Cb m 20) ≤ 1 + t * (1 + gx_Cb m 20)
    have := Nat.mul_le_mul_right (1 + gx_Cb m 20) h
    omega
theorem gx_Cb_top {m : Nat} (h : m ≤ 3) : gx_Cb m 20 ≤ 16841 := by
  have : m = 0 ∨ m = 1 ∨ m = 2 ∨ m = 3 := by omega
  rcases this with rfl | rfl | rfl | rfl <;> decide
/-- the taken edges at a level: with the one that is chosen there, or without -/
def gx_Tk (T x4 c : Int32) : Prop := (c < 0 ∧ x4 = T) ∨ (∃ e, e < 20 ∧ c = nI e ∧ x4 &&& (((1 : Int32) <<< (nI e &&& 31)) ^^^ (-1)) = T)
theorem gx_Tk_s {T : Int32} {e : Nat} (he : e < 20) (hn : bt T e = false) : gx_Tk T (T ||| ((1 : Int32) <<< (nI e &&& 31))) (nI e) := by
  refine Or.inr ⟨e, he, rfl, ?_⟩
  apply b_ext
  intro i hi
  rw [b_and, b_or, gb_not hi, gb_one (by omega)]
  by_cases z : i = e
  · subst z; rw [hn]; simp
  · simp [z]
theorem gx_vm1 : vp_nar .byte (-1) = -1 := by rw [vp_nar_byte]; decide
end
section
/-! different choices -/
theorem gx_andm1 (x : Int32) : x &&& (-1) = x := by
  apply b_ext
  intro i hi
  rw [b_and, b_m1 i hi, Bool.and_true]
theorem gx_len_nd {ll : List Nat} {i k j : Nat} (hnd : ll.Nodup) (h1 : ll[i]? = some j) (h2 : ll[k]? = some j) : i = k := (List.getElem?_inj (List.getElem?_eq_some_iff.mp h1).1 hnd).mp (h1.trans h2.symm)
section
variable {f_nodeSet f_edgeSet f_sortedCount f_keptCount f_which f_inOrder f_total f_depth f_begun f_assigned f_usedNodes f_edgeLinks : Int32} {a_labelOf a_valueOf a_fromOf a_toOf a_typeOf a_weightOf a_firstPage a_pageUsed a_pageNext a_pageSize a_pageEdge a_labelled a_sorted a_modeOf a_spotSet a_spotLabels a_spotLeast a_spotGreatest a_linkSet a_linkFrom a_linkTo a_linkTypes a_linkKind a_outgoing a_incoming a_allowed a_candidates a_behind a_before a_nodeFor a_levelSpot a_levelLeft a_edgeLink a_choiceLeft a_choice a_pickedEdge : Nat → Int32}
variable {w : Nat} {ll : List Nat} {la lb : Nat → Nat} {al : Nat → Nat → Bool} {eth : Nat → Bool} {fr to a : Nat → Nat}
theorem gx_dch {post : Int32 → SX → Prop} {pl k n acc r : Nat} {x4 T : Int32} (hpl : pl ≤ k) (hk : k < 4) (hr : r < 20000) (hT : gx_Tk T x4 (a_choice k)) (h93 : ∀ z0 z1, z1 &&& z0 = T → wX_differentChoices_93 post (wX_differentChoices_52 post (nI pl) f_nodeSet f_edgeSet f_sortedCount f_keptCount f_which f_inOrder f_total f_depth f_begun f_assigned f_usedNodes f_edgeLinks n) (nI pl) (nI acc) (nI k) (nI r) z0 z1 f_nodeSet f_edgeSet f_sortedCount f_keptCount f_which f_inOrder f_total f_depth f_begun f_assigned f_usedNodes f_edgeLinks a_labelOf a_valueOf a_fromOf a_toOf a_typeOf a_weightOf a_firstPage a_pageUsed a_pageNext a_pageSize a_pageEdge a_labelled a_sorted a_modeOf a_spotSet a_spotLabels a_spotLeast a_spotGreatest a_linkSet a_linkFrom a_linkTo a_linkTypes a_linkKind a_outgoing a_incoming a_allowed a_candidates a_behind a_before a_nodeFor a_levelSpot a_levelLeft a_edgeLink a_choiceLeft a_choice a_pickedEdge) : wX_differentChoices_52 post (nI pl) f_nodeSet f_edgeSet f_sortedCount f_keptCount f_which f_inOrder f_total f_depth f_begun f_assigned f_usedNodes f_edgeLinks (n + 1) (nI acc) x4 (nI k) (nI r) a_labelOf a_valueOf a_fromOf a_toOf a_typeOf a_weightOf a_firstPage a_pageUsed a_pageNext a_pageSize a_pageEdge a_labelled a_sorted a_modeOf a_spotSet a_spotLabels a_spotLeast a_spotGreatest a_linkSet a_linkFrom a_linkTo a_linkTypes a_linkKind a_outgoing a_incoming a_allowed a_candidates a_behind a_before a_nodeFor a_levelSpot a_levelLeft a_edgeLink a_choiceLeft a_choice a_pickedEdge := by
  refine pk_le 20000 r (fun h => by omega) (fun _ => pk_lt k pl (fun h => by omega) (fun _ => And.intro (vp_in_nI hk (by omega)) ?_))
  rw [nI_clamp (n := k) (by omega)]
  rcases hT with ⟨t1, t2⟩ | ⟨e, e1, e2, e3⟩
  · exact br_t t1 (h93 (-1) x4 (by rw [gx_andm1]; exact t2))
  · rw [e2]
    exact br_f (nI_pos (by omega)) (And.intro (vp_in_nI hk (by omega)) (h93 _ x4 e3))
theorem gx_dc {post : Int32 → SX → Prop} {pl : Nat} (hnd : ll.Nodup) (hE : gx_EC w ll la lb al eth fr to a a_linkFrom a_linkTo a_nodeFor a_outgoing a_incoming a_allowed a_edgeLink) :
    ∀ (m k j : Nat), k + m + 1 = ll.length → pl ≤ k → ll[k]? = some j → ∀ (cs : List Nat) (g : Nat → Nat), (∀ e, e ∈ cs → e < 20 ∧ ∀ i, i < 4 → g (4 + i) ≠ e) → gx_Gd a g ll k →
    ∃ c : Nat, c ≤ gx_Cb m cs.length ∧ ∀ T, gx_Ue g T → ∀ (x4 : Int32) (chl ch : Nat → Int32), gb_bl (chl k) = cs → gx_Tk T x4 (ch k) → ∀ (n acc r : Nat), r + c ≤ 20000 →
    (∀ chl' ch', (∀ i, i < k → chl' i = chl i ∧ ch' i = ch i) → wX_differentChoices_52 post (nI pl) f_nodeSet f_edgeSet f_sortedCount f_keptCount (nI w) f_inOrder f_total f_depth f_begun f_assigned f_usedNodes (nI ll.length) n (nI (acc + gp_fs (fun a b : Nat => a + b) 0 (fun e => (gp_Y (gp_ef al fr to true la lb) (gp_ps ll (k + 1)) (gp_st g (4 + j) e)).length) cs)) T (nI k + (-1)) (nI (r + c)) a_labelOf a_valueOf a_fromOf a_toOf a_typeOf a_weightOf a_firstPage a_pageUsed a_pageNext a_pageSize a_pageEdge a_labelled a_sorted a_modeOf a_spotSet a_spotLabels a_spotLeast a_spotGreatest a_linkSet a_linkFrom a_linkTo a_linkTypes a_linkKind a_outgoing a_incoming a_allowed a_candidates a_behind a_before a_nodeFor a_levelSpot a_levelLeft a_edgeLink chl' ch' a_pickedEdge) →
    wX_differentChoices_52 post (nI pl) f_nodeSet f_edgeSet f_sortedCount f_keptCount (nI w) f_inOrder f_total f_depth f_begun f_assigned f_usedNodes (nI ll.length) (n + c) (nI acc) x4 (nI k) (nI r) a_labelOf a_valueOf a_fromOf a_toOf a_typeOf a_weightOf a_firstPage a_pageUsed a_pageNext a_pageSize a_pageEdge a_labelled a_sorted a_modeOf a_spotSet a_spotLabels a_spotLeast a_spotGreatest a_linkSet a_linkFrom a_linkTo a_linkTypes a_linkKind a_outgoing a_incoming a_allowed a_candidates a_behind a_before a_nodeFor a_levelSpot a_levelLeft a_edgeLink chl ch a_pickedEdge := by
  have h4 := hE.2.1
  intro m
  induction m with
  | zero =>
    intro k j hk hpl hj cs g hcs hGd
    refine ⟨1, Nat.le_refl _, fun T hU x4 chl ch hbl hT n acc r hr hK => gx_dch hpl (by omega) (by omega) hT (fun z0 z1 hz => ?_)⟩
    refine nm_r hz (And.intro (vp_in_nI (by omega) (by omega)) ?_)
    rw [nI_clamp (n := k) (by omega), gx_vm1]
    have hq : nI k = nI ll.length - 1 := by rw [show ll.length = k + 1 from by omega, nI_pred]
    refine nm_e (br_t hq (And.intro (vp_in_nI (by omega) (by omega)) (gb_ones ?_)))
    rw [hbl]
    have e1 : nI acc + nI cs.length = nI (acc + gp_fs (fun a b : Nat => a + b) 0 (fun e => (gp_Y (gp_ef al fr to true la lb) (gp_ps ll (k + 1)) (gp_st g (4 + j) e)).length) cs) := by
      rw [nI_add, gp_ps_e (by omega)]
      exact congrArg (fun z => nI (acc + z)) (gp_len cs)
    refine nm_r e1 (nm_e (nm_r (nI_1 r) (hK _ _ (fun i hi => ⟨rfl, pk_un (by omega)⟩))))
  | succ m ihm =>
    intro k j hk hpl hj cs g
    obtain ⟨j2, hj2⟩ : ∃ j, ll[k + 1]? = some j := ⟨_, List.getElem?_eq_getElem (by omega)⟩
    have hq : ¬ nI k = nI ll.length - 1 := by
      rw [show ll.length = (k + m + 1) + 1 from by omega, nI_pred, nI_eq (by omega) (by omega)]
      omega
    obtain ⟨_, j4, _⟩ := hE.2.2.2.2.2 k j hj
    obtain ⟨el2, j24, _⟩ := hE.2.2.2.2.2 (k + 1) j2 hj2
    have hin : vp_in (nI k) 4 := vp_in_nI (by omega) (by omega)
    have hin1 : vp_in (nI (k + 1)) 4 := vp_in_nI (by omega) (by omega)
    induction cs with
    | nil =>
      intro hcs hGd
      refine ⟨1, gx_Cb_1 _ _, fun T hU x4 chl ch hbl hT n acc r hr hK => gx_dch hpl (by omega) (by omega) hT (fun z0 z1 hz => ?_)⟩
      refine nm_r hz (And.intro (vp_in_nI (by omega) (by omega)) ?_)
      rw [nI_clamp (n := k) (by omega), gx_vm1]
      refine nm_e (br_f hq (And.intro hin (br_t (gb_bl_0 hbl) (nm_e (nm_r (nI_1 r) (hK _ _ (fun i hi => ⟨rfl, pk_un (by omega)⟩)))))))
    | cons e cs ihc =>
      intro hcs hGd
      obtain ⟨he20, heg⟩ := hcs e (List.mem_cons_self ..)
      have hgj : g (4 + j) = 50 := hGd.2.1 _ (gp_ps_m.mpr ⟨k, j, Nat.le_refl _, hj, rfl⟩)
      have hGd' := gx_Gd_s hnd hGd hj he20
      -- the level above, and this level again
      obtain ⟨c1, hc1, H1⟩ := ihm (k + 1) j2 (by omega) (by omega) hj2 (gb_fl (gp_ef al fr to true la lb (gp_st g (4 + j) e) (4 + j2)) 0 20) (gp_st g (4 + j) e) (fun x hx => ⟨by have := gb_fl_m.mp hx; omega, (gp_ef_iff.mp (gb_fl_m.mp hx).2.2).2.2.2 rfl⟩) hGd'
      obtain ⟨c2, hc2, H2⟩ := ihc (fun x hx => hcs x (List.mem_cons_of_mem _ hx)) hGd
      have hlen := gb_fl_len (gp_ef al fr to true la lb (gp_st g (4 + j) e) (4 + j2)) 20 0
      refine ⟨1 + c1 + c2, ?_, fun T hU x4 chl ch hbl hT n acc r hr hK => ?_⟩
      · rw [List.length_cons, gx_Cb_s]
        have := gx_Cb_mono m hlen
        omega
      · have hTe : bt T e = false := by
          rw [hU e (by omega)]
          cases hc : gb_an (fun j => decide (g (4 + j) = e)) 0 4
          · rfl
          · obtain ⟨t, t1, t2, t3⟩ := gb_an_iff.mp hc
            exact absurd (by simpa using t3) (heg t (by omega))
        have hU' := gx_Ue_s hU j4 he20 hgj
        have en : n + (1 + c1 + c2) = (n + c2 + c1) + 1 := by omega
        rw [en]
        refine gx_dch hpl (by omega) (by omega) hT (fun z0 z1 hz => ?_)
        refine nm_r hz (And.intro hin ?_)
        rw [nI_clamp (n := k) (by omega), gx_vm1]
        refine nm_e (br_f hq (And.intro hin (br_f (gb_bl_n hbl) (And.intro hin (gb_low hbl (And.intro hin (And.intro hin (nm_e (And.intro hin ?_)))))))))
        rw [gx_byte4 (by omega)]
        refine nm_e (nm_e (nm_r (nI_1 k) (And.intro hin1 ?_)))
        rw [nI_clamp (n := k + 1) (by omega), el2]
        refine gx_edgesFor hE hj2 (And.intro hin1 (nm_e (And.intro hin1 (nm_e (nm_r (nI_1 r) ?_)))))
        refine H1 _ hU' _ _ _ (by rw [pk_us]; exact gx_ed_blT hE hj2 hGd'.1 hU') (Or.inl ⟨by rw [pk_us]; decide, rfl⟩) (n + c2) acc (r + 1) (by omega) (fun chl' ch' hag => ?_)
        have a1 := (hag k (by omega)).1
        have a2 := (hag k (by omega)).2
        rw [pk_un (by omega), pk_us] at a1
        rw [pk_un (by omega), pk_us] at a2
        rw [pk_m1]
        have hS : gp_fs (fun a b : Nat => a + b) 0 (fun e' => (gp_Y (gp_ef al fr to true la lb) (gp_ps ll (k + 1 + 1)) (gp_st (gp_st g (4 + j) e) (4 + j2) e')).length) (gb_fl (gp_ef al fr to true la lb (gp_st g (4 + j) e) (4 + j2)) 0 20) = (gp_Y (gp_ef al fr to true la lb) (gp_ps ll (k + 1)) (gp_st g (4 + j) e)).length := by
          rw [gp_ps_c hj2]
          show _ = ((gb_fl (gp_ef al fr to true la lb (gp_st g (4 + j) e) (4 + j2)) 0 (gp_lim (4 + j2))).flatMap (fun n => gp_Y (gp_ef al fr to true la lb) (gp_ps ll (k + 1 + 1)) (gp_st (gp_st g (4 + j) e) (4 + j2) n))).length
          rw [show gp_lim (4 + j2) = 20 from if_neg (by omega), gp_len_fm]
        rw [hS]
        refine H2 T hU _ chl' ch' (by rw [a1]; exact gb_clr hbl) (by rw [a2]; exact gx_Tk_s he20 hTe) n _ (r + 1 + c1) (by omega) (fun chl2 ch2 hag2 => ?_)
        have e3 : r + 1 + c1 + c2 = r + (1 + c1 + c2) := by omega
        rw [e3, Nat.add_assoc]
        refine hK chl2 ch2 (fun i hi => ?_)
        have b1 := hag2 i hi
        have b2 := hag i (by omega)
        rw [b1.1, b1.2, b2.1, b2.2, pk_un (by omega), pk_un (by omega), pk_un (by omega), pk_un (by omega), pk_un (by omega)]
        exact ⟨rfl, rfl⟩
theorem gx_m1lt {k : Nat} (h : k < 5) : nI k + (-1) < nI k := (by decide +kernel : ∀ k, k < 5 → nI k + (-1) < nI k) k h
theorem gx_diff {post : Int32 → SX → Prop} {g : Nat → Nat} {T : Int32} {pl : Nat} (hnd : ll.Nodup) (hE : gx_EC w ll la lb al eth fr to a a_linkFrom a_linkTo a_nodeFor a_outgoing a_incoming a_allowed a_edgeLink) (hpl : pl ≤ ll.length) (hGd : gx_Gd a g ll pl) (hU : gx_Ue g T)
    (hp : ∀ chl ch, post (nI (gp_Y (gp_ef al fr to true la lb) (gp_ps ll pl) g).length) (f_nodeSet, f_edgeSet, f_sortedCount, f_keptCount, nI w, f_inOrder, f_total, f_depth, f_begun, f_assigned, f_usedNodes, nI ll.length, a_labelOf, a_valueOf, a_fromOf, a_toOf, a_typeOf, a_weightOf, a_firstPage, a_pageUsed, a_pageNext, a_pageSize, a_pageEdge, a_labelled, a_sorted, a_modeOf, a_spotSet, a_spotLabels, a_spotLeast, a_spotGreatest, a_linkSet, a_linkFrom, a_linkTo, a_linkTypes, a_linkKind, a_outgoing, a_incoming, a_allowed, a_candidates, a_behind, a_before, a_nodeFor, a_levelSpot, a_levelLeft, a_edgeLink, chl, ch, a_pickedEdge)) : wpX_differentChoices post (f_nodeSet, f_edgeSet, f_sortedCount, f_keptCount, nI w, f_inOrder, f_total, f_depth, f_begun, f_assigned, f_usedNodes, nI ll.length, a_labelOf, a_valueOf, a_fromOf, a_toOf, a_typeOf, a_weightOf, a_firstPage, a_pageUsed, a_pageNext, a_pageSize, a_pageEdge, a_labelled, a_sorted, a_modeOf, a_spotSet, a_spotLabels, a_spotLeast, a_spotGreatest, a_linkSet, a_linkFrom, a_linkTo, a_linkTypes, a_linkKind, a_outgoing, a_incoming, a_allowed, a_candidates, a_behind, a_before, a_nodeFor, a_levelSpot, a_levelLeft, a_edgeLink, a_choiceLeft, a_choice, a_pickedEdge) (nI pl) T := by
  have h4 := hE.2.1
  refine pk_lt pl ll.length (fun hlt => ?_) (fun hge => ?_)
  · obtain ⟨j, hj⟩ : ∃ j, ll[pl]? = some j := ⟨_, List.getElem?_eq_getElem hlt⟩
    obtain ⟨el, j4, _⟩ := hE.2.2.2.2.2 pl j hj
    have hin : vp_in (nI pl) 4 := vp_in_nI (by omega) (by omega)
    refine And.intro hin ?_
    rw [nI_clamp (n := pl) (by omega), el, gx_vm1]
    refine gx_edgesFor hE hj (And.intro hin (nm_e (And.intro hin (nm_e ?_))))
    obtain ⟨c, hc, H⟩ := gx_dc (post := post) (pl := pl) hnd hE (ll.length - 1 - pl) pl j (by omega) (Nat.le_refl _) hj (gb_fl (gp_ef al fr to true la lb g (4 + j)) 0 20) g (fun x hx => ⟨by have := gb_fl_m.mp hx; omega, (gp_ef_iff.mp (gb_fl_m.mp hx).2.2).2.2.2 rfl⟩) hGd
    have hlen := gb_fl_len (gp_ef al fr to true la lb g (4 + j)) 20 0
    have hc2 : c ≤ 16841 := Nat.le_trans hc (Nat.le_trans (gx_Cb_mono _ hlen) (gx_Cb_top (by omega)))
    refine Exists.intro (1 + c) (H T hU T _ _ (by rw [pk_us]; exact gx_ed_blT hE hj hGd.1 hU) (Or.inl ⟨by rw [pk_us]; decide, rfl⟩) 1 0 0 (by omega) (fun chl ch _ => ?_))
    refine pk_le 20000 (0 + c) (fun h => by omega) (fun _ => br_t (gx_m1lt (by omega)) ?_)
    have e : 0 + gp_fs (fun a b : Nat => a + b) 0 (fun e => (gp_Y (gp_ef al fr to true la lb) (gp_ps ll (pl + 1)) (gp_st g (4 + j) e)).length) (gb_fl (gp_ef al fr to true la lb g (4 + j)) 0 20) = (gp_Y (gp_ef al fr to true la lb) (gp_ps ll pl) g).length := by
      rw [Nat.zero_add, gp_ps_c hj]
      show _ = ((gb_fl (gp_ef al fr to true la lb g (4 + j)) 0 (gp_lim (4 + j))).flatMap (fun n => gp_Y (gp_ef al fr to true la lb) (gp_ps ll (pl + 1)) (gp_st g (4 + j) n))).length
      rw [show gp_lim (4 + j) = 20 from if_neg (by omega), gp_len_fm]
    rw [e]
    exact hp chl ch
  · have := hp a_choiceLeft a_choice
    rw [gp_ps_e hge] at this
    exact this
/-- how many choices of edges there are from a place on -/
theorem gx_choicesFrom {post : Int32 → SX → Prop} {g : Nat → Nat} {T : Int32} {pl : Nat} {md : Bool} (hnd : ll.Nodup) (hE : gx_EC w ll la lb al eth fr to a a_linkFrom a_linkTo a_nodeFor a_outgoing a_incoming a_allowed a_edgeLink) (hmd : (a_modeOf w &&& 2) = 0 ↔ md = false) (hpl : pl ≤ ll.length) (hGd : gx_Gd a g ll pl) (hU : md = true → gx_Ue g T)
    (hp : ∀ chl ch, post (nI (gp_Y (gp_ef al fr to md la lb) (gp_ps ll pl) g).length) (f_nodeSet, f_edgeSet, f_sortedCount, f_keptCount, nI w, f_inOrder, f_total, f_depth, f_begun, f_assigned, f_usedNodes, nI ll.length, a_labelOf, a_valueOf, a_fromOf, a_toOf, a_typeOf, a_weightOf, a_firstPage, a_pageUsed, a_pageNext, a_pageSize, a_pageEdge, a_labelled, a_sorted, a_modeOf, a_spotSet, a_spotLabels, a_spotLeast, a_spotGreatest, a_linkSet, a_linkFrom, a_linkTo, a_linkTypes, a_linkKind, a_outgoing, a_incoming, a_allowed, a_candidates, a_behind, a_before, a_nodeFor, a_levelSpot, a_levelLeft, a_edgeLink, chl, ch, a_pickedEdge)) : wpX_choicesFrom post (f_nodeSet, f_edgeSet, f_sortedCount, f_keptCount, nI w, f_inOrder, f_total, f_depth, f_begun, f_assigned, f_usedNodes, nI ll.length, a_labelOf, a_valueOf, a_fromOf, a_toOf, a_typeOf, a_weightOf, a_firstPage, a_pageUsed, a_pageNext, a_pageSize, a_pageEdge, a_labelled, a_sorted, a_modeOf, a_spotSet, a_spotLabels, a_spotLeast, a_spotGreatest, a_linkSet, a_linkFrom, a_linkTo, a_linkTypes, a_linkKind, a_outgoing, a_incoming, a_allowed, a_candidates, a_behind, a_before, a_nodeFor, a_levelSpot, a_levelLeft, a_edgeLink, a_choiceLeft, a_choice, a_pickedEdge) (nI pl) T := by
  refine And.intro (vp_in_nI hE.1 (by omega)) ?_
  rw [nI_clamp (n := w) (by have := hE.1; omega)]
  refine br_c (fun z => ?_) (fun z => ?_)
  · have hm := hmd.mp z
    subst hm
    refine Exists.intro _ (gx_ch26 hE hGd.1 (ll.length - pl) pl 1 (ll.length - pl + 1) (by omega) (by omega) ?_)
    rw [Nat.one_mul]
    exact hp a_choiceLeft a_choice
  · have hm : md = true := by
      cases h : md
      · exact absurd (hmd.mpr h) z
      · rfl
    subst hm
    exact gx_diff hnd hE hpl hGd (hU rfl) hp
end
end
section
/-! nextNodes as a whole, countAll -/
/-- where a search stands: R is still to come -/
def gx_NS (sp : Nat → Bool) (ft : (Nat → Nat) → Nat → Nat → Bool) (pk : (Nat → Nat) → Nat) (tot : Nat) (ns bg asg us : Int32) (nf lsp llf : Nat → Int32) (R : List (Nat → Nat)) : Prop :=
  (bg = 0 ∧ R = gp_L ft pk tot (fun _ => 50)) ∨ (¬ bg = 0 ∧ tot = 0 ∧ R = []) ∨ (¬ bg = 0 ∧ ∃ a, gx_NO sp ft pk tot ns asg us nf lsp llf a R)
theorem gx_NO_nd {sp : Nat → Bool} {ft : (Nat → Nat) → Nat → Nat → Bool} {pk : (Nat → Nat) → Nat} {tot : Nat} {ns asg us : Int32} {nf lsp llf : Nat → Int32} {a : Nat → Nat} {R : List (Nat → Nat)} (h12 : ∀ g i n, ft g i n = true → n < 12) (h : gx_NO sp ft pk tot ns asg us nf lsp llf a R) : gx_Nd sp nf a := by
  obtain ⟨l, sd, v, cs, rfl, ⟨_, i2, i3⟩, ⟨s1, _⟩, hn, hf, rfl, _⟩ := h
  obtain ⟨t1, t2, t3, t4, t5⟩ := i2 l (Nat.le_refl _)
  have hsd := gp_us_m.mp t3
  have hc := h12 _ _ _ hf
  have hus : gp_us sp (gp_st (gp_g sd v l) (sd l) (v l)) = (gp_us sp (gp_g sd v l)).erase (sd l) := gp_us_st t3 (by omega)
  have hnil : gp_us sp (gp_st (gp_g sd v l) (sd l) (v l)) = [] := by
    apply List.length_eq_zero_iff.mp
    rw [hus, List.length_erase_of_mem t3]
    omega
  have hval : ∀ k, k < l + 1 → v k < 12 := by
    intro k hk
    by_cases e : k = l
    · subst e; exact hc
    · exact h12 _ _ _ (i3 k (by omega)).2
  refine ⟨fun i hi hsp => ?_, fun i hi => ?_⟩
  · show nf i = nI (gp_st (gp_g sd v l) (sd l) (v l) i) ∧ gp_st (gp_g sd v l) (sd l) (v l) i < 12
    by_cases e : i = sd l
    · subst e
      rw [gp_st_s]
      exact ⟨hn, hc⟩
    · have hne : gp_st (gp_g sd v l) (sd l) (v l) i ≠ 50 := by
        intro z
        have : i ∈ gp_us sp (gp_st (gp_g sd v l) (sd l) (v l)) := gp_us_m.mpr ⟨hi, hsp, z⟩
        rw [hnil] at this; cases this
      rw [gp_st_n e] at hne ⊢
      exact ⟨(s1 i hi hne).1, (s1 i hi hne).2.1⟩
  · apply gp_g_out
    intro k hk e
    have := gp_us_m.mp (i2 k (by omega)).2.2.1
    rw [e] at this
    rcases hi with h | h
    · rw [h] at this; exact absurd this.2.1 (by simp)
    · omega
section
variable {f_nodeSet f_edgeSet f_sortedCount f_keptCount f_which f_inOrder f_total f_depth f_begun f_assigned f_usedNodes f_edgeLinks : Int32} {a_labelOf a_valueOf a_fromOf a_toOf a_typeOf a_weightOf a_firstPage a_pageUsed a_pageNext a_pageSize a_pageEdge a_labelled a_sorted a_modeOf a_spotSet a_spotLabels a_spotLeast a_spotGreatest a_linkSet a_linkFrom a_linkTo a_linkTypes a_linkKind a_outgoing a_incoming a_allowed a_candidates a_behind a_before a_nodeFor a_levelSpot a_levelLeft a_edgeLink a_choiceLeft a_choice a_pickedEdge : Nat → Int32}
variable {w tot : Nat} {io : Bool} {sp lk : Nat → Bool} {la lb : Nat → Nat} {cd : Nat → Nat → Bool} {cn : Nat → Nat → Nat → Bool} {md : Bool}
theorem gx_nextNodes {post : Int32 → SX → Prop} {R : List (Nat → Nat)} (ht : tot = (gp_us sp (fun _ => 50)).length) (hio : f_inOrder = 0 ↔ io = false)
    (hC : gx_SC w sp lk la lb cd cn md f_nodeSet a_modeOf a_spotSet a_linkSet a_linkFrom a_linkTo a_candidates a_behind a_before)
    (hS : gx_NS sp (gp_ft cd md lk la lb cn) (gp_pk io sp (gp_ft cd md lk la lb cn)) tot f_nodeSet f_begun f_assigned f_usedNodes a_nodeFor a_levelSpot a_levelLeft R)
    (P0 : R = [] → ∀ dp bg asg us nf lsp llf, post 0 (f_nodeSet, f_edgeSet, f_sortedCount, f_keptCount, nI w, f_inOrder, nI tot, dp, bg, asg, us, f_edgeLinks, a_labelOf, a_valueOf, a_fromOf, a_toOf, a_typeOf, a_weightOf, a_firstPage, a_pageUsed, a_pageNext, a_pageSize, a_pageEdge, a_labelled, a_sorted, a_modeOf, a_spotSet, a_spotLabels, a_spotLeast, a_spotGreatest, a_linkSet, a_linkFrom, a_linkTo, a_linkTypes, a_linkKind, a_outgoing, a_incoming, a_allowed, a_candidates, a_behind, a_before, nf, lsp, llf, a_edgeLink, a_choiceLeft, a_choice, a_pickedEdge))
    (P1 : ∀ b R', R = b :: R' → ∀ dp bg asg us nf lsp llf, gx_NS sp (gp_ft cd md lk la lb cn) (gp_pk io sp (gp_ft cd md lk la lb cn)) tot f_nodeSet bg asg us nf lsp llf R' → gx_Nd sp nf b → post 1 (f_nodeSet, f_edgeSet, f_sortedCount, f_keptCount, nI w, f_inOrder, nI tot, dp, bg, asg, us, f_edgeLinks, a_labelOf, a_valueOf, a_fromOf, a_toOf, a_typeOf, a_weightOf, a_firstPage, a_pageUsed, a_pageNext, a_pageSize, a_pageEdge, a_labelled, a_sorted, a_modeOf, a_spotSet, a_spotLabels, a_spotLeast, a_spotGreatest, a_linkSet, a_linkFrom, a_linkTo, a_linkTypes, a_linkKind, a_outgoing, a_incoming, a_allowed, a_candidates, a_behind, a_before, nf, lsp, llf, a_edgeLink, a_choiceLeft, a_choice, a_pickedEdge)) :
    wpX_nextNodes post (f_nodeSet, f_edgeSet, f_sortedCount, f_keptCount, nI w, f_inOrder, nI tot, f_depth, f_begun, f_assigned, f_usedNodes, f_edgeLinks, a_labelOf, a_valueOf, a_fromOf, a_toOf, a_typeOf, a_weightOf, a_firstPage, a_pageUsed, a_pageNext, a_pageSize, a_pageEdge, a_labelled, a_sorted, a_modeOf, a_spotSet, a_spotLabels, a_spotLeast, a_spotGreatest, a_linkSet, a_linkFrom, a_linkTo, a_linkTypes, a_linkKind, a_outgoing, a_incoming, a_allowed, a_candidates, a_behind, a_before, a_nodeFor, a_levelSpot, a_levelLeft, a_edgeLink, a_choiceLeft, a_choice, a_pickedEdge) := by
  have ht4 : tot ≤ 4 := by rw [ht]; exact gb_fl_len _ _ _
  have h12 : ∀ g i n, gp_ft cd md lk la lb cn g i n = true → n < 12 := fun g i n h => (gx_ft12 hC h).1
  refine br_c (fun hb => ?_) (fun hb => ?_)
  · have hR : R = gp_L (gp_ft cd md lk la lb cn) (gp_pk io sp (gp_ft cd md lk la lb cn)) tot (fun _ => 50) := by
      rcases hS with h | h | h
      · exact h.2
      · exact absurd hb h.1
      · exact absurd hb h.1
    refine pk_eq tot 0 (fun h0 => ?_) (fun h0 => ?_)
    · subst h0
      refine P1 (fun _ => 50) [] hR _ _ _ _ _ _ _ (Or.inr (Or.inl ⟨by decide, rfl, rfl⟩)) ⟨fun i hi hsp => ?_, fun i _ => rfl⟩
      have : i ∈ gp_us sp (fun _ => 50) := gp_us_m.mpr ⟨hi, hsp, rfl⟩
      rw [List.length_eq_zero_iff.mp ht.symm] at this; cases this
    · have hne : gp_us sp (fun _ => 50) ≠ [] := by
        intro e; rw [e] at ht; exact h0 ht
      have hpm := gp_pk_m (io := io) (ft := gp_ft cd md lk la lb cn) _ hne
      have hA : gx_As (fun _ => 50) f_nodeSet 0 a_nodeFor := ⟨fun i _ => by rw [b_0]; rfl, fun i _ h => absurd rfl h⟩
      have hU : gx_Us (fun _ => 50) 0 := by
        intro n hn
        rw [b_0]
        symm
        cases hc : gb_an (fun _ => decide (50 = n)) 0 4
        · rfl
        · obtain ⟨t, _, _, t3⟩ := gb_an_iff.mp hc
          simp at t3; omega
      refine gx_openLevel (dp := 0) (by omega) hio hC hA hU hne ?_
      refine Exists.intro 30000 (gx_nn64 (RR := R) (io := io) ht4 hio hC (fun h dp asg us nf lsp llf => P0 h _ _ _ _ _ _ _) (fun b R' h asg us nf lsp llf hNO => P1 b R' h _ _ _ _ _ _ _ (Or.inr (Or.inr ⟨by decide, b, hNO⟩)) (gx_NO_nd h12 hNO)) 26728 0 0 30000 (fun _ => gp_pk io sp (gp_ft cd md lk la lb cn) (fun _ => 50)) (fun _ => 50) (fun _ => gb_fl (gp_ft cd md lk la lb cn (fun _ => 50) (gp_pk io sp (gp_ft cd md lk la lb cn) (fun _ => 50))) 0 12) _ _ _ _ _ (gx_mu_le ht4 (by omega) (fun k _ => gb_fl_len _ _ _)) (by omega) (by omega) ⟨by omega, fun k hk => ?_, fun k hk => by omega⟩ ⟨fun i _ h => absurd rfl h, Or.inl ⟨hA, hU⟩⟩ ?_)
      · have : k = 0 := by omega
        subst this
        refine ⟨pk_us, ?_, hpm, by rw [ht]; rfl, fun n hn => (gb_fl_m.mp hn).2.2⟩
        rw [pk_us]
        apply gb_bl_mk (by omega)
        intro i h1 h2
        cases hf : gp_ft cd md lk la lb cn (fun _ => 50) (gp_pk io sp (gp_ft cd md lk la lb cn) (fun _ => 50)) i
        · rfl
        · have := h12 _ _ _ hf; omega
      · rw [hR]
        obtain ⟨t', ht'⟩ := gx_S tot (by omega)
        rw [ht', show t' + 1 - 1 - 0 = t' from by omega, gp_R_s]
        show _ = _ ++ []
        rw [List.append_nil]
        rfl
  · refine pk_eq tot 0 (fun h0 => ?_) (fun h0 => ?_)
    · subst h0
      refine P0 ?_ _ _ _ _ _ _ _
      rcases hS with h | h | ⟨_, b, l, sd, v, cs, h, _⟩
      · exact absurd h.1 hb
      · exact h.2.2
      · omega
    · obtain ⟨l, sd, v, cs, hl, hNI, hSt, hn, hf, ha, hR⟩ : ∃ l sd v cs, tot = l + 1 ∧ gx_NI sp (gp_ft cd md lk la lb cn) tot l sd v cs a_nodeFor a_levelSpot a_levelLeft ∧ gx_St (gp_g sd v l) (sd l) f_nodeSet f_assigned f_usedNodes a_nodeFor ∧ a_nodeFor (sd l) = nI (v l) ∧ gp_ft cd md lk la lb cn (gp_g sd v l) (sd l) (v l) = true ∧ True ∧ R = gp_R (gp_L (gp_ft cd md lk la lb cn) (gp_pk io sp (gp_ft cd md lk la lb cn))) sd v cs (l + 1) 0 := by
        rcases hS with h | h | ⟨_, b, l, sd, v, cs, h1, h2, h3, h4, h5, h6, h7⟩
        · exact absurd h.1 hb
        · exact absurd h.2.1 h0
        · exact ⟨l, sd, v, cs, h1, h2, h3, h4, h5, trivial, h7⟩
      have e1 : nI tot - 1 = nI l := by rw [hl, nI_pred]
      have hcs : ∀ k, k ≤ l → (cs k).length ≤ 12 := by
        intro k hk
        obtain ⟨_, c2, _, _, c5⟩ := hNI.2.1 k hk
        have e : gb_bl (a_levelLeft k) = gb_fl (bt (a_levelLeft k)) 0 12 := by
          show gb_fl (bt (a_levelLeft k)) 0 (12 + 20) = _
          apply gb_fl_cut
          intro n h1 h2
          cases hb2 : bt (a_levelLeft k) n
          · rfl
          · have := h12 _ _ _ (c5 n (by rw [← c2]; exact gb_bl_m.mpr hb2)); omega
        rw [← c2, e]
        exact gb_fl_len _ _ _
      refine nm_r e1 (Exists.intro 30000 (gx_nn64 (RR := R) (io := io) ht4 hio hC (fun h dp asg us nf lsp llf => P0 h _ _ _ _ _ _ _) (fun b R' h asg us nf lsp llf hNO => P1 b R' h _ _ _ _ _ _ _ (Or.inr (Or.inr ⟨hb, b, hNO⟩)) (gx_NO_nd h12 hNO)) 26728 l 0 30000 sd v cs _ _ _ _ _ (gx_mu_le ht4 (by omega) hcs) (by omega) (by omega) hNI hSt ?_))
      rw [hR, show tot - 1 - l = 0 from by omega]
end
end
section
/-! countAll; the list of matches -/
def gx_E0 (w : Nat) (sp : Nat → Bool) (ll : List Nat) (la lb : Nat → Nat) (al : Nat → Nat → Bool) (eth : Nat → Bool) (fr to : Nat → Nat) (lf lt out inc alw elk : Nat → Int32) : Prop :=
  w < 2 ∧ ll.length ≤ 4 ∧ gx_Out eth fr out ∧ gx_Out eth to inc ∧ (∀ j e, al j e = true → e < 20 ∧ eth e = true) ∧
  (∀ k x, ll[k]? = some x → elk k = nI x ∧ x < 4 ∧ lf (w * 4 + x) = nI (la x) ∧ la x < 4 ∧ lt (w * 4 + x) = nI (lb x) ∧ lb x < 4 ∧ sp (la x) = true ∧ sp (lb x) = true ∧ alw x = gb_mk (al x))
theorem gx_E0_EC {w : Nat} {sp : Nat → Bool} {ll : List Nat} {la lb : Nat → Nat} {al : Nat → Nat → Bool} {eth : Nat → Bool} {fr to b : Nat → Nat} {lf lt nf out inc alw elk : Nat → Int32} (h : gx_E0 w sp ll la lb al eth fr to lf lt out inc alw elk) (hN : gx_Nd sp nf b) : gx_EC w ll la lb al eth fr to b lf lt nf out inc alw elk := by
  obtain ⟨h1, h2, h3, h4, h5, h6⟩ := h
  refine ⟨h1, h2, h3, h4, h5, fun k x hk => ?_⟩
  obtain ⟨a1, a2, a3, a4, a5, a6, a7, a8, a9⟩ := h6 k x hk
  exact ⟨a1, a2, a3, a4, a5, a6, (hN.1 _ a4 a7).1, (hN.1 _ a4 a7).2, (hN.1 _ a6 a8).1, (hN.1 _ a6 a8).2, a9⟩
theorem gx_Nd_Gd {sp : Nat → Bool} {nf : Nat → Int32} {b : Nat → Nat} (ll : List Nat) (hN : gx_Nd sp nf b) : gx_Gd b b ll 0 := by
  refine ⟨fun i _ => rfl, fun p hp => ?_, fun i _ => Or.inr (hN.2 _ (Or.inr (by omega)))⟩
  obtain ⟨i, j, _, _, rfl⟩ := gp_ps_m.mp hp
  exact hN.2 _ (Or.inr (by omega))
theorem gx_Nd_Ue {sp : Nat → Bool} {nf : Nat → Int32} {b : Nat → Nat} (hN : gx_Nd sp nf b) : gx_Ue b 0 := by
  intro e he
  rw [b_0]
  symm
  cases hc : gb_an (fun j => decide (b (4 + j) = e)) 0 4
  · rfl
  · obtain ⟨t, _, _, t3⟩ := gb_an_iff.mp hc
    have := hN.2 (4 + t) (Or.inr (by omega))
    simp at t3; omega
section
variable {f_nodeSet f_edgeSet f_sortedCount f_keptCount f_which f_inOrder f_total f_depth f_begun f_assigned f_usedNodes f_edgeLinks : Int32} {a_labelOf a_valueOf a_fromOf a_toOf a_typeOf a_weightOf a_firstPage a_pageUsed a_pageNext a_pageSize a_pageEdge a_labelled a_sorted a_modeOf a_spotSet a_spotLabels a_spotLeast a_spotGreatest a_linkSet a_linkFrom a_linkTo a_linkTypes a_linkKind a_outgoing a_incoming a_allowed a_candidates a_behind a_before a_nodeFor a_levelSpot a_levelLeft a_edgeLink a_choiceLeft a_choice a_pickedEdge : Nat → Int32}
variable {w tot : Nat} {io : Bool} {sp lk : Nat → Bool} {la lb : Nat → Nat} {cd : Nat → Nat → Bool} {cn : Nat → Nat → Nat → Bool} {md md2 : Bool} {ll : List Nat} {al : Nat → Nat → Bool} {eth : Nat → Bool} {fr to : Nat → Nat}
theorem gx_cnt4 {post : Int32 → SX → Prop} (ht : tot = (gp_us sp (fun _ => 50)).length) (hio : f_inOrder = 0 ↔ io = false)
    (hC : gx_SC w sp lk la lb cd cn md f_nodeSet a_modeOf a_spotSet a_linkSet a_linkFrom a_linkTo a_candidates a_behind a_before) (hmd : (a_modeOf w &&& 2) = 0 ↔ md2 = false) (hnd : ll.Nodup)
    (hE : gx_E0 w sp ll la lb al eth fr to a_linkFrom a_linkTo a_outgoing a_incoming a_allowed a_edgeLink) :
    ∀ (R : List (Nat → Nat)) (acc r n : Nat) (dp bg asg us : Int32) (nf lsp llf chl ch : Nat → Int32), gx_NS sp (gp_ft cd md lk la lb cn) (gp_pk io sp (gp_ft cd md lk la lb cn)) tot f_nodeSet bg asg us nf lsp llf R → R.length + r ≤ 20736 → R.length < n →
    (∀ dp bg asg us nf lsp llf chl ch, post (nI (acc + gp_fs (fun a b : Nat => a + b) 0 (fun b => (gp_Y (gp_ef al fr to md2 la lb) (gp_ps ll 0) b).length) R)) (f_nodeSet, f_edgeSet, f_sortedCount, f_keptCount, nI w, f_inOrder, nI tot, dp, bg, asg, us, nI ll.length, a_labelOf, a_valueOf, a_fromOf, a_toOf, a_typeOf, a_weightOf, a_firstPage, a_pageUsed, a_pageNext, a_pageSize, a_pageEdge, a_labelled, a_sorted, a_modeOf, a_spotSet, a_spotLabels, a_spotLeast, a_spotGreatest, a_linkSet, a_linkFrom, a_linkTo, a_linkTypes, a_linkKind, a_outgoing, a_incoming, a_allowed, a_candidates, a_behind, a_before, nf, lsp, llf, a_edgeLink, chl, ch, a_pickedEdge)) →
    wX_countAll_4 post n (nI acc) (nI r) f_nodeSet f_edgeSet f_sortedCount f_keptCount (nI w) f_inOrder (nI tot) dp bg asg us (nI ll.length) a_labelOf a_valueOf a_fromOf a_toOf a_typeOf a_weightOf a_firstPage a_pageUsed a_pageNext a_pageSize a_pageEdge a_labelled a_sorted a_modeOf a_spotSet a_spotLabels a_spotLeast a_spotGreatest a_linkSet a_linkFrom a_linkTo a_linkTypes a_linkKind a_outgoing a_incoming a_allowed a_candidates a_behind a_before nf lsp llf a_edgeLink chl ch a_pickedEdge := by
  intro R
  induction R with
  | nil =>
    intro acc r n dp bg asg us nf lsp llf chl ch hS hr hn hp
    obtain ⟨n, rfl⟩ := gx_S n (by omega)
    refine pk_le 20737 r (fun h => by simp at hr; omega) (fun _ => gx_nextNodes ht hio hC hS (fun _ dp bg asg us nf lsp llf => br_t rfl (hp _ _ _ _ _ _ _ _ _)) (fun b R' h => by cases h))
  | cons b R ih =>
    intro acc r n dp bg asg us nf lsp llf chl ch hS hr hn hp
    obtain ⟨n, rfl⟩ := gx_S n (by omega)
    simp only [List.length_cons] at hr hn
    refine pk_le 20737 r (fun h => by omega) (fun _ => gx_nextNodes ht hio hC hS (fun h => by cases h) (fun b' R' h dp bg asg us nf lsp llf hS' hNd => br_f (by decide) ?_))
    injection h with h1 h2
    subst h1 h2
    refine gx_choicesFrom (pl := 0) (g := b) hnd (gx_E0_EC hE hNd) hmd (by omega) (gx_Nd_Gd ll hNd) (fun _ => gx_Nd_Ue hNd) (fun chl ch => ?_)
    refine nm_r (nI_add _ _) (nm_r (nI_1 r) (ih _ (r + 1) n dp bg asg us nf lsp llf chl ch hS' (by omega) (by omega) (fun dp bg asg us nf lsp llf chl ch => ?_)))
    have := hp dp bg asg us nf lsp llf chl ch
    rw [Nat.add_assoc]
    exact this
theorem gx_countAll {post : Int32 → SX → Prop} (ht : tot = (gp_us sp (fun _ => 50)).length) (hio : f_inOrder = 0 ↔ io = false)
    (hC : gx_SC w sp lk la lb cd cn md f_nodeSet a_modeOf a_spotSet a_linkSet a_linkFrom a_linkTo a_candidates a_behind a_before) (hmd : (a_modeOf w &&& 2) = 0 ↔ md2 = false) (hnd : ll.Nodup)
    (hE : gx_E0 w sp ll la lb al eth fr to a_linkFrom a_linkTo a_outgoing a_incoming a_allowed a_edgeLink)
    (hp : ∀ dp bg asg us nf lsp llf chl ch, post (nI (gp_fs (fun a b : Nat => a + b) 0 (fun b => (gp_Y (gp_ef al fr to md2 la lb) (gp_ps ll 0) b).length) (gp_L (gp_ft cd md lk la lb cn) (gp_pk io sp (gp_ft cd md lk la lb cn)) tot (fun _ => 50)))) (f_nodeSet, f_edgeSet, f_sortedCount, f_keptCount, nI w, f_inOrder, nI tot, dp, bg, asg, us, nI ll.length, a_labelOf, a_valueOf, a_fromOf, a_toOf, a_typeOf, a_weightOf, a_firstPage, a_pageUsed, a_pageNext, a_pageSize, a_pageEdge, a_labelled, a_sorted, a_modeOf, a_spotSet, a_spotLabels, a_spotLeast, a_spotGreatest, a_linkSet, a_linkFrom, a_linkTo, a_linkTypes, a_linkKind, a_outgoing, a_incoming, a_allowed, a_candidates, a_behind, a_before, nf, lsp, llf, a_edgeLink, chl, ch, a_pickedEdge)) :
    wpX_countAll post (f_nodeSet, f_edgeSet, f_sortedCount, f_keptCount, nI w, f_inOrder, nI tot, f_depth, 0, f_assigned, f_usedNodes, nI ll.length, a_labelOf, a_valueOf, a_fromOf, a_toOf, a_typeOf, a_weightOf, a_firstPage, a_pageUsed, a_pageNext, a_pageSize, a_pageEdge, a_labelled, a_sorted, a_modeOf, a_spotSet, a_spotLabels, a_spotLeast, a_spotGreatest, a_linkSet, a_linkFrom, a_linkTo, a_linkTypes, a_linkKind, a_outgoing, a_incoming, a_allowed, a_candidates, a_behind, a_before, a_nodeFor, a_levelSpot, a_levelLeft, a_edgeLink, a_choiceLeft, a_choice, a_pickedEdge) := by
  have ht4 : tot ≤ 4 := by rw [ht]; exact gb_fl_len _ _ _
  have hlen := gp_L_len (gp_ft cd md lk la lb cn) (gp_pk io sp (gp_ft cd md lk la lb cn)) tot (fun _ => 50)
  have h12 : 12 ^ tot ≤ 12 ^ 4 := Nat.pow_le_pow_right (by decide) ht4
  refine Exists.intro 20800 (gx_cnt4 ht hio hC hmd hnd hE _ 0 0 20800 _ _ _ _ _ _ _ _ _ (Or.inl ⟨rfl, rfl⟩) (by omega) (by omega) (fun dp bg asg us nf lsp llf chl ch => ?_))
  rw [Nat.zero_add]
  exact hp dp bg asg us nf lsp llf chl ch
end
/-! the list of all matches, in order -/
def gp_fa (fn fe : (Nat → Nat) → Nat → Nat → Bool) (g : Nat → Nat) (p c : Nat) : Bool := if p < 4 then fn g p c else fe g p c
def gp_ML (sp lk kd : Nat → Bool) (la lb : Nat → Nat) (cd : Nat → Nat → Bool) (cn : Nat → Nat → Nat → Bool) (md md2 : Bool) (al : Nat → Nat → Bool) (fr to : Nat → Nat) : List (Nat → Nat) :=
  gp_Y (gp_fa (gp_ft cd md (fun j => lk j && kd j) la lb cn) (gp_ef al fr to md2 la lb)) (gp_us sp (fun _ => 50) ++ gp_lp lk kd) (fun _ => 50)
section
variable {sp lk kd : Nat → Bool} {la lb : Nat → Nat} {cd : Nat → Nat → Bool} {cn : Nat → Nat → Nat → Bool} {md md2 : Bool} {al : Nat → Nat → Bool} {fr to : Nat → Nat}
theorem gp_ML_eq0 : gp_ML sp lk kd la lb cd cn md md2 al fr to = (gp_Y (gp_ft cd md (fun j => lk j && kd j) la lb cn) (gp_us sp (fun _ => 50)) (fun _ => 50)).flatMap (gp_Y (gp_ef al fr to md2 la lb) (gp_lp lk kd)) := by
  unfold gp_ML
  rw [gp_Y_app, gp_Y_c (ft' := gp_ft cd md (fun j => lk j && kd j) la lb cn) (gp_us sp (fun _ => 50))]
  · apply gp_fm_c
    intro g _
    apply gp_Y_c
    intro p hp g n _
    obtain ⟨j, rfl, _⟩ := gp_lp_m.mp hp
    exact if_neg (by omega)
  · intro p hp g n _
    exact if_pos (gp_us_m.mp hp).1
theorem gp_ML_eq (hl : ∀ j, j < 4 → lk j = true → la j < 4 ∧ lb j < 4) (hcn : ∀ j n m, j < 4 → lk j = true → kd j = false → cn j n m = false → ∀ e, e < 20 → al j e = true → fr e = n → to e = m → False) : gp_ML sp lk kd la lb cd cn md md2 al fr to = (gp_Y (gp_ft cd md lk la lb cn) (gp_us sp (fun _ => 50)) (fun _ => 50)).flatMap (gp_Y (gp_ef al fr to md2 la lb) (gp_lp lk kd)) := by
  rw [gp_ML_eq0]
  symm
  apply gp_prune
  · intro j h
    rw [Bool.and_eq_true] at h
    exact h.1
  · intro g j hj h1 h2 h3 h4 h5
    have hkd : kd j = false := by
      rw [h1, Bool.true_and] at h2; exact h2
    exact gp_ef_nil (j := j) (hl j hj h1).1 (hl j hj h1).2 _ g (fun p hp => by obtain ⟨j', rfl, _⟩ := gp_lp_m.mp hp; omega) (gp_lp_m.mpr ⟨j, rfl, hj, h1, hkd⟩) (fun e he a b c => hcn j _ _ hj h1 hkd h5 e he a b c)
  · exact gp_us_nd _ _
  · intro i hi
    have := gp_us_m.mp hi
    exact ⟨this.1, this.2.2⟩
theorem gp_ok0 (K : Nat → Bool) : gp_ok cd md K la lb cn (fun _ => 50) = true := by
  rw [gp_ok_iff]
  exact ⟨fun i _ h => absurd rfl h, fun _ i k _ _ _ h => absurd rfl h, fun j _ _ h => absurd rfl h⟩
/-- a fold over the component's list is a fold over the matches -/
theorem gp_fold {M : Type} {op : M → M → M} {z : M} (h : gp_CM op z) (val : (Nat → Nat) → M) (io : Bool) (hl : ∀ j, j < 4 → lk j = true → la j < 4 ∧ lb j < 4) (hcn : ∀ j n m, j < 4 → lk j = true → kd j = false → cn j n m = false → ∀ e, e < 20 → al j e = true → fr e = n → to e = m → False) :
    gp_fs op z (fun b => gp_fs op z val (gp_Y (gp_ef al fr to md2 la lb) (gp_lp lk kd) b)) (gp_L (gp_ft cd md lk la lb cn) (gp_pk io sp (gp_ft cd md lk la lb cn)) (gp_us sp (fun _ => 50)).length (fun _ => 50)) = gp_fs op z val (gp_ML sp lk kd la lb cd cn md md2 al fr to) := by
  rw [gp_L_Y h (gp_grow sp) (fun g hg => gp_pk_m g hg) _ (gp_ok0 lk), gp_ML_eq hl hcn, gp_fs_fm h]
theorem gp_count (io : Bool) (hl : ∀ j, j < 4 → lk j = true → la j < 4 ∧ lb j < 4) (hcn : ∀ j n m, j < 4 → lk j = true → kd j = false → cn j n m = false → ∀ e, e < 20 → al j e = true → fr e = n → to e = m → False) :
    gp_fs (fun a b : Nat => a + b) 0 (fun b => (gp_Y (gp_ef al fr to md2 la lb) (gp_lp lk kd) b).length) (gp_L (gp_ft cd md lk la lb cn) (gp_pk io sp (gp_ft cd md lk la lb cn)) (gp_us sp (fun _ => 50)).length (fun _ => 50)) = (gp_ML sp lk kd la lb cd cn md md2 al fr to).length := by
  rw [gp_len (gp_ML sp lk kd la lb cd cn md md2 al fr to), ← gp_fold gp_cmN (fun _ => 1) io hl hcn]
  exact gp_fs_c (fun b _ => gp_len _)
end
theorem gp_ps_lp (lk kd : Nat → Bool) : gp_ps (gb_fl (fun j => lk j && !(kd j)) 0 4) 0 = gp_lp lk kd := rfl
end
section
/-! weights -/
def gx_oI (b : Option Nat) : Int32 := match b with
  | none => -1
  | some n => nI n
theorem gp_bt_n (mx : Bool) (b : Option Nat) : gp_bt mx b none = b := by cases b <;> rfl
theorem gp_bt_idem (mx : Bool) (b : Option Nat) : gp_bt mx b b = b := by
  cases b with
  | none => rfl
  | some v => cases mx <;> simp [gp_bt]
theorem gp_bt_pick (mx : Bool) {a b : Option Nat} {v : Nat} (h : gp_bt mx a b = some v) : a = some v ∨ b = some v := by
  cases a with
  | none => exact Or.inr h
  | some x =>
    cases b with
    | none => exact Or.inl h
    | some y =>
      simp only [gp_bt, Option.some.injEq] at h
      cases mx
      · simp only [Bool.false_eq_true, if_false] at h
        split at h
        · exact Or.inr (by rw [h])
        · exact Or.inl (by rw [h])
      · simp only [if_true] at h
        split at h
        · exact Or.inr (by rw [h])
        · exact Or.inl (by rw [h])
theorem gp_bt_mem {α : Type} (mx : Bool) {f : α → Option Nat} {v : Nat} : ∀ {l : List α}, gp_fs (gp_bt mx) none f l = some v → ∃ a, a ∈ l ∧ f a = some v
  | [], h => by cases h
  | a :: l, h => by
    have h' : gp_bt mx (f a) (gp_fs (gp_bt mx) none f l) = some v := h
    rcases gp_bt_pick mx h' with z | z
    · exact ⟨a, List.mem_cons_self .., z⟩
    · obtain ⟨b, hb, e⟩ := gp_bt_mem mx z
      exact ⟨b, List.mem_cons_of_mem _ hb, e⟩
theorem gp_bt_some {α : Type} (mx : Bool) {f : α → Option Nat} {a : α} {l : List α} {u : Nat} (h : f a = some u) : ∃ v, gp_fs (gp_bt mx) none f (a :: l) = some v := by
  show ∃ v, gp_bt mx (f a) (gp_fs (gp_bt mx) none f l) = some v
  rw [h]
  cases gp_fs (gp_bt mx) none f l with
  | none => exact ⟨u, rfl⟩
  | some y => exact ⟨_, rfl⟩
theorem gp_bt_map (mx : Bool) (s a : Nat) (o : Option Nat) : gp_bt mx (some (s + a)) (o.map (fun x => s + x)) = (gp_bt mx (some a) o).map (fun x => s + x) := by
  cases o with
  | none => rfl
  | some b =>
    simp only [gp_bt, Option.map_some, Option.some.injEq]
    cases mx
    · simp only [Bool.false_eq_true, if_false]
      by_cases h : b < a
      · rw [if_pos h, if_pos (by omega)]
      · rw [if_neg h, if_neg (by omega)]
    · simp only [if_true]
      by_cases h : a < b
      · rw [if_pos h, if_pos (by omega)]
      · rw [if_neg h, if_neg (by omega)]
theorem gp_bt_add {α : Type} (mx : Bool) (s : Nat) (f : α → Nat) : ∀ l : List α, gp_fs (gp_bt mx) none (fun e => some (s + f e)) l = (gp_fs (gp_bt mx) none (fun e => some (f e)) l).map (fun x => s + x)
  | [] => rfl
  | a :: l => by
    show gp_bt mx (some (s + f a)) (gp_fs (gp_bt mx) none (fun e => some (s + f e)) l) = (gp_bt mx (some (f a)) (gp_fs (gp_bt mx) none (fun e => some (f e)) l)).map (fun x => s + x)
    rw [gp_bt_add mx s f l, gp_bt_map]
def gp_wt (wt : Nat → Nat) (ll : List Nat) (g : Nat → Nat) : Nat := gp_fs (fun a b : Nat => a + b) 0 (fun j => wt (g (4 + j))) ll
theorem gp_wt_le {wt : Nat → Nat} (h : ∀ e, wt e ≤ 20) (ll : List Nat) (g : Nat → Nat) : gp_wt wt ll g ≤ ll.length * 20 := gp_fs_le (fun j _ => h _)
theorem gp_wt_s {wt : Nat → Nat} {ll : List Nat} {g : Nat → Nat} {k j e : Nat} (hnd : ll.Nodup) (hj : ll[k]? = some j) : gp_wt wt (ll.take (k + 1)) (gp_st g (4 + j) e) = gp_wt wt (ll.take k) g + wt e := by
  unfold gp_wt
  rw [List.take_succ, hj]
  rw [gp_fs_app gp_cmN]
  have e1 : gp_fs (fun a b : Nat => a + b) 0 (fun j' => wt (gp_st g (4 + j) e (4 + j'))) (ll.take k) = gp_fs (fun a b : Nat => a + b) 0 (fun j' => wt (g (4 + j'))) (ll.take k) := by
    apply gp_fs_c
    intro x hx
    rw [gp_st_n]
    intro z
    have : x = j := by omega
    subst this
    obtain ⟨i, hi⟩ := List.mem_iff_getElem?.mp hx
    have hi2 : i < k := by
      rcases Nat.lt_or_ge i k with h | h
      · exact h
      · rw [List.getElem?_take, if_neg (by omega)] at hi; cases hi
    rw [List.getElem?_take, if_pos hi2] at hi
    have := gx_len_nd hnd hi hj
    omega
  rw [e1]
  show _ + gp_fs _ 0 _ [j] = _
  show _ + (wt (gp_st g (4 + j) e (4 + j)) + 0) = _
  rw [gp_st_s, Nat.add_zero]
section
variable {f_nodeSet f_edgeSet f_sortedCount f_keptCount f_which f_inOrder f_total f_depth f_begun f_assigned f_usedNodes f_edgeLinks : Int32} {a_labelOf a_valueOf a_fromOf a_toOf a_typeOf a_weightOf a_firstPage a_pageUsed a_pageNext a_pageSize a_pageEdge a_labelled a_sorted a_modeOf a_spotSet a_spotLabels a_spotLeast a_spotGreatest a_linkSet a_linkFrom a_linkTo a_linkTypes a_linkKind a_outgoing a_incoming a_allowed a_candidates a_behind a_before a_nodeFor a_levelSpot a_levelLeft a_edgeLink a_choiceLeft a_choice a_pickedEdge : Nat → Int32}
theorem gx_ext16 {post : Int32 → Prop} {x2 : Int32} {mx : Bool} {wt : Nat → Nat} (hx2 : x2 = 0 ↔ mx = false) (hw : ∀ e, e < 20 → a_weightOf e = nI (wt e)) (hwb : ∀ e, wt e ≤ 20) : ∀ (l : List Nat) (b0 : Nat) (x5 : Int32) (n : Nat), gb_bl x5 = l → (∀ e, e ∈ l → e < 20) → l.length < n → b0 < 1000 → (∀ v, gp_bt mx (some b0) (gp_fs (gp_bt mx) none (fun e => some (wt e)) l) = some v → post (nI v)) → wX_extreme_16 post x2 f_nodeSet f_edgeSet f_sortedCount f_keptCount f_which f_inOrder f_total f_depth f_begun f_assigned f_usedNodes f_edgeLinks a_labelOf a_valueOf a_fromOf a_toOf a_typeOf a_weightOf a_firstPage a_pageUsed a_pageNext a_pageSize a_pageEdge a_labelled a_sorted a_modeOf a_spotSet a_spotLabels a_spotLeast a_spotGreatest a_linkSet a_linkFrom a_linkTo a_linkTypes a_linkKind a_outgoing a_incoming a_allowed a_candidates a_behind a_before a_nodeFor a_levelSpot a_levelLeft a_edgeLink a_choiceLeft a_choice a_pickedEdge n (nI b0) x5 := by
  intro l
  induction l with
  | nil =>
    intro b0 x5 n hl _ hn _ hp
    obtain ⟨n, rfl⟩ := gx_S n (by omega)
    exact br_t (gb_bl_0 hl) (hp b0 rfl)
  | cons e l ih =>
    intro b0 x5 n hl he hn hb hp
    obtain ⟨n, rfl⟩ := gx_S n (by omega)
    have he20 := he e (List.mem_cons_self ..)
    have hwe := hwb e
    refine br_f (gb_bl_n hl) (gb_low hl (And.intro (vp_in_nI he20 (by omega)) ?_))
    rw [nI_clamp (n := e) (by omega), hw e he20]
    have next : ∀ b1, gp_bt mx (some b0) (some (wt e)) = some b1 → b1 < 1000 → wX_extreme_16 post x2 f_nodeSet f_edgeSet f_sortedCount f_keptCount f_which f_inOrder f_total f_depth f_begun f_assigned f_usedNodes f_edgeLinks a_labelOf a_valueOf a_fromOf a_toOf a_typeOf a_weightOf a_firstPage a_pageUsed a_pageNext a_pageSize a_pageEdge a_labelled a_sorted a_modeOf a_spotSet a_spotLabels a_spotLeast a_spotGreatest a_linkSet a_linkFrom a_linkTo a_linkTypes a_linkKind a_outgoing a_incoming a_allowed a_candidates a_behind a_before a_nodeFor a_levelSpot a_levelLeft a_edgeLink a_choiceLeft a_choice a_pickedEdge n (nI b1) (x5 &&& (x5 - 1)) := by
      intro b1 h1 h2
      refine ih b1 _ n (gb_rst hl) (fun a ha => he a (List.mem_cons_of_mem _ ha)) (by simp at hn; omega) h2 (fun v hv => hp v ?_)
      show gp_bt mx (some b0) (gp_bt mx (some (wt e)) _) = _
      rw [← (gp_bt_cm mx).2.1, h1]
      exact hv
    refine nm_e (br_c (fun z => ?_) (fun z => ?_))
    · have hm := hx2.mp z
      refine pk_le b0 (wt e) (fun h => ?_) (fun h => ?_)
      · exact br_t rfl (nm_e (next b0 (by rw [hm]; simp [gp_bt]; omega) hb))
      · exact br_f (by decide) (nm_e (next (wt e) (by rw [hm]; simp [gp_bt]; omega) (by omega)))
    · have hm : mx = true := by
        cases h : mx
        · exact absurd (hx2.mpr h) z
        · rfl
      refine pk_le (wt e) b0 (fun h => ?_) (fun h => ?_)
      · exact br_t rfl (nm_e (next b0 (by rw [hm]; simp [gp_bt]; omega) hb))
      · exact br_f (by decide) (nm_e (next (wt e) (by rw [hm]; simp [gp_bt]; omega) (by omega)))
theorem gx_extreme {post : Int32 → Prop} {x1 x2 : Int32} {mx : Bool} {wt : Nat → Nat} {e : Nat} {l : List Nat} (hx2 : x2 = 0 ↔ mx = false) (hw : ∀ e, e < 20 → a_weightOf e = nI (wt e)) (hwb : ∀ e, wt e ≤ 20) (hl : gb_bl x1 = e :: l) (he : ∀ a, a ∈ e :: l → a < 20) (hp : ∀ v, gp_fs (gp_bt mx) none (fun e => some (wt e)) (e :: l) = some v → post (nI v)) : wpX_extreme post (f_nodeSet, f_edgeSet, f_sortedCount, f_keptCount, f_which, f_inOrder, f_total, f_depth, f_begun, f_assigned, f_usedNodes, f_edgeLinks, a_labelOf, a_valueOf, a_fromOf, a_toOf, a_typeOf, a_weightOf, a_firstPage, a_pageUsed, a_pageNext, a_pageSize, a_pageEdge, a_labelled, a_sorted, a_modeOf, a_spotSet, a_spotLabels, a_spotLeast, a_spotGreatest, a_linkSet, a_linkFrom, a_linkTo, a_linkTypes, a_linkKind, a_outgoing, a_incoming, a_allowed, a_candidates, a_behind, a_before, a_nodeFor, a_levelSpot, a_levelLeft, a_edgeLink, a_choiceLeft, a_choice, a_pickedEdge) x1 x2 := by
  have he20 := he e (List.mem_cons_self ..)
  have hwe := hwb e
  refine gb_low hl (And.intro (vp_in_nI he20 (by omega)) ?_)
  rw [nI_clamp (n := e) (by omega), hw e he20]
  refine nm_e (Exists.intro ((e :: l).length + 1) (gx_ext16 hx2 hw hwb (e :: l) (wt e) x1 _ hl he (by omega) (by omega) (fun v hv => hp v ?_)))
  rw [← hv]
  show gp_bt mx (some (wt e)) _ = gp_bt mx (some (wt e)) (gp_bt mx (some (wt e)) _)
  rw [← (gp_bt_cm mx).2.1, gp_bt_idem]
end
/-- the taken edges and the sum at a level -/
def gx_Tw (wt : Nat → Nat) (T : Int32) (s : Nat) (x3 x4 c : Int32) : Prop := (c < 0 ∧ x3 = T ∧ x4 = nI s) ∨ (∃ e, e < 20 ∧ c = nI e ∧ x3 &&& (((1 : Int32) <<< (nI e &&& 31)) ^^^ (-1)) = T ∧ x4 = nI (s + wt e))
section
variable {f_nodeSet f_edgeSet f_sortedCount f_keptCount f_which f_inOrder f_total f_depth f_begun f_assigned f_usedNodes f_edgeLinks : Int32} {a_labelOf a_valueOf a_fromOf a_toOf a_typeOf a_weightOf a_firstPage a_pageUsed a_pageNext a_pageSize a_pageEdge a_labelled a_sorted a_modeOf a_spotSet a_spotLabels a_spotLeast a_spotGreatest a_linkSet a_linkFrom a_linkTo a_linkTypes a_linkKind a_outgoing a_incoming a_allowed a_candidates a_behind a_before a_nodeFor a_levelSpot a_levelLeft a_edgeLink a_choiceLeft a_choice a_pickedEdge : Nat → Int32}
variable {w : Nat} {ll : List Nat} {la lb : Nat → Nat} {al : Nat → Nat → Bool} {eth : Nat → Bool} {fr to a wt : Nat → Nat} {mx : Bool} {x1 : Int32}
theorem gx_wdh {post : Int32 → SX → Prop} {k n r s : Nat} {x2 x3 x4 T : Int32} (hk : k < 4) (hr : r < 20000) (hs : s < 1000) (hw : ∀ e, e < 20 → a_weightOf e = nI (wt e)) (hT : gx_Tw wt T s x3 x4 (a_choice k))
    (h98 : ∀ ch, (∀ i, i ≠ k → ch i = a_choice i) → wX_weighDifferent_98 post (wX_weighDifferent_36 post x1 f_nodeSet f_edgeSet f_sortedCount f_keptCount f_which f_inOrder f_total f_depth f_begun f_assigned f_usedNodes f_edgeLinks n) x1 x2 T (nI s) (nI k) (nI r) f_nodeSet f_edgeSet f_sortedCount f_keptCount f_which f_inOrder f_total f_depth f_begun f_assigned f_usedNodes f_edgeLinks a_labelOf a_valueOf a_fromOf a_toOf a_typeOf a_weightOf a_firstPage a_pageUsed a_pageNext a_pageSize a_pageEdge a_labelled a_sorted a_modeOf a_spotSet a_spotLabels a_spotLeast a_spotGreatest a_linkSet a_linkFrom a_linkTo a_linkTypes a_linkKind a_outgoing a_incoming a_allowed a_candidates a_behind a_before a_nodeFor a_levelSpot a_levelLeft a_edgeLink a_choiceLeft ch a_pickedEdge) : wX_weighDifferent_36 post x1 f_nodeSet f_edgeSet f_sortedCount f_keptCount f_which f_inOrder f_total f_depth f_begun f_assigned f_usedNodes f_edgeLinks (n + 1) x2 x3 x4 (nI k) (nI r) a_labelOf a_valueOf a_fromOf a_toOf a_typeOf a_weightOf a_firstPage a_pageUsed a_pageNext a_pageSize a_pageEdge a_labelled a_sorted a_modeOf a_spotSet a_spotLabels a_spotLeast a_spotGreatest a_linkSet a_linkFrom a_linkTo a_linkTypes a_linkKind a_outgoing a_incoming a_allowed a_candidates a_behind a_before a_nodeFor a_levelSpot a_levelLeft a_edgeLink a_choiceLeft a_choice a_pickedEdge := by
  refine pk_le 20000 r (fun h => by omega) (fun _ => br_f (nI_pos (by omega)) (And.intro (vp_in_nI hk (by omega)) ?_))
  rw [nI_clamp (n := k) (by omega)]
  rcases hT with ⟨t1, t2, t3⟩ | ⟨e, e1, e2, e3, e4⟩
  · rw [t2, t3]
    exact br_t t1 (h98 a_choice (fun i _ => rfl))
  · rw [e2, e4]
    have hin : vp_in (nI k) 4 := vp_in_nI hk (by omega)
    refine br_f (nI_pos (by omega)) (And.intro hin (nm_r e3 (And.intro hin (And.intro (vp_in_nI e1 (by omega)) ?_))))
    rw [nI_clamp (n := e) (by omega), hw e e1]
    have e5 : nI (s + wt e) - nI (wt e) = nI s := by rw [pk_sub (by omega), Nat.add_sub_cancel]
    refine nm_r e5 (And.intro hin (nm_e (h98 _ (fun i hi => pk_un hi))))
theorem gx_wd {post : Int32 → SX → Prop} (hx1 : x1 = 0 ↔ mx = false) (hw : ∀ e, e < 20 → a_weightOf e = nI (wt e)) (hwb : ∀ e, wt e ≤ 20) (hnd : ll.Nodup) (hE : gx_EC w ll la lb al eth fr to a a_linkFrom a_linkTo a_nodeFor a_outgoing a_incoming a_allowed a_edgeLink) :
    ∀ (m k j : Nat), k + m + 1 = ll.length → ll[k]? = some j → ∀ (cs : List Nat) (g : Nat → Nat), (∀ e, e ∈ cs → e < 20 ∧ ∀ i, i < 4 → g (4 + i) ≠ e) → gx_Gd a g ll k →
    ∃ c : Nat, c ≤ gx_Cb m cs.length ∧ ∀ T, gx_Ue g T → ∀ (x3 x4 : Int32) (chl ch : Nat → Int32), gb_bl (chl k) = cs → gx_Tw wt T (gp_wt wt (ll.take k) g) x3 x4 (ch k) → ∀ (b : Option Nat) (n r : Nat), (∀ v, b = some v → v < 1000) → r + c ≤ 20000 →
    (∀ chl' ch', (∀ i, i < k → chl' i = chl i ∧ ch' i = ch i) → wX_weighDifferent_36 post x1 f_nodeSet f_edgeSet f_sortedCount f_keptCount (nI w) f_inOrder f_total f_depth f_begun f_assigned f_usedNodes (nI ll.length) n (gx_oI (gp_bt mx b (gp_fs (gp_bt mx) none (fun e => gp_fs (gp_bt mx) none (fun g' => some (gp_wt wt ll g')) (gp_Y (gp_ef al fr to true la lb) (gp_ps ll (k + 1)) (gp_st g (4 + j) e))) cs))) T (nI (gp_wt wt (ll.take k) g)) (nI k + (-1)) (nI (r + c)) a_labelOf a_valueOf a_fromOf a_toOf a_typeOf a_weightOf a_firstPage a_pageUsed a_pageNext a_pageSize a_pageEdge a_labelled a_sorted a_modeOf a_spotSet a_spotLabels a_spotLeast a_spotGreatest a_linkSet a_linkFrom a_linkTo a_linkTypes a_linkKind a_outgoing a_incoming a_allowed a_candidates a_behind a_before a_nodeFor a_levelSpot a_levelLeft a_edgeLink chl' ch' a_pickedEdge) →
    wX_weighDifferent_36 post x1 f_nodeSet f_edgeSet f_sortedCount f_keptCount (nI w) f_inOrder f_total f_depth f_begun f_assigned f_usedNodes (nI ll.length) (n + c) (gx_oI b) x3 x4 (nI k) (nI r) a_labelOf a_valueOf a_fromOf a_toOf a_typeOf a_weightOf a_firstPage a_pageUsed a_pageNext a_pageSize a_pageEdge a_labelled a_sorted a_modeOf a_spotSet a_spotLabels a_spotLeast a_spotGreatest a_linkSet a_linkFrom a_linkTo a_linkTypes a_linkKind a_outgoing a_incoming a_allowed a_candidates a_behind a_before a_nodeFor a_levelSpot a_levelLeft a_edgeLink chl ch a_pickedEdge := by
  have h4 := hE.2.1
  have hsb : ∀ k g, gp_wt wt (ll.take k) g ≤ 80 := by
    intro k g
    have h1 := gp_wt_le hwb (ll.take k) g
    have h2 := List.length_take_le' k ll
    omega
  intro m
  induction m with
  | zero =>
    intro k j hk hj cs g hcs hGd
    refine ⟨1, Nat.le_refl _, fun T hU x3 x4 chl ch hbl hT b n r hb hr hK => gx_wdh (by omega) (by omega) (by have := hsb k g; omega) hw hT (fun ch' hch => ?_)⟩
    have hq : nI k = nI ll.length - 1 := by rw [show ll.length = k + 1 from by omega, nI_pred]
    have hin : vp_in (nI k) 4 := vp_in_nI (by omega) (by omega)
    have hS : gp_fs (gp_bt mx) none (fun e => gp_fs (gp_bt mx) none (fun g' => some (gp_wt wt ll g')) (gp_Y (gp_ef al fr to true la lb) (gp_ps ll (k + 1)) (gp_st g (4 + j) e))) cs = (gp_fs (gp_bt mx) none (fun e => some (wt e)) cs).map (fun x => gp_wt wt (ll.take k) g + x) := by
      rw [← gp_bt_add, gp_ps_e (by omega)]
      apply gp_fs_c
      intro e _
      show gp_bt mx (some (gp_wt wt ll (gp_st g (4 + j) e))) none = _
      rw [gp_bt_n]
      have : ll = ll.take (k + 1) := (List.take_of_length_le (by omega)).symm
      have e2 := gp_wt_s (wt := wt) (g := g) (e := e) hnd hj
      rw [← this] at e2
      rw [e2]
    rw [hS] at hK
    -- what comes behind the last level
    have last : ∀ b', b' = gp_bt mx b ((gp_fs (gp_bt mx) none (fun e => some (wt e)) cs).map (fun x => gp_wt wt (ll.take k) g + x)) → wX_weighDifferent_190 post (wX_weighDifferent_36 post x1 f_nodeSet f_edgeSet f_sortedCount f_keptCount (nI w) f_inOrder f_total f_depth f_begun f_assigned f_usedNodes (nI ll.length) n) x1 (gx_oI b') T (nI (gp_wt wt (ll.take k) g)) (nI k) (nI r) 1 f_nodeSet f_edgeSet f_sortedCount f_keptCount (nI w) f_inOrder f_total f_depth f_begun f_assigned f_usedNodes (nI ll.length) a_labelOf a_valueOf a_fromOf a_toOf a_typeOf a_weightOf a_firstPage a_pageUsed a_pageNext a_pageSize a_pageEdge a_labelled a_sorted a_modeOf a_spotSet a_spotLabels a_spotLeast a_spotGreatest a_linkSet a_linkFrom a_linkTo a_linkTypes a_linkKind a_outgoing a_incoming a_allowed a_candidates a_behind a_before a_nodeFor a_levelSpot a_levelLeft a_edgeLink chl ch' a_pickedEdge := by
      intro b' hb'
      refine br_f (by decide) (nm_e (nm_r (nI_1 r) ?_))
      rw [hb']
      exact hK chl ch' (fun i hi => ⟨rfl, hch i (by omega)⟩)
    refine br_t hq (br_f (by decide) (And.intro hin ?_))
    rw [nI_clamp (n := k) (by omega)]
    cases cs with
    | nil =>
      exact br_t (gb_bl_0 hbl) (last b (by show b = gp_bt mx b none; rw [gp_bt_n]))
    | cons e cs =>
      refine br_f (gb_bl_n hbl) (And.intro hin (gx_extreme hx1 hw hwb hbl (fun x hx => (hcs x hx).1) (fun v hv => nm_r (nI_add _ _) ?_)))
      rw [hv] at last
      have hv20 : v ≤ 20 := by
        obtain ⟨x, _, hx⟩ := gp_bt_mem mx hv
        injection hx with hx
        rw [← hx]; exact hwb x
      have hsk := hsb k g
      cases b with
      | none =>
        exact br_t gx_neg1 (br_f (by decide) (last _ rfl))
      | some bv =>
        have hbv := hb bv rfl
        have take : gp_bt mx (some bv) (some (gp_wt wt (ll.take k) g + v)) = some (gp_wt wt (ll.take k) g + v) → wX_weighDifferent_171 post (wX_weighDifferent_36 post x1 f_nodeSet f_edgeSet f_sortedCount f_keptCount (nI w) f_inOrder f_total f_depth f_begun f_assigned f_usedNodes (nI ll.length) n) x1 (nI bv) T (nI (gp_wt wt (ll.take k) g)) (nI k) (nI r) 1 (nI (gp_wt wt (ll.take k) g + v)) f_nodeSet f_edgeSet f_sortedCount f_keptCount (nI w) f_inOrder f_total f_depth f_begun f_assigned f_usedNodes (nI ll.length) a_labelOf a_valueOf a_fromOf a_toOf a_typeOf a_weightOf a_firstPage a_pageUsed a_pageNext a_pageSize a_pageEdge a_labelled a_sorted a_modeOf a_spotSet a_spotLabels a_spotLeast a_spotGreatest a_linkSet a_linkFrom a_linkTo a_linkTypes a_linkKind a_outgoing a_incoming a_allowed a_candidates a_behind a_before a_nodeFor a_levelSpot a_levelLeft a_edgeLink chl ch' a_pickedEdge := fun h => br_f (by decide) (last _ h.symm)
        have keep : gp_bt mx (some bv) (some (gp_wt wt (ll.take k) g + v)) = some bv → wX_weighDifferent_175 post (wX_weighDifferent_36 post x1 f_nodeSet f_edgeSet f_sortedCount f_keptCount (nI w) f_inOrder f_total f_depth f_begun f_assigned f_usedNodes (nI ll.length) n) x1 (nI bv) T (nI (gp_wt wt (ll.take k) g)) (nI k) (nI r) 1 (nI (gp_wt wt (ll.take k) g + v)) f_nodeSet f_edgeSet f_sortedCount f_keptCount (nI w) f_inOrder f_total f_depth f_begun f_assigned f_usedNodes (nI ll.length) a_labelOf a_valueOf a_fromOf a_toOf a_typeOf a_weightOf a_firstPage a_pageUsed a_pageNext a_pageSize a_pageEdge a_labelled a_sorted a_modeOf a_spotSet a_spotLabels a_spotLeast a_spotGreatest a_linkSet a_linkFrom a_linkTo a_linkTypes a_linkKind a_outgoing a_incoming a_allowed a_candidates a_behind a_before a_nodeFor a_levelSpot a_levelLeft a_edgeLink chl ch' a_pickedEdge := fun h => br_t rfl (last _ h.symm)
        refine br_f (nI_pos (by omega)) (br_c (fun z => ?_) (fun z => ?_))
        · have hm := hx1.mp z
          refine pk_le bv (gp_wt wt (ll.take k) g + v) (fun h => keep ?_) (fun h => take ?_)
          · rw [hm]; simp only [gp_bt, Bool.false_eq_true, if_false]; rw [if_neg (by omega)]
          · rw [hm]; simp only [gp_bt, Bool.false_eq_true, if_false]; rw [if_pos (by omega)]
        · have hm : mx = true := by
            cases h : mx
            · exact absurd (hx1.mpr h) z
            · rfl
          refine pk_le (gp_wt wt (ll.take k) g + v) bv (fun h => keep ?_) (fun h => take ?_)
          · rw [hm]; simp only [gp_bt, if_true]; rw [if_neg (by omega)]
          · rw [hm]; simp only [gp_bt, if_true]; rw [if_pos (by omega)]
  | succ m ihm =>
    intro k j hk hj cs g
    obtain ⟨j2, hj2⟩ : ∃ j, ll[k + 1]? = some j := ⟨_, List.getElem?_eq_getElem (by omega)⟩
    have hq : ¬ nI k = nI ll.length - 1 := by
      rw [show ll.length = (k + m + 1) + 1 from by omega, nI_pred, nI_eq (by omega) (by omega)]
      omega
    obtain ⟨_, j4, _⟩ := hE.2.2.2.2.2 k j hj
    obtain ⟨el2, j24, _⟩ := hE.2.2.2.2.2 (k + 1) j2 hj2
    have hin : vp_in (nI k) 4 := vp_in_nI (by omega) (by omega)
    have hin1 : vp_in (nI (k + 1)) 4 := vp_in_nI (by omega) (by omega)
    induction cs with
    | nil =>
      intro hcs hGd
      refine ⟨1, gx_Cb_1 _ _, fun T hU x3 x4 chl ch hbl hT b n r hb hr hK => gx_wdh (by omega) (by omega) (by have := hsb k g; omega) hw hT (fun ch' hch => ?_)⟩
      refine br_f hq (br_t rfl (br_t rfl (And.intro hin ?_)))
      rw [nI_clamp (n := k) (by omega)]
      refine br_t (gb_bl_0 hbl) (nm_e (nm_r (nI_1 r) ?_))
      have := hK chl ch' (fun i hi => ⟨rfl, hch i (by omega)⟩)
      rw [show gp_fs (gp_bt mx) none (fun e => gp_fs (gp_bt mx) none (fun g' => some (gp_wt wt ll g')) (gp_Y (gp_ef al fr to true la lb) (gp_ps ll (k + 1)) (gp_st g (4 + j) e))) [] = none from rfl, gp_bt_n] at this
      exact this
    | cons e cs ihc =>
      intro hcs hGd
      obtain ⟨he20, heg⟩ := hcs e (List.mem_cons_self ..)
      have hgj : g (4 + j) = 50 := hGd.2.1 _ (gp_ps_m.mpr ⟨k, j, Nat.le_refl _, hj, rfl⟩)
      have hGd' := gx_Gd_s hnd hGd hj he20
      obtain ⟨c1, hc1, H1⟩ := ihm (k + 1) j2 (by omega) hj2 (gb_fl (gp_ef al fr to true la lb (gp_st g (4 + j) e) (4 + j2)) 0 20) (gp_st g (4 + j) e) (fun x hx => ⟨by have := gb_fl_m.mp hx; omega, (gp_ef_iff.mp (gb_fl_m.mp hx).2.2).2.2.2 rfl⟩) hGd'
      obtain ⟨c2, hc2, H2⟩ := ihc (fun x hx => hcs x (List.mem_cons_of_mem _ hx)) hGd
      have hlen := gb_fl_len (gp_ef al fr to true la lb (gp_st g (4 + j) e) (4 + j2)) 20 0
      refine ⟨1 + c1 + c2, ?_, fun T hU x3 x4 chl ch hbl hT b n r hb hr hK => ?_⟩
      · rw [List.length_cons, gx_Cb_s]
        have := gx_Cb_mono m hlen
        omega
      · have hTe : bt T e = false := by
          rw [hU e (by omega)]
          cases hc : gb_an (fun j => decide (g (4 + j) = e)) 0 4
          · rfl
          · obtain ⟨t, t1, t2, t3⟩ := gb_an_iff.mp hc
            exact absurd (by simpa using t3) (heg t (by omega))
        have hU' := gx_Ue_s hU j4 he20 hgj
        have en : n + (1 + c1 + c2) = (n + c2 + c1) + 1 := by omega
        rw [en]
        refine gx_wdh (by omega) (by omega) (by have := hsb k g; omega) hw hT (fun ch' hch => ?_)
        refine br_f hq (br_t rfl (br_t rfl (And.intro hin ?_)))
        rw [nI_clamp (n := k) (by omega)]
        refine br_f (gb_bl_n hbl) (And.intro hin (gb_low hbl (And.intro hin (And.intro hin (nm_e (And.intro hin ?_))))))
        rw [gx_byte4 (by omega), nI_clamp (n := e) (by omega), hw e he20]
        have es := gp_wt_s (wt := wt) (g := g) (e := e) hnd hj
        refine nm_e (nm_e (And.intro (vp_in_nI he20 (by omega)) (nm_r (e' := nI (gp_wt wt (ll.take (k + 1)) (gp_st g (4 + j) e))) (by rw [nI_add, es]) (nm_r (nI_1 k) (And.intro hin1 ?_)))))
        rw [nI_clamp (n := k + 1) (by omega), el2, gx_vm1]
        refine gx_edgesFor hE hj2 (And.intro hin1 (nm_e (And.intro hin1 (nm_e (nm_r (nI_1 r) ?_)))))
        refine H1 _ hU' _ _ _ _ (by rw [pk_us]; exact gx_ed_blT hE hj2 hGd'.1 hU') (Or.inl ⟨by rw [pk_us]; decide, rfl, rfl⟩) b (n + c2) (r + 1) hb (by omega) (fun chl' ch2 hag => ?_)
        have a1 := (hag k (by omega)).1
        have a2 := (hag k (by omega)).2
        rw [pk_un (by omega), pk_us] at a1
        rw [pk_un (by omega), pk_us] at a2
        rw [pk_m1]
        have hS : gp_fs (gp_bt mx) none (fun e' => gp_fs (gp_bt mx) none (fun g' => some (gp_wt wt ll g')) (gp_Y (gp_ef al fr to true la lb) (gp_ps ll (k + 1 + 1)) (gp_st (gp_st g (4 + j) e) (4 + j2) e'))) (gb_fl (gp_ef al fr to true la lb (gp_st g (4 + j) e) (4 + j2)) 0 20) = gp_fs (gp_bt mx) none (fun g' => some (gp_wt wt ll g')) (gp_Y (gp_ef al fr to true la lb) (gp_ps ll (k + 1)) (gp_st g (4 + j) e)) := by
          rw [gp_ps_c hj2]
          show _ = gp_fs (gp_bt mx) none (fun g' => some (gp_wt wt ll g')) ((gb_fl (gp_ef al fr to true la lb (gp_st g (4 + j) e) (4 + j2)) 0 (gp_lim (4 + j2))).flatMap (fun n => gp_Y (gp_ef al fr to true la lb) (gp_ps ll (k + 1 + 1)) (gp_st (gp_st g (4 + j) e) (4 + j2) n)))
          rw [show gp_lim (4 + j2) = 20 from if_neg (by omega), gp_fs_fm (gp_bt_cm mx)]
        rw [hS]
        refine H2 T hU _ _ chl' ch2 (by rw [a1]; exact gb_clr hbl) (Or.inr ⟨e, he20, by rw [a2], ?_, by rw [es]⟩) _ n (r + 1 + c1) (fun v hv => ?_) (by omega) (fun chl2 ch3 hag2 => ?_)
        · apply b_ext
          intro i hi
          rw [b_and, b_or, gb_not hi, gb_one (by omega)]
          by_cases z : i = e
          · subst z; rw [hTe]; simp
          · simp [z]
        · rcases gp_bt_pick mx hv with z | z
          · exact hb v z
          · obtain ⟨g', _, hg'⟩ := gp_bt_mem mx z
            injection hg' with hg'
            have := gp_wt_le hwb ll g'
            omega
        · have e3 : r + 1 + c1 + c2 = r + (1 + c1 + c2) := by omega
          rw [e3, (gp_bt_cm mx).2.1]
          refine hK chl2 ch3 (fun i hi => ?_)
          have b1 := hag2 i hi
          have b2 := hag i (by omega)
          rw [b1.1, b1.2, b2.1, b2.2, pk_un (by omega), pk_un (by omega), pk_un (by omega), pk_un (by omega)]
          exact ⟨rfl, hch i (by omega)⟩
theorem gx_weighDiff {post : Int32 → SX → Prop} (hx1 : x1 = 0 ↔ mx = false) (hw : ∀ e, e < 20 → a_weightOf e = nI (wt e)) (hwb : ∀ e, wt e ≤ 20) (hnd : ll.Nodup) (hE : gx_EC w ll la lb al eth fr to a a_linkFrom a_linkTo a_nodeFor a_outgoing a_incoming a_allowed a_edgeLink) (hlen : 0 < ll.length) (hGd : gx_Gd a a ll 0) (hU : gx_Ue a 0)
    (hp : ∀ chl ch, post (gx_oI (gp_fs (gp_bt mx) none (fun g' => some (gp_wt wt ll g')) (gp_Y (gp_ef al fr to true la lb) (gp_ps ll 0) a))) (f_nodeSet, f_edgeSet, f_sortedCount, f_keptCount, nI w, f_inOrder, f_total, f_depth, f_begun, f_assigned, f_usedNodes, nI ll.length, a_labelOf, a_valueOf, a_fromOf, a_toOf, a_typeOf, a_weightOf, a_firstPage, a_pageUsed, a_pageNext, a_pageSize, a_pageEdge, a_labelled, a_sorted, a_modeOf, a_spotSet, a_spotLabels, a_spotLeast, a_spotGreatest, a_linkSet, a_linkFrom, a_linkTo, a_linkTypes, a_linkKind, a_outgoing, a_incoming, a_allowed, a_candidates, a_behind, a_before, a_nodeFor, a_levelSpot, a_levelLeft, a_edgeLink, chl, ch, a_pickedEdge)) : wpX_weighDifferent post (f_nodeSet, f_edgeSet, f_sortedCount, f_keptCount, nI w, f_inOrder, f_total, f_depth, f_begun, f_assigned, f_usedNodes, nI ll.length, a_labelOf, a_valueOf, a_fromOf, a_toOf, a_typeOf, a_weightOf, a_firstPage, a_pageUsed, a_pageNext, a_pageSize, a_pageEdge, a_labelled, a_sorted, a_modeOf, a_spotSet, a_spotLabels, a_spotLeast, a_spotGreatest, a_linkSet, a_linkFrom, a_linkTo, a_linkTypes, a_linkKind, a_outgoing, a_incoming, a_allowed, a_candidates, a_behind, a_before, a_nodeFor, a_levelSpot, a_levelLeft, a_edgeLink, a_choiceLeft, a_choice, a_pickedEdge) x1 := by
  have h4 := hE.2.1
  obtain ⟨j, hj⟩ : ∃ j, ll[0]? = some j := ⟨_, List.getElem?_eq_getElem hlen⟩
  obtain ⟨el, j4, _⟩ := hE.2.2.2.2.2 0 j hj
  obtain ⟨c, hc, H⟩ := gx_wd (post := post) (mx := mx) (x1 := x1) hx1 hw hwb hnd hE (ll.length - 1) 0 j (by omega) hj (gb_fl (gp_ef al fr to true la lb a (4 + j)) 0 20) a (fun x hx => ⟨by have := gb_fl_m.mp hx; omega, (gp_ef_iff.mp (gb_fl_m.mp hx).2.2).2.2.2 rfl⟩) hGd
  have hlen2 := gb_fl_len (gp_ef al fr to true la lb a (4 + j)) 20 0
  have hc2 : c ≤ 16841 := Nat.le_trans hc (Nat.le_trans (gx_Cb_mono _ hlen2) (gx_Cb_top (by omega)))
  have e0 : wpX_edgesFor (fun r_1 => ∀ a_choiceLeft_51 : Nat → Int32, a_choiceLeft_51 = upd a_choiceLeft 0 r_1 → ∀ a_choice_53 : Nat → Int32, a_choice_53 = upd a_choice 0 (vp_nar .byte (-1)) → ∃ n36 : Nat, wX_weighDifferent_36 post x1 f_nodeSet f_edgeSet f_sortedCount f_keptCount (nI w) f_inOrder f_total f_depth f_begun f_assigned f_usedNodes (nI ll.length) n36 (-1) 0 0 0 0 a_labelOf a_valueOf a_fromOf a_toOf a_typeOf a_weightOf a_firstPage a_pageUsed a_pageNext a_pageSize a_pageEdge a_labelled a_sorted a_modeOf a_spotSet a_spotLabels a_spotLeast a_spotGreatest a_linkSet a_linkFrom a_linkTo a_linkTypes a_linkKind a_outgoing a_incoming a_allowed a_candidates a_behind a_before a_nodeFor a_levelSpot a_levelLeft a_edgeLink a_choiceLeft_51 a_choice_53 a_pickedEdge) (f_nodeSet, f_edgeSet, f_sortedCount, f_keptCount, nI w, f_inOrder, f_total, f_depth, f_begun, f_assigned, f_usedNodes, nI ll.length, a_labelOf, a_valueOf, a_fromOf, a_toOf, a_typeOf, a_weightOf, a_firstPage, a_pageUsed, a_pageNext, a_pageSize, a_pageEdge, a_labelled, a_sorted, a_modeOf, a_spotSet, a_spotLabels, a_spotLeast, a_spotGreatest, a_linkSet, a_linkFrom, a_linkTo, a_linkTypes, a_linkKind, a_outgoing, a_incoming, a_allowed, a_candidates, a_behind, a_before, a_nodeFor, a_levelSpot, a_levelLeft, a_edgeLink, a_choiceLeft, a_choice, a_pickedEdge) (nI j) := by
    refine gx_edgesFor hE hj (nm_e ?_)
    rw [gx_vm1]
    refine nm_e (Exists.intro (1 + c) (H 0 hU 0 0 _ _ ?_ (Or.inl ⟨by rw [pk_us]; decide, rfl, rfl⟩) none 1 0 (fun v hv => by cases hv) (by omega) (fun chl ch _ => ?_)))
    · rw [pk_us]
      have := gx_ed_blT (T := 0) hE hj (fun i _ => rfl) hU
      rw [← this]
      congr 1
      apply b_ext
      intro i hi
      rw [b_and, gb_not hi, b_0]; simp
    · refine pk_le 20000 (0 + c) (fun h => by omega) (fun _ => br_t (by decide) ?_)
      have e : gp_bt mx none (gp_fs (gp_bt mx) none (fun e => gp_fs (gp_bt mx) none (fun g' => some (gp_wt wt ll g')) (gp_Y (gp_ef al fr to true la lb) (gp_ps ll (0 + 1)) (gp_st a (4 + j) e))) (gb_fl (gp_ef al fr to true la lb a (4 + j)) 0 20)) = gp_fs (gp_bt mx) none (fun g' => some (gp_wt wt ll g')) (gp_Y (gp_ef al fr to true la lb) (gp_ps ll 0) a) := by
        rw [gp_ps_c hj]
        show gp_fs _ _ _ _ = gp_fs (gp_bt mx) none (fun g' => some (gp_wt wt ll g')) ((gb_fl (gp_ef al fr to true la lb a (4 + j)) 0 (gp_lim (4 + j))).flatMap (fun n => gp_Y (gp_ef al fr to true la lb) (gp_ps ll (0 + 1)) (gp_st a (4 + j) n)))
        rw [show gp_lim (4 + j) = 20 from if_neg (by omega), gp_fs_fm (gp_bt_cm mx)]
      rw [e]
      exact hp chl ch
  rw [← el] at e0
  exact e0
end
end
section
/-! weighEdges, weigh's loop -/
section
variable {al : Nat → Nat → Bool} {fr to la lb : Nat → Nat}
theorem gp_Y_freeV {M : Type} {op : M → M → M} {z : M} (hop : gp_CM op z) {val : (Nat → Nat) → M} : ∀ (ps : List Nat) (A : Nat → Prop) (g g' : Nat → Nat), (∀ p, p ∈ ps → 4 ≤ p ∧ la (p - 4) < 4 ∧ lb (p - 4) < 4) → (∀ i, i < 4 → A i) → (∀ i, A i → g i = g' i) → (∀ h h', (∀ i, A i ∨ i ∈ ps → h i = h' i) → val h = val h') → gp_fs op z val (gp_Y (gp_ef al fr to false la lb) ps g) = gp_fs op z val (gp_Y (gp_ef al fr to false la lb) ps g')
  | [], A, g, g', _, _, hA, hv => by
    show op (val g) z = op (val g') z
    rw [hv g g' (fun i hi => by rcases hi with h | h; exact hA i h; cases h)]
  | p :: ps, A, g, g', h, h4, hA, hv => by
    obtain ⟨p4, pa, pb⟩ := h p (List.mem_cons_self ..)
    show gp_fs op z val ((gb_fl (gp_ef al fr to false la lb g p) 0 (gp_lim p)).flatMap (fun n => gp_Y (gp_ef al fr to false la lb) ps (gp_st g p n))) = gp_fs op z val ((gb_fl (gp_ef al fr to false la lb g' p) 0 (gp_lim p)).flatMap (fun n => gp_Y (gp_ef al fr to false la lb) ps (gp_st g' p n)))
    have e : gp_ef al fr to false la lb g p = gp_ef al fr to false la lb g' p := by
      funext e
      unfold gp_ef
      rw [hA _ (h4 _ pa), hA _ (h4 _ pb)]; simp
    rw [gp_fs_fm hop, gp_fs_fm hop, e]
    apply gp_fs_c
    intro n _
    refine gp_Y_freeV hop ps (fun i => A i ∨ i = p) _ _ (fun q hq => h q (List.mem_cons_of_mem _ hq)) (fun i hi => Or.inl (h4 i hi)) (fun i hi => ?_) (fun x x' hx => hv x x' (fun i hi => hx i ?_))
    · by_cases e : i = p
      · rw [e, gp_st_s, gp_st_s]
      · rw [gp_st_n e, gp_st_n e]
        rcases hi with h | h
        · exact hA i h
        · exact absurd h e
    · rcases hi with h | h
      · exact Or.inl (Or.inl h)
      · rcases List.mem_cons.mp h with h | h
        · exact Or.inl (Or.inr h)
        · exact Or.inr h
/-- without 'other edges': the extreme of the sums is the sum of the extremes -/
theorem gp_ext_cons {mx : Bool} {wt : Nat → Nat} {ll : List Nat} {g : Nat → Nat} {k j : Nat} (hnd : ll.Nodup) (hj : ll[k]? = some j) (hl : ∀ p, p ∈ gp_ps ll k → 4 ≤ p ∧ la (p - 4) < 4 ∧ lb (p - 4) < 4) :
    gp_fs (gp_bt mx) none (fun g' => some (gp_wt wt (ll.drop k) g')) (gp_Y (gp_ef al fr to false la lb) (gp_ps ll k) g) = (match gp_fs (gp_bt mx) none (fun g' => some (gp_wt wt (ll.drop (k + 1)) g')) (gp_Y (gp_ef al fr to false la lb) (gp_ps ll (k + 1)) g) with
      | none => none
      | some V => (gp_fs (gp_bt mx) none (fun e => some (wt e)) (gb_fl (gp_ef al fr to false la lb g (4 + j)) 0 20)).map (fun x => V + x)) := by
  obtain ⟨hk, ej⟩ := List.getElem?_eq_some_iff.mp hj
  have hdrop : ll.drop k = j :: ll.drop (k + 1) := by rw [List.drop_eq_getElem_cons hk, ej]
  have hnot : 4 + j ∉ gp_ps ll (k + 1) := by
    intro h
    obtain ⟨i, j', i1, i2, i3⟩ := gp_ps_m.mp h
    have : j' = j := by omega
    subst this
    have := gx_len_nd hnd i2 hj
    omega
  have hl2 : ∀ p, p ∈ gp_ps ll (k + 1) → 4 ≤ p ∧ la (p - 4) < 4 ∧ lb (p - 4) < 4 := by
    intro p hp
    refine hl p ?_
    rw [gp_ps_c hj]
    exact List.mem_cons_of_mem _ hp
  rw [gp_ps_c hj]
  show gp_fs (gp_bt mx) none (fun g' => some (gp_wt wt (ll.drop k) g')) ((gb_fl (gp_ef al fr to false la lb g (4 + j)) 0 (gp_lim (4 + j))).flatMap (fun n => gp_Y (gp_ef al fr to false la lb) (gp_ps ll (k + 1)) (gp_st g (4 + j) n))) = _
  rw [show gp_lim (4 + j) = 20 from if_neg (by omega), gp_fs_fm (gp_bt_cm mx)]
  have inner : ∀ e, gp_fs (gp_bt mx) none (fun g' => some (gp_wt wt (ll.drop k) g')) (gp_Y (gp_ef al fr to false la lb) (gp_ps ll (k + 1)) (gp_st g (4 + j) e)) = (gp_fs (gp_bt mx) none (fun g' => some (gp_wt wt (ll.drop (k + 1)) g')) (gp_Y (gp_ef al fr to false la lb) (gp_ps ll (k + 1)) g)).map (fun x => wt e + x) := by
    intro e
    rw [gp_fs_c (g := fun g' => some (wt e + gp_wt wt (ll.drop (k + 1)) g')), gp_bt_add]
    · congr 1
      refine gp_Y_freeV (gp_bt_cm mx) (gp_ps ll (k + 1)) (fun i => i < 4) _ _ hl2 (fun i hi => hi) (fun i hi => gp_st_n (by omega)) (fun h h' hh => ?_)
      congr 1
      unfold gp_wt
      apply gp_fs_c
      intro x hx
      rw [hh (4 + x) (Or.inr (by unfold gp_ps; exact List.mem_map.mpr ⟨x, hx, rfl⟩))]
    · intro g' hg'
      have : g' (4 + j) = e := by rw [gp_Y_k _ _ hg' _ hnot, gp_st_s]
      rw [hdrop]
      show some (wt (g' (4 + j)) + gp_wt wt (ll.drop (k + 1)) g') = _
      rw [this]
  rw [gp_fs_c (fun e _ => inner e)]
  cases hV : gp_fs (gp_bt mx) none (fun g' => some (gp_wt wt (ll.drop (k + 1)) g')) (gp_Y (gp_ef al fr to false la lb) (gp_ps ll (k + 1)) g) with
  | none =>
    show gp_fs (gp_bt mx) none (fun _ => none) _ = none
    exact gp_fs_z (gp_bt_cm mx) _
  | some V =>
    show gp_fs (gp_bt mx) none (fun e => some (wt e + V)) _ = _
    rw [gp_fs_c (g := fun e => some (V + wt e)) (fun e _ => by rw [Nat.add_comm]), gp_bt_add]
end
section
variable {f_nodeSet f_edgeSet f_sortedCount f_keptCount f_which f_inOrder f_total f_depth f_begun f_assigned f_usedNodes f_edgeLinks : Int32} {a_labelOf a_valueOf a_fromOf a_toOf a_typeOf a_weightOf a_firstPage a_pageUsed a_pageNext a_pageSize a_pageEdge a_labelled a_sorted a_modeOf a_spotSet a_spotLabels a_spotLeast a_spotGreatest a_linkSet a_linkFrom a_linkTo a_linkTypes a_linkKind a_outgoing a_incoming a_allowed a_candidates a_behind a_before a_nodeFor a_levelSpot a_levelLeft a_edgeLink a_choiceLeft a_choice a_pickedEdge : Nat → Int32}
variable {w : Nat} {ll : List Nat} {la lb : Nat → Nat} {al : Nat → Nat → Bool} {eth : Nat → Bool} {fr to a wt : Nat → Nat} {mx : Bool} {x1 : Int32}
theorem gx_we31 {post : Int32 → SX → Prop} (hx1 : x1 = 0 ↔ mx = false) (hw : ∀ e, e < 20 → a_weightOf e = nI (wt e)) (hwb : ∀ e, wt e ≤ 20) (hnd : ll.Nodup) (hE : gx_EC w ll la lb al eth fr to a a_linkFrom a_linkTo a_nodeFor a_outgoing a_incoming a_allowed a_edgeLink) : ∀ (d k s n : Nat), k + d = ll.length → d < n → gp_Y (gp_ef al fr to false la lb) (gp_ps ll k) a ≠ [] →
    (∀ v, gp_fs (gp_bt mx) none (fun g' => some (gp_wt wt (ll.drop k) g')) (gp_Y (gp_ef al fr to false la lb) (gp_ps ll k) a) = some v → post (nI (s + v)) (f_nodeSet, f_edgeSet, f_sortedCount, f_keptCount, nI w, f_inOrder, f_total, f_depth, f_begun, f_assigned, f_usedNodes, nI ll.length, a_labelOf, a_valueOf, a_fromOf, a_toOf, a_typeOf, a_weightOf, a_firstPage, a_pageUsed, a_pageNext, a_pageSize, a_pageEdge, a_labelled, a_sorted, a_modeOf, a_spotSet, a_spotLabels, a_spotLeast, a_spotGreatest, a_linkSet, a_linkFrom, a_linkTo, a_linkTypes, a_linkKind, a_outgoing, a_incoming, a_allowed, a_candidates, a_behind, a_before, a_nodeFor, a_levelSpot, a_levelLeft, a_edgeLink, a_choiceLeft, a_choice, a_pickedEdge)) → wX_weighEdges_31 post x1 f_nodeSet f_edgeSet f_sortedCount f_keptCount (nI w) f_inOrder f_total f_depth f_begun f_assigned f_usedNodes (nI ll.length) a_labelOf a_valueOf a_fromOf a_toOf a_typeOf a_weightOf a_firstPage a_pageUsed a_pageNext a_pageSize a_pageEdge a_labelled a_sorted a_modeOf a_spotSet a_spotLabels a_spotLeast a_spotGreatest a_linkSet a_linkFrom a_linkTo a_linkTypes a_linkKind a_outgoing a_incoming a_allowed a_candidates a_behind a_before a_nodeFor a_levelSpot a_levelLeft a_edgeLink a_choiceLeft a_choice a_pickedEdge n (nI s) (nI k) := by
  have h4 := hE.2.1
  intro d
  induction d with
  | zero =>
    intro k s n hk hn hne hp
    obtain ⟨n, rfl⟩ := gx_S n (by omega)
    refine pk_le ll.length k (fun _ => ?_) (fun h => by omega)
    have := hp 0 (by rw [gp_ps_e (by omega), List.drop_eq_nil_of_le (by omega)]; rfl)
    exact this
  | succ d ih =>
    intro k s n hk hn hne hp
    obtain ⟨n, rfl⟩ := gx_S n (by omega)
    obtain ⟨j, hj⟩ : ∃ j, ll[k]? = some j := ⟨_, List.getElem?_eq_getElem (by omega)⟩
    obtain ⟨e1, j4, l1, l2, l3, l4, _⟩ := hE.2.2.2.2.2 k j hj
    have hl : ∀ p, p ∈ gp_ps ll k → 4 ≤ p ∧ la (p - 4) < 4 ∧ lb (p - 4) < 4 := by
      intro q hq
      obtain ⟨i, j', _, i2, rfl⟩ := gp_ps_m.mp hq
      obtain ⟨_, _, _, l2', _, l4', _⟩ := hE.2.2.2.2.2 i j' i2
      rw [show 4 + j' - 4 = j' from by omega]
      exact ⟨by omega, l2', l4'⟩
    have hmul := gp_Y_mul (al := al) (fr := fr) (to := to) (la := la) (lb := lb) (gp_ps ll (k + 1)) a (4 + j) (by rw [← gp_ps_c hj]; exact hl)
    rw [← gp_ps_c hj] at hmul
    have hpos : 0 < (gp_Y (gp_ef al fr to false la lb) (gp_ps ll k) a).length := List.length_pos_iff.mpr hne
    rw [hmul] at hpos
    have hp1 := Nat.pos_of_mul_pos_right hpos
    have hp2 := Nat.pos_of_mul_pos_left hpos
    refine pk_le ll.length k (fun h => by omega) (fun _ => And.intro (vp_in_nI (by omega) (by omega)) ?_)
    rw [nI_clamp (n := k) (by omega), e1]
    refine gx_edgesFor hE hj ?_
    have hef := gp_ef_f (al := al) (fr := fr) (to := to) (a := a) (g := a) l2 l4 (fun i _ => rfl)
    have hbl := gx_ed_bl hE j
    rw [← hef] at hbl
    cases hc : gb_fl (gp_ef al fr to false la lb a (4 + j)) 0 20 with
    | nil => rw [hc] at hp1; simp at hp1
    | cons e cs =>
      rw [hc, hef] at hbl
      refine gx_extreme hx1 hw hwb hbl (fun x hx => ?_) (fun v hv => ?_)
      · rw [← hc] at hx
        have := gb_fl_m.mp hx; omega
      · refine nm_r (nI_add _ _) (nm_r (nI_1 k) (ih (k + 1) (s + v) n (by omega) (by omega) ?_ (fun V hV => ?_)))
        · intro hz
          rw [hz] at hp2; simp at hp2
        · have := hp (V + v) (by rw [gp_ext_cons hnd hj hl, hV, hc, hv]; rfl)
          rw [show s + v + V = s + (V + v) from by omega]
          exact this
theorem gx_weighEdges {post : Int32 → SX → Prop} {md : Bool} (hx1 : x1 = 0 ↔ mx = false) (hw : ∀ e, e < 20 → a_weightOf e = nI (wt e)) (hwb : ∀ e, wt e ≤ 20) (hnd : ll.Nodup) (hE : gx_EC w ll la lb al eth fr to a a_linkFrom a_linkTo a_nodeFor a_outgoing a_incoming a_allowed a_edgeLink) (hmd : (a_modeOf w &&& 2) = 0 ↔ md = false) (hGd : gx_Gd a a ll 0) (hU : gx_Ue a 0) (hne : gp_Y (gp_ef al fr to md la lb) (gp_ps ll 0) a ≠ [])
    (hp : ∀ chl ch, post (gx_oI (gp_fs (gp_bt mx) none (fun g' => some (gp_wt wt ll g')) (gp_Y (gp_ef al fr to md la lb) (gp_ps ll 0) a))) (f_nodeSet, f_edgeSet, f_sortedCount, f_keptCount, nI w, f_inOrder, f_total, f_depth, f_begun, f_assigned, f_usedNodes, nI ll.length, a_labelOf, a_valueOf, a_fromOf, a_toOf, a_typeOf, a_weightOf, a_firstPage, a_pageUsed, a_pageNext, a_pageSize, a_pageEdge, a_labelled, a_sorted, a_modeOf, a_spotSet, a_spotLabels, a_spotLeast, a_spotGreatest, a_linkSet, a_linkFrom, a_linkTo, a_linkTypes, a_linkKind, a_outgoing, a_incoming, a_allowed, a_candidates, a_behind, a_before, a_nodeFor, a_levelSpot, a_levelLeft, a_edgeLink, chl, ch, a_pickedEdge)) : wpX_weighEdges post (f_nodeSet, f_edgeSet, f_sortedCount, f_keptCount, nI w, f_inOrder, f_total, f_depth, f_begun, f_assigned, f_usedNodes, nI ll.length, a_labelOf, a_valueOf, a_fromOf, a_toOf, a_typeOf, a_weightOf, a_firstPage, a_pageUsed, a_pageNext, a_pageSize, a_pageEdge, a_labelled, a_sorted, a_modeOf, a_spotSet, a_spotLabels, a_spotLeast, a_spotGreatest, a_linkSet, a_linkFrom, a_linkTo, a_linkTypes, a_linkKind, a_outgoing, a_incoming, a_allowed, a_candidates, a_behind, a_before, a_nodeFor, a_levelSpot, a_levelLeft, a_edgeLink, a_choiceLeft, a_choice, a_pickedEdge) x1 := by
  have h4 := hE.2.1
  have loop : (md = false ∨ ll.length = 0) → ∃ n31 : Nat, wX_weighEdges_31 post x1 f_nodeSet f_edgeSet f_sortedCount f_keptCount (nI w) f_inOrder f_total f_depth f_begun f_assigned f_usedNodes (nI ll.length) a_labelOf a_valueOf a_fromOf a_toOf a_typeOf a_weightOf a_firstPage a_pageUsed a_pageNext a_pageSize a_pageEdge a_labelled a_sorted a_modeOf a_spotSet a_spotLabels a_spotLeast a_spotGreatest a_linkSet a_linkFrom a_linkTo a_linkTypes a_linkKind a_outgoing a_incoming a_allowed a_candidates a_behind a_before a_nodeFor a_levelSpot a_levelLeft a_edgeLink a_choiceLeft a_choice a_pickedEdge n31 0 0 := by
    intro hm
    have e : gp_Y (gp_ef al fr to md la lb) (gp_ps ll 0) a = gp_Y (gp_ef al fr to false la lb) (gp_ps ll 0) a := by
      rcases hm with h | h
      · rw [h]
      · rw [gp_ps_e (by omega)]; rfl
    rw [e] at hne hp
    refine Exists.intro (ll.length + 1) (gx_we31 (mx := mx) hx1 hw hwb hnd hE ll.length 0 0 _ (by omega) (by omega) hne (fun v hv => ?_))
    have := hp a_choiceLeft a_choice
    rw [show ll.drop 0 = ll from rfl] at hv
    rw [hv] at this
    rw [Nat.zero_add]
    exact this
  refine And.intro (vp_in_nI hE.1 (by omega)) ?_
  rw [nI_clamp (n := w) (by have := hE.1; omega)]
  refine br_c (fun z => loop (Or.inl (hmd.mp z))) (fun z => pk_le ll.length 0 (fun h => loop (Or.inr (by omega))) (fun h => ?_))
  have hm : md = true := by
    cases h : md
    · exact absurd (hmd.mpr h) z
    · rfl
  subst hm
  exact gx_weighDiff hx1 hw hwb hnd hE h hGd hU hp
end
section
variable {f_nodeSet f_edgeSet f_sortedCount f_keptCount f_which f_inOrder f_total f_depth f_begun f_assigned f_usedNodes f_edgeLinks : Int32} {a_labelOf a_valueOf a_fromOf a_toOf a_typeOf a_weightOf a_firstPage a_pageUsed a_pageNext a_pageSize a_pageEdge a_labelled a_sorted a_modeOf a_spotSet a_spotLabels a_spotLeast a_spotGreatest a_linkSet a_linkFrom a_linkTo a_linkTypes a_linkKind a_outgoing a_incoming a_allowed a_candidates a_behind a_before a_nodeFor a_levelSpot a_levelLeft a_edgeLink a_choiceLeft a_choice a_pickedEdge : Nat → Int32}
variable {w tot : Nat} {io : Bool} {sp lk : Nat → Bool} {la lb : Nat → Nat} {cd : Nat → Nat → Bool} {cn : Nat → Nat → Nat → Bool} {md md2 : Bool} {ll : List Nat} {al : Nat → Nat → Bool} {eth : Nat → Bool} {fr to wt : Nat → Nat} {mx : Bool} {x1 : Int32}
theorem gx_wg20 {post : Int32 → SX → Prop} (ht : tot = (gp_us sp (fun _ => 50)).length) (hio : f_inOrder = 0 ↔ io = false) (hx1 : x1 = 0 ↔ mx = false) (hw : ∀ e, e < 20 → a_weightOf e = nI (wt e)) (hwb : ∀ e, wt e ≤ 20)
    (hC : gx_SC w sp lk la lb cd cn md f_nodeSet a_modeOf a_spotSet a_linkSet a_linkFrom a_linkTo a_candidates a_behind a_before) (hmd : (a_modeOf w &&& 2) = 0 ↔ md2 = false) (hnd : ll.Nodup)
    (hE : gx_E0 w sp ll la lb al eth fr to a_linkFrom a_linkTo a_outgoing a_incoming a_allowed a_edgeLink) :
    ∀ (R : List (Nat → Nat)) (b0 : Option Nat) (r n : Nat) (dp bg asg us : Int32) (nf lsp llf chl ch : Nat → Int32), gx_NS sp (gp_ft cd md lk la lb cn) (gp_pk io sp (gp_ft cd md lk la lb cn)) tot f_nodeSet bg asg us nf lsp llf R → R.length + r ≤ 20736 → R.length < n → (∀ v, b0 = some v → v < 1000) →
    (∀ dp bg asg us nf lsp llf chl ch, post (gx_oI (gp_bt mx b0 (gp_fs (gp_bt mx) none (fun b => gp_fs (gp_bt mx) none (fun g' => some (gp_wt wt ll g')) (gp_Y (gp_ef al fr to md2 la lb) (gp_ps ll 0) b)) R))) (f_nodeSet, f_edgeSet, f_sortedCount, f_keptCount, nI w, f_inOrder, nI tot, dp, bg, asg, us, nI ll.length, a_labelOf, a_valueOf, a_fromOf, a_toOf, a_typeOf, a_weightOf, a_firstPage, a_pageUsed, a_pageNext, a_pageSize, a_pageEdge, a_labelled, a_sorted, a_modeOf, a_spotSet, a_spotLabels, a_spotLeast, a_spotGreatest, a_linkSet, a_linkFrom, a_linkTo, a_linkTypes, a_linkKind, a_outgoing, a_incoming, a_allowed, a_candidates, a_behind, a_before, nf, lsp, llf, a_edgeLink, chl, ch, a_pickedEdge)) →
    wX_weigh_20 post x1 n (gx_oI b0) (nI r) f_nodeSet f_edgeSet f_sortedCount f_keptCount (nI w) f_inOrder (nI tot) dp bg asg us (nI ll.length) a_labelOf a_valueOf a_fromOf a_toOf a_typeOf a_weightOf a_firstPage a_pageUsed a_pageNext a_pageSize a_pageEdge a_labelled a_sorted a_modeOf a_spotSet a_spotLabels a_spotLeast a_spotGreatest a_linkSet a_linkFrom a_linkTo a_linkTypes a_linkKind a_outgoing a_incoming a_allowed a_candidates a_behind a_before nf lsp llf a_edgeLink chl ch a_pickedEdge := by
  have hll := hE.2.1
  intro R
  induction R with
  | nil =>
    intro b0 r n dp bg asg us nf lsp llf chl ch hS hr hn hb hp
    obtain ⟨n, rfl⟩ := gx_S n (by omega)
    refine pk_le 20737 r (fun h => by simp at hr; omega) (fun _ => gx_nextNodes ht hio hC hS (fun _ dp bg asg us nf lsp llf => br_t rfl ?_) (fun b R' h => by cases h))
    have := hp dp bg asg us nf lsp llf chl ch
    rw [show gp_fs (gp_bt mx) none (fun b => gp_fs (gp_bt mx) none (fun g' => some (gp_wt wt ll g')) (gp_Y (gp_ef al fr to md2 la lb) (gp_ps ll 0) b)) [] = none from rfl, gp_bt_n] at this
    exact this
  | cons b R ih =>
    intro b0 r n dp bg asg us nf lsp llf chl ch hS hr hn hb hp
    obtain ⟨n, rfl⟩ := gx_S n (by omega)
    simp only [List.length_cons] at hr hn
    refine pk_le 20737 r (fun h => by omega) (fun _ => gx_nextNodes ht hio hC hS (fun h => by cases h) (fun b' R' h dp bg asg us nf lsp llf hS' hNd => br_f (by decide) ?_))
    injection h with h1 h2
    subst h1 h2
    have hEC := gx_E0_EC hE hNd
    have hlen : (gp_Y (gp_ef al fr to md2 la lb) (gp_ps ll 0) b).length < 2 ^ 31 := by
      have h1 := gp_Y_len (gp_ef al fr to md2 la lb) (gp_ps ll 0) b
      have h2 : (gp_ps ll 0).length = ll.length := by unfold gp_ps; rw [List.length_map]; rfl
      have h3 : 20 ^ (gp_ps ll 0).length ≤ 20 ^ 4 := Nat.pow_le_pow_right (by decide) (by omega)
      omega
    have next : ∀ chl ch b1, b1 = gp_bt mx b0 (gp_fs (gp_bt mx) none (fun g' => some (gp_wt wt ll g')) (gp_Y (gp_ef al fr to md2 la lb) (gp_ps ll 0) b)) → wX_weigh_20 post x1 n (gx_oI b1) (nI (r + 1)) f_nodeSet f_edgeSet f_sortedCount f_keptCount (nI w) f_inOrder (nI tot) dp bg asg us (nI ll.length) a_labelOf a_valueOf a_fromOf a_toOf a_typeOf a_weightOf a_firstPage a_pageUsed a_pageNext a_pageSize a_pageEdge a_labelled a_sorted a_modeOf a_spotSet a_spotLabels a_spotLeast a_spotGreatest a_linkSet a_linkFrom a_linkTo a_linkTypes a_linkKind a_outgoing a_incoming a_allowed a_candidates a_behind a_before nf lsp llf a_edgeLink chl ch a_pickedEdge := by
      intro chl ch b1 hb1
      refine ih b1 (r + 1) n dp bg asg us nf lsp llf chl ch hS' (by omega) (by omega) (fun v hv => ?_) (fun dp bg asg us nf lsp llf chl ch => ?_)
      · rw [hb1] at hv
        rcases gp_bt_pick mx hv with z | z
        · exact hb v z
        · obtain ⟨g', _, hg'⟩ := gp_bt_mem mx z
          injection hg' with hg'
          have := gp_wt_le hwb ll g'
          omega
      · rw [hb1, (gp_bt_cm mx).2.1]
        exact hp dp bg asg us nf lsp llf chl ch
    refine gx_choicesFrom (pl := 0) (g := b) hnd hEC hmd (by omega) (gx_Nd_Gd ll hNd) (fun _ => gx_Nd_Ue hNd) (fun chl ch => ?_)
    refine pk_le _ 0 (fun h => ?_) (fun h => ?_) rfl rfl hlen
    · have h0 : gp_Y (gp_ef al fr to md2 la lb) (gp_ps ll 0) b = [] := List.length_eq_zero_iff.mp (by omega)
      refine nm_r (nI_1 r) (next chl ch b0 ?_)
      rw [h0]
      show b0 = gp_bt mx b0 none
      rw [gp_bt_n]
    · refine gx_weighEdges (mx := mx) (md := md2) hx1 hw hwb hnd hEC hmd (gx_Nd_Gd ll hNd) (gx_Nd_Ue hNd) (by intro z; rw [z] at h; simp at h) (fun chl ch => ?_)
      obtain ⟨v, hv⟩ : ∃ v, gp_fs (gp_bt mx) none (fun g' => some (gp_wt wt ll g')) (gp_Y (gp_ef al fr to md2 la lb) (gp_ps ll 0) b) = some v := by
        cases hc : gp_Y (gp_ef al fr to md2 la lb) (gp_ps ll 0) b with
        | nil => rw [hc] at h; simp at h
        | cons g1 l1 => exact gp_bt_some mx rfl
      have hv1 : v < 1000 := by
        obtain ⟨g', _, hg'⟩ := gp_bt_mem mx hv
        injection hg' with hg'
        have := gp_wt_le hwb ll g'
        omega
      have nx := next chl ch
      rw [hv] at nx ⊢
      cases b0 with
      | none => exact br_t rfl (br_f (by decide) (nm_r (nI_1 r) (nx (some v) rfl)))
      | some bv =>
        have hbv := hb bv rfl
        have hne : ¬ gx_oI (some bv) = -1 := by
          intro z
          have z1 : nI bv = -1 := z
          have : (nI bv).toInt = (-1 : Int32).toInt := by rw [z1]
          rw [nI_toInt (by omega)] at this
          have z2 : (-1 : Int32).toInt = -1 := by decide
          omega
        refine br_f hne (br_c (fun z => ?_) (fun z => ?_))
        · have hm := hx1.mp z
          refine pk_le bv v (fun h => ?_) (fun h => ?_)
          · exact br_t rfl (nm_r (nI_1 r) (nx (some bv) (by rw [hm]; simp only [gp_bt, Bool.false_eq_true, if_false]; rw [if_neg (by omega)])))
          · exact br_f (by decide) (nm_r (nI_1 r) (nx (some v) (by rw [hm]; simp only [gp_bt, Bool.false_eq_true, if_false]; rw [if_pos (by omega)])))
        · have hm : mx = true := by
            cases h : mx
            · exact absurd (hx1.mpr h) z
            · rfl
          refine pk_le v bv (fun h => ?_) (fun h => ?_)
          · exact br_t rfl (nm_r (nI_1 r) (nx (some bv) (by rw [hm]; simp only [gp_bt, if_true]; rw [if_neg (by omega)])))
          · exact br_f (by decide) (nm_r (nI_1 r) (nx (some v) (by rw [hm]; simp only [gp_bt, if_true]; rw [if_pos (by omega)])))
end
end
section
/-! pick, find -/
section
variable {f_nodeSet f_edgeSet f_sortedCount f_keptCount f_which f_inOrder f_total f_depth f_begun f_assigned f_usedNodes f_edgeLinks : Int32} {a_labelOf a_valueOf a_fromOf a_toOf a_typeOf a_weightOf a_firstPage a_pageUsed a_pageNext a_pageSize a_pageEdge a_labelled a_sorted a_modeOf a_spotSet a_spotLabels a_spotLeast a_spotGreatest a_linkSet a_linkFrom a_linkTo a_linkTypes a_linkKind a_outgoing a_incoming a_allowed a_candidates a_behind a_before a_nodeFor a_levelSpot a_levelLeft a_edgeLink a_choiceLeft a_choice a_pickedEdge : Nat → Int32}
variable {w : Nat} {ll : List Nat} {la lb : Nat → Nat} {al : Nat → Nat → Bool} {eth : Nat → Bool} {fr to a : Nat → Nat} {md : Bool}
theorem gx_ylen (md : Bool) (pl : Nat) (g : Nat → Nat) (h4 : ll.length ≤ 4) : (gp_Y (gp_ef al fr to md la lb) (gp_ps ll pl) g).length < 2 ^ 31 := by
  have h1 := gp_Y_len (gp_ef al fr to md la lb) (gp_ps ll pl) g
  have h2 : (gp_ps ll pl).length ≤ ll.length := by unfold gp_ps; rw [List.length_map, List.length_drop]; omega
  have h3 : 20 ^ (gp_ps ll pl).length ≤ 20 ^ 4 := Nat.pow_le_pow_right (by decide) (by omega)
  omega
theorem gx_pk66 {post : SX → Prop} {J7 : Int32 → Int32 → Int32 → Int32 → Int32 → Int32 → Int32 → Int32 → Int32 → Int32 → Int32 → Int32 → Int32 → Int32 → Int32 →  (Nat → Int32) → (Nat → Int32) → (Nat → Int32) → (Nat → Int32) → (Nat → Int32) → (Nat → Int32) → (Nat → Int32) → (Nat → Int32) → (Nat → Int32) → (Nat → Int32) → (Nat → Int32) → (Nat → Int32) → (Nat → Int32) → (Nat → Int32) → (Nat → Int32) → (Nat → Int32) → (Nat → Int32) → (Nat → Int32) → (Nat → Int32) → (Nat → Int32) → (Nat → Int32) → (Nat → Int32) → (Nat → Int32) → (Nat → Int32) → (Nat → Int32) → (Nat → Int32) → (Nat → Int32) → (Nat → Int32) → (Nat → Int32) → (Nat → Int32) → (Nat → Int32) → (Nat → Int32) → (Nat → Int32) → (Nat → Int32) → (Nat → Int32) → (Nat → Int32) →  Prop} {pl j : Nat} {g G : Nat → Nat} {used : Int32} {pke : Nat → Int32} (hnd : ll.Nodup) (hE : gx_EC w ll la lb al eth fr to a a_linkFrom a_linkTo a_nodeFor a_outgoing a_incoming a_allowed a_edgeLink) (hmd : (a_modeOf w &&& 2) = 0 ↔ md = false) (hj : ll[pl]? = some j) (hGd : gx_Gd a g ll pl) (hU : md = true → gx_Ue g used)
    (hJ : ∀ e left chl ch, e < 20 → left < 1000000 → (gp_Y (gp_ef al fr to md la lb) (gp_ps ll (pl + 1)) (gp_st g (4 + j) e))[left]? = some G → J7 (nI left) (used ||| ((1 : Int32) <<< (nI e &&& 31))) (nI (pl + 1)) f_nodeSet f_edgeSet f_sortedCount f_keptCount (nI w) f_inOrder f_total f_depth f_begun f_assigned f_usedNodes (nI ll.length) a_labelOf a_valueOf a_fromOf a_toOf a_typeOf a_weightOf a_firstPage a_pageUsed a_pageNext a_pageSize a_pageEdge a_labelled a_sorted a_modeOf a_spotSet a_spotLabels a_spotLeast a_spotGreatest a_linkSet a_linkFrom a_linkTo a_linkTypes a_linkKind a_outgoing a_incoming a_allowed a_candidates a_behind a_before a_nodeFor a_levelSpot a_levelLeft a_edgeLink chl ch (upd pke j (nI e))) :
    ∀ (cs : List Nat) (left : Nat) (x8 : Int32) (n : Nat) (chl ch : Nat → Int32), gb_bl x8 = cs → (∀ e, e ∈ cs → e < 20) → cs.length < n → left < 1000000 → (cs.flatMap (fun e => gp_Y (gp_ef al fr to md la lb) (gp_ps ll (pl + 1)) (gp_st g (4 + j) e)))[left]? = some G →
    wX_pick_66 post J7 (nI pl) (nI j) n (nI left) used 1 x8 f_nodeSet f_edgeSet f_sortedCount f_keptCount (nI w) f_inOrder f_total f_depth f_begun f_assigned f_usedNodes (nI ll.length) a_labelOf a_valueOf a_fromOf a_toOf a_typeOf a_weightOf a_firstPage a_pageUsed a_pageNext a_pageSize a_pageEdge a_labelled a_sorted a_modeOf a_spotSet a_spotLabels a_spotLeast a_spotGreatest a_linkSet a_linkFrom a_linkTo a_linkTypes a_linkKind a_outgoing a_incoming a_allowed a_candidates a_behind a_before a_nodeFor a_levelSpot a_levelLeft a_edgeLink chl ch pke := by
  have h4 := hE.2.1
  obtain ⟨hpl, _⟩ := List.getElem?_eq_some_iff.mp hj
  obtain ⟨_, j4, _⟩ := hE.2.2.2.2.2 pl j hj
  have hgj : g (4 + j) = 50 := hGd.2.1 _ (gp_ps_m.mpr ⟨pl, j, Nat.le_refl _, hj, rfl⟩)
  intro cs
  induction cs with
  | nil =>
    intro left x8 n chl ch _ _ _ _ h
    simp at h
  | cons e cs ih =>
    intro left x8 n chl ch hbl he hn hleft hG
    obtain ⟨n, rfl⟩ := gx_S n (by omega)
    have he20 := he e (List.mem_cons_self ..)
    refine br_f (gb_bl_n hbl) (br_f (by decide) (gb_low hbl ?_))
    rw [nI_1 pl]
    refine gx_choicesFrom (g := gp_st g (4 + j) e) hnd hE hmd (by omega) (gx_Gd_s hnd hGd hj he20) (fun hm => gx_Ue_s (hU hm) j4 he20 hgj) (fun chl ch => ?_)
    refine pk_le _ left (fun h => ?_) (fun h => ?_) rfl rfl (gx_ylen md _ _ h4)
    · refine nm_r (pk_sub h) (nm_e (ih _ _ n chl ch (gb_rst hbl) (fun x hx => he x (List.mem_cons_of_mem _ hx)) (by simp at hn; omega) (by omega) ?_))
      rw [gp_ix_r (F := fun e => gp_Y (gp_ef al fr to md la lb) (gp_ps ll (pl + 1)) (gp_st g (4 + j) e)) h] at hG
      exact hG
    · refine And.intro (vp_in_nI j4 (by omega)) ?_
      rw [nI_clamp (n := j) (by omega), gx_byte4 (by omega)]
      refine nm_e (nm_e (nm_e ?_))
      rw [gp_ix_l (F := fun e => gp_Y (gp_ef al fr to md la lb) (gp_ps ll (pl + 1)) (gp_st g (4 + j) e)) h] at hG
      have hfin := hJ e left chl ch he20 hleft hG
      obtain ⟨n, rfl⟩ := gx_S n (by simp at hn; omega)
      exact br_c (fun _ => nm_r (nI_1 pl) hfin) (fun _ => br_t rfl (nm_r (nI_1 pl) hfin))
theorem gx_pk7 {post : SX → Prop} {G : Nat → Nat} (hnd : ll.Nodup) (hE : gx_EC w ll la lb al eth fr to a a_linkFrom a_linkTo a_nodeFor a_outgoing a_incoming a_allowed a_edgeLink) (hmd : (a_modeOf w &&& 2) = 0 ↔ md = false)
    (hp : ∀ chl ch pke, (∀ (i j : Nat), ll[i]? = some j → pke j = nI (G (4 + j))) → post (f_nodeSet, f_edgeSet, f_sortedCount, f_keptCount, nI w, f_inOrder, f_total, f_depth, f_begun, f_assigned, f_usedNodes, nI ll.length, a_labelOf, a_valueOf, a_fromOf, a_toOf, a_typeOf, a_weightOf, a_firstPage, a_pageUsed, a_pageNext, a_pageSize, a_pageEdge, a_labelled, a_sorted, a_modeOf, a_spotSet, a_spotLabels, a_spotLeast, a_spotGreatest, a_linkSet, a_linkFrom, a_linkTo, a_linkTypes, a_linkKind, a_outgoing, a_incoming, a_allowed, a_candidates, a_behind, a_before, a_nodeFor, a_levelSpot, a_levelLeft, a_edgeLink, chl, ch, pke)) :
    ∀ (d pl left n : Nat) (g : Nat → Nat) (used : Int32) (chl ch pke : Nat → Int32), pl + d = ll.length → d < n → gx_Gd a g ll pl → (md = true → gx_Ue g used) → left < 1000000 → (∀ (i j : Nat), i < pl → ll[i]? = some j → pke j = nI (g (4 + j))) → (gp_Y (gp_ef al fr to md la lb) (gp_ps ll pl) g)[left]? = some G →
    wX_pick_7 post n (nI left) used (nI pl) f_nodeSet f_edgeSet f_sortedCount f_keptCount (nI w) f_inOrder f_total f_depth f_begun f_assigned f_usedNodes (nI ll.length) a_labelOf a_valueOf a_fromOf a_toOf a_typeOf a_weightOf a_firstPage a_pageUsed a_pageNext a_pageSize a_pageEdge a_labelled a_sorted a_modeOf a_spotSet a_spotLabels a_spotLeast a_spotGreatest a_linkSet a_linkFrom a_linkTo a_linkTypes a_linkKind a_outgoing a_incoming a_allowed a_candidates a_behind a_before a_nodeFor a_levelSpot a_levelLeft a_edgeLink chl ch pke := by
  have h4 := hE.2.1
  intro d
  induction d with
  | zero =>
    intro pl left n g used chl ch pke hpl hn hGd hU hleft hpk hG
    obtain ⟨n, rfl⟩ := gx_S n (by omega)
    refine pk_le ll.length pl (fun _ => hp chl ch pke (fun i j hi => ?_)) (fun h => by omega)
    rw [gp_ps_e (by omega)] at hG
    have hg : g = G := by
      have hl := (List.getElem?_eq_some_iff.mp hG).1
      have h0 : left = 0 := by
        have : (gp_Y (gp_ef al fr to md la lb) [] g).length = 1 := rfl
        omega
      rw [h0] at hG
      have : (gp_Y (gp_ef al fr to md la lb) [] g)[0]? = some g := rfl
      rw [this] at hG
      injection hG
    rw [← hg]
    have := (List.getElem?_eq_some_iff.mp hi).1
    exact hpk i j (by omega) hi
  | succ d ih =>
    intro pl left n g used chl ch pke hpl hn hGd hU hleft hpk hG
    obtain ⟨n, rfl⟩ := gx_S n (by omega)
    obtain ⟨j, hj⟩ : ∃ j, ll[pl]? = some j := ⟨_, List.getElem?_eq_getElem (by omega)⟩
    obtain ⟨el, j4, l1, l2, l3, l4, _⟩ := hE.2.2.2.2.2 pl j hj
    have hgj : g (4 + j) = 50 := hGd.2.1 _ (gp_ps_m.mpr ⟨pl, j, Nat.le_refl _, hj, rfl⟩)
    rw [gp_ps_c hj] at hG
    have hG2 : ((gb_fl (gp_ef al fr to md la lb g (4 + j)) 0 20).flatMap (fun n => gp_Y (gp_ef al fr to md la lb) (gp_ps ll (pl + 1)) (gp_st g (4 + j) n)))[left]? = some G := by
      rw [show 20 = gp_lim (4 + j) from (if_neg (by omega)).symm]
      exact hG
    have hJ : ∀ e left chl ch, e < 20 → left < 1000000 → (gp_Y (gp_ef al fr to md la lb) (gp_ps ll (pl + 1)) (gp_st g (4 + j) e))[left]? = some G → wX_pick_7 post n (nI left) (used ||| ((1 : Int32) <<< (nI e &&& 31))) (nI (pl + 1)) f_nodeSet f_edgeSet f_sortedCount f_keptCount (nI w) f_inOrder f_total f_depth f_begun f_assigned f_usedNodes (nI ll.length) a_labelOf a_valueOf a_fromOf a_toOf a_typeOf a_weightOf a_firstPage a_pageUsed a_pageNext a_pageSize a_pageEdge a_labelled a_sorted a_modeOf a_spotSet a_spotLabels a_spotLeast a_spotGreatest a_linkSet a_linkFrom a_linkTo a_linkTypes a_linkKind a_outgoing a_incoming a_allowed a_candidates a_behind a_before a_nodeFor a_levelSpot a_levelLeft a_edgeLink chl ch (upd pke j (nI e)) := by
      intro e left chl ch he hleft hG'
      refine ih (pl + 1) left n (gp_st g (4 + j) e) _ chl ch _ (by omega) (by omega) (gx_Gd_s hnd hGd hj he) (fun hm => gx_Ue_s (hU hm) j4 he hgj) hleft (fun i j' hi hj' => ?_) hG'
      by_cases z : j' = j
      · subst z; rw [pk_us, gp_st_s]
      · have hne : i ≠ pl := by
          intro z2
          subst z2
          rw [hj] at hj'
          injection hj' with hj'
          exact z hj'.symm
        rw [pk_un z, gp_st_n (by omega)]
        exact hpk i j' (by omega) hj'
    refine pk_le ll.length pl (fun h => by omega) (fun _ => And.intro (vp_in_nI (by omega) (by omega)) ?_)
    rw [nI_clamp (n := pl) (by omega), el]
    refine nm_e (gx_edgesFor hE hj (And.intro (vp_in_nI hE.1 (by omega)) ?_))
    rw [nI_clamp (n := w) (by have := hE.1; omega)]
    refine br_c (fun z => ?_) (fun z => ?_)
    · have hm := hmd.mp z
      subst hm
      refine nm_r (gx_andm1 _) (Exists.intro 33 (gx_pk66 (G := G) hnd hE hmd hj hGd hU hJ _ left _ 33 chl ch rfl (fun e he => ?_) ?_ hleft ?_))
      · rw [gx_ed_bl hE j] at he
        have := gb_fl_m.mp he; omega
      · have := gb_bl_len (gb_mk (gp_ed al fr to la lb a j)); omega
      · rw [gx_ed_bl hE j, ← gp_ef_f l2 l4 hGd.1]
        exact hG2
    · have hm : md = true := by
        cases h : md
        · exact absurd (hmd.mpr h) z
        · rfl
      subst hm
      have hb := gx_ed_blT hE hj hGd.1 (hU rfl)
      refine nm_e (Exists.intro 33 (gx_pk66 (G := G) hnd hE hmd hj hGd hU hJ _ left _ 33 chl ch hb (fun e he => ?_) ?_ hleft hG2))
      · have := gb_fl_m.mp he; omega
      · have := gb_fl_len (gp_ef al fr to true la lb g (4 + j)) 20 0; omega
end
section
variable {f_nodeSet f_edgeSet f_sortedCount f_keptCount f_which f_inOrder f_total f_depth f_begun f_assigned f_usedNodes f_edgeLinks : Int32} {a_labelOf a_valueOf a_fromOf a_toOf a_typeOf a_weightOf a_firstPage a_pageUsed a_pageNext a_pageSize a_pageEdge a_labelled a_sorted a_modeOf a_spotSet a_spotLabels a_spotLeast a_spotGreatest a_linkSet a_linkFrom a_linkTo a_linkTypes a_linkKind a_outgoing a_incoming a_allowed a_candidates a_behind a_before a_nodeFor a_levelSpot a_levelLeft a_edgeLink a_choiceLeft a_choice a_pickedEdge : Nat → Int32}
variable {w tot : Nat} {io : Bool} {sp lk : Nat → Bool} {la lb : Nat → Nat} {cd : Nat → Nat → Bool} {cn : Nat → Nat → Nat → Bool} {md md2 : Bool} {ll : List Nat} {al : Nat → Nat → Bool} {eth : Nat → Bool} {fr to : Nat → Nat}
theorem gx_fd14 {post : Int32 → SX → Prop} (ht : tot = (gp_us sp (fun _ => 50)).length) (hio : f_inOrder = 0 ↔ io = false)
    (hC : gx_SC w sp lk la lb cd cn md f_nodeSet a_modeOf a_spotSet a_linkSet a_linkFrom a_linkTo a_candidates a_behind a_before) (hmd : (a_modeOf w &&& 2) = 0 ↔ md2 = false) (hnd : ll.Nodup)
    (hE : gx_E0 w sp ll la lb al eth fr to a_linkFrom a_linkTo a_outgoing a_incoming a_allowed a_edgeLink) :
    ∀ (R : List (Nat → Nat)) (left r n : Nat) (dp bg asg us : Int32) (nf lsp llf chl ch pke : Nat → Int32), gx_NS sp (gp_ft cd md lk la lb cn) (gp_pk io sp (gp_ft cd md lk la lb cn)) tot f_nodeSet bg asg us nf lsp llf R → R.length + r ≤ 20736 → R.length < n → left < 1000000 →
    ((R.flatMap (gp_Y (gp_ef al fr to md2 la lb) (gp_ps ll 0)))[left]? = none → ∀ dp bg asg us nf lsp llf chl ch pke, post 0 (f_nodeSet, f_edgeSet, f_sortedCount, f_keptCount, nI w, f_inOrder, nI tot, dp, bg, asg, us, nI ll.length, a_labelOf, a_valueOf, a_fromOf, a_toOf, a_typeOf, a_weightOf, a_firstPage, a_pageUsed, a_pageNext, a_pageSize, a_pageEdge, a_labelled, a_sorted, a_modeOf, a_spotSet, a_spotLabels, a_spotLeast, a_spotGreatest, a_linkSet, a_linkFrom, a_linkTo, a_linkTypes, a_linkKind, a_outgoing, a_incoming, a_allowed, a_candidates, a_behind, a_before, nf, lsp, llf, a_edgeLink, chl, ch, pke)) →
    (∀ G, (R.flatMap (gp_Y (gp_ef al fr to md2 la lb) (gp_ps ll 0)))[left]? = some G → ∀ dp bg asg us nf lsp llf chl ch pke, (∀ i, i < 4 → sp i = true → nf i = nI (G i)) → (∀ (i j : Nat), ll[i]? = some j → pke j = nI (G (4 + j))) → post 1 (f_nodeSet, f_edgeSet, f_sortedCount, f_keptCount, nI w, f_inOrder, nI tot, dp, bg, asg, us, nI ll.length, a_labelOf, a_valueOf, a_fromOf, a_toOf, a_typeOf, a_weightOf, a_firstPage, a_pageUsed, a_pageNext, a_pageSize, a_pageEdge, a_labelled, a_sorted, a_modeOf, a_spotSet, a_spotLabels, a_spotLeast, a_spotGreatest, a_linkSet, a_linkFrom, a_linkTo, a_linkTypes, a_linkKind, a_outgoing, a_incoming, a_allowed, a_candidates, a_behind, a_before, nf, lsp, llf, a_edgeLink, chl, ch, pke)) →
    wX_find_14 post n (nI left) (nI r) f_nodeSet f_edgeSet f_sortedCount f_keptCount (nI w) f_inOrder (nI tot) dp bg asg us (nI ll.length) a_labelOf a_valueOf a_fromOf a_toOf a_typeOf a_weightOf a_firstPage a_pageUsed a_pageNext a_pageSize a_pageEdge a_labelled a_sorted a_modeOf a_spotSet a_spotLabels a_spotLeast a_spotGreatest a_linkSet a_linkFrom a_linkTo a_linkTypes a_linkKind a_outgoing a_incoming a_allowed a_candidates a_behind a_before nf lsp llf a_edgeLink chl ch pke := by
  have hll := hE.2.1
  intro R
  induction R with
  | nil =>
    intro left r n dp bg asg us nf lsp llf chl ch pke hS hr hn hleft h0 h1
    obtain ⟨n, rfl⟩ := gx_S n (by omega)
    refine pk_le 20737 r (fun h => by simp at hr; omega) (fun _ => gx_nextNodes ht hio hC hS (fun _ dp bg asg us nf lsp llf => br_t rfl (h0 (by simp) _ _ _ _ _ _ _ _ _ _)) (fun b R' h => by cases h))
  | cons b R ih =>
    intro left r n dp bg asg us nf lsp llf chl ch pke hS hr hn hleft h0 h1
    obtain ⟨n, rfl⟩ := gx_S n (by omega)
    simp only [List.length_cons] at hr hn
    refine pk_le 20737 r (fun h => by omega) (fun _ => gx_nextNodes ht hio hC hS (fun h => by cases h) (fun b' R' h dp bg asg us nf lsp llf hS' hNd => br_f (by decide) ?_))
    injection h with e1 e2
    subst e1 e2
    have hEC := gx_E0_EC hE hNd
    refine gx_choicesFrom (pl := 0) (g := b) hnd hEC hmd (by omega) (gx_Nd_Gd ll hNd) (fun _ => gx_Nd_Ue hNd) (fun chl ch => ?_)
    refine pk_le _ left (fun h => ?_) (fun h => ?_) rfl rfl (gx_ylen md2 _ _ hll)
    · refine nm_r (pk_sub h) (nm_r (nI_1 r) (ih _ (r + 1) n dp bg asg us nf lsp llf chl ch pke hS' (by omega) (by omega) (by omega) (fun hz => h0 ?_) (fun G hG => h1 G ?_)))
      · rw [gp_ix_r h]; exact hz
      · rw [gp_ix_r h]; exact hG
    · obtain ⟨G, hG⟩ : ∃ G, (gp_Y (gp_ef al fr to md2 la lb) (gp_ps ll 0) b)[left]? = some G := ⟨_, List.getElem?_eq_getElem h⟩
      have hmem : G ∈ gp_Y (gp_ef al fr to md2 la lb) (gp_ps ll 0) b := List.mem_iff_getElem?.mpr ⟨left, hG⟩
      refine Exists.intro 5 (gx_pk7 (G := G) hnd hEC hmd (fun chl ch pke hpk => h1 G ?_ _ _ _ _ _ _ _ _ _ _ (fun i hi hsp => ?_) hpk) ll.length 0 left 5 b 0 chl ch pke (by omega) (by omega) (gx_Nd_Gd ll hNd) (fun _ => gx_Nd_Ue hNd) hleft (fun i j hi => by omega) hG)
      · rw [gp_ix_l h]; exact hG
      · have : G i = b i := gp_Y_k _ _ hmem i (fun hp => by obtain ⟨_, j, _, _, e⟩ := gp_ps_m.mp hp; omega)
        rw [this]
        exact (hNd.1 i hi hsp).1
end
end
section
/-! the reference's small methods -/
section
variable {f_base f_many : Int32} {a_nodeThere a_labels a_values a_edgeThere a_froms a_tos a_whats a_patterns a_parts a_chosen : Nat → Int32}
theorem gy_at {post : Int32 → Prop} {x : Int32} {b k : Nat} (hx : x = nI k) (hk : b + k < 66) (hp : post (a_patterns (b + k))) : wpY_at post (nI b, f_many, a_nodeThere, a_labels, a_values, a_edgeThere, a_froms, a_tos, a_whats, a_patterns, a_parts, a_chosen) x := by
  subst hx
  have e : nI b + nI k = nI (b + k) := nI_add b k
  refine And.intro ?_ ?_
  · rw [e]; exact vp_in_nI hk (by omega)
  · rw [e, nI_clamp (by omega)]; exact hp
theorem gy_isLinkB {A B : Prop} {b j : Nat} {x : Int32} (hj : j < 4) (hb : b + 33 ≤ 66) (h1 : a_patterns (b + (17 + j)) = 1 → a_patterns (b + (29 + j)) = x → B) (h0 : ¬ (a_patterns (b + (17 + j)) = 1 ∧ a_patterns (b + (29 + j)) = x) → A) : wpY_isLink (fun r => (r = 0 → A) ∧ (¬ r = 0 → B)) (nI b, f_many, a_nodeThere, a_labels, a_values, a_edgeThere, a_froms, a_tos, a_whats, a_patterns, a_parts, a_chosen) (nI j) x := by
  unfold wpY_isLink
  refine gy_at (b := b) (k := 17 + j) (nI_add 17 j) (by omega) (br_c (fun z => ?_) (fun z => br_t rfl (h0 (fun h => z h.1))))
  refine gy_at (b := b) (k := 29 + j) (nI_add 29 j) (by omega) (br_c (fun y => ?_) (fun y => br_t rfl (h0 (fun h => y h.2))))
  exact br_f (by decide) (h1 z y)
theorem gy_isNode {post : Int32 → Prop} {x : Int32} (h1 : ∀ i, i < 12 → x = nI i → ¬ a_nodeThere i = 0 → post 1) (h0 : (∀ i, i < 12 → x = nI i → a_nodeThere i = 0) → post 0) : wpY_isNode post (f_base, f_many, a_nodeThere, a_labels, a_values, a_edgeThere, a_froms, a_tos, a_whats, a_patterns, a_parts, a_chosen) x := by
  rcases pk_ix x (n := 12) (by omega) with h | h | ⟨i, hi, rfl⟩
  · refine br_t h (h0 (fun i hi e => ?_))
    rw [e] at h
    exact absurd h (nI_pos (by omega))
  · have hn : ¬ x < 0 := by
      intro z
      rw [Int32.lt_iff_toInt_lt] at z
      rw [Int32.le_iff_toInt_le, nI_toInt (by omega)] at h
      have : (0 : Int32).toInt = 0 := by decide
      omega
    refine br_f hn (br_t h (h0 (fun i hi e => ?_)))
    rw [e] at h
    exact absurd h (nI_ge hi (by omega))
  · refine br_f (nI_pos (by omega)) (pk_le 12 i (fun h => by omega) (fun _ => And.intro (vp_in_nI hi (by omega)) ?_))
    rw [nI_clamp (n := i) (by omega)]
    refine br_c (fun z => h0 (fun k hk e => ?_)) (fun z => h1 i hi rfl z)
    have : i = k := (nI_eq (by omega) (by omega)).mp e
    subst this; exact z
theorem gy_rem3 {a : Nat} (h : a < 1000) : nI a - nI a / 3 * 3 = nI (a % 3) := by
  rw [show (3 : Int32) = nI 3 from rfl]
  exact pk_rem (by omega) (by omega) (by omega)
theorem gy_rem4 {a : Nat} (h : a < 1000) : nI a - nI a / 4 * 4 = nI (a % 4) := by
  rw [show (4 : Int32) = nI 4 from rfl]
  exact pk_rem (by omega) (by omega) (by omega)
theorem gy_rem2 {a : Nat} (h : a < 1000) : nI a - nI a / 2 * 2 = nI (a % 2) := by
  rw [show (2 : Int32) = nI 2 from rfl]
  exact pk_rem (by omega) (by omega) (by omega)
theorem gy_div4 {a : Nat} (h : a < 1000) : nI a / 4 = nI (a / 4) := by
  rw [show (4 : Int32) = nI 4 from rfl]
  exact pk_div (by omega) (by omega) (by omega)
theorem gy_div3 {a : Nat} (h : a < 1000) : nI a / 3 = nI (a / 3) := by
  rw [show (3 : Int32) = nI 3 from rfl]
  exact pk_div (by omega) (by omega) (by omega)
def gy_Nz (a : Nat → Int32) (f : Nat → Bool) (N : Nat) : Prop := ∀ i, i < N → (a i = 0 ↔ f i = false)
theorem gy_typed {post : Int32 → Prop} {t : Int32} {e : Nat} {eth : Nat → Bool} {wh : Nat → Nat} (he : e < 20) (hE : gy_Nz a_edgeThere eth 20) (hw : gx_Nm a_whats wh 20 63) (h1 : (eth e && bt t (wh e % 3)) = true → post 1) (h0 : (eth e && bt t (wh e % 3)) = false → post 0) : wpY_typed post (f_base, f_many, a_nodeThere, a_labels, a_values, a_edgeThere, a_froms, a_tos, a_whats, a_patterns, a_parts, a_chosen) (nI e) t := by
  obtain ⟨w1, w2⟩ := hw e he
  refine And.intro (vp_in_nI he (by omega)) ?_
  rw [nI_clamp (n := e) (by omega)]
  refine br_c (fun z => h0 (by rw [(hE e he).mp z]; rfl)) (fun z => And.intro (vp_in_nI he (by omega)) (And.intro (by decide) ?_))
  have z1 : eth e = true := by
    cases h : eth e
    · exact absurd ((hE e he).mpr h) z
    · rfl
  rw [w1, gy_rem3 (by omega)]
  exact gb_br1 (wh e % 3) (by omega) (fun y => h1 (by rw [z1, y]; rfl)) (fun y => h0 (by rw [z1, y]; rfl))
theorem gy_step5 {post : Int32 → Prop} {x1 x2 : Int32} {eth : Nat → Bool} {wh fr to : Nat → Nat} (hE : gy_Nz a_edgeThere eth 20) (hw : gx_Nm a_whats wh 20 63) (hf : gx_Nm a_froms fr 20 12) (ht : gx_Nm a_tos to 20 12) : ∀ (d i : Nat) (acc : Int32) (n : Nat), i + d = 20 → d < n → (∀ r, (∀ m, m < 32 → bt r m = (bt acc m || gb_an (fun e => (eth e && bt x2 (wh e % 3)) && bt x1 (fr e) && decide (to e = m)) i d)) → post r) → wY_step_5 post x1 x2 f_base f_many a_nodeThere a_labels a_values a_edgeThere a_froms a_tos a_whats a_patterns a_parts a_chosen n acc (nI i) := by
  intro d
  induction d with
  | zero =>
    intro i acc n hi hn hp
    obtain ⟨n, rfl⟩ := gx_S n (by omega)
    refine pk_le 20 i (fun _ => hp acc (fun m _ => ?_)) (fun h => by omega)
    show bt acc m = (bt acc m || false)
    rw [Bool.or_false]
  | succ d ih =>
    intro i acc n hi hn hp
    obtain ⟨n, rfl⟩ := gx_S n (by omega)
    obtain ⟨f1, f2⟩ := hf i (by omega)
    obtain ⟨t1, t2⟩ := ht i (by omega)
    refine pk_le 20 i (fun h => by omega) (fun _ => gy_typed (by omega) hE hw (fun z => br_f (by decide) ?_) (fun z => br_t rfl ?_))
    · refine And.intro (vp_in_nI (by omega) (by omega)) ?_
      rw [nI_clamp (n := i) (by omega), f1]
      refine gb_br1 (fr i) (by omega) (fun y => And.intro (vp_in_nI (by omega) (by omega)) ?_) (fun y => ?_)
      · rw [t1]
        refine nm_e (nm_r (nI_1 i) (ih (i + 1) _ n (by omega) (by omega) (fun r hr => hp r (fun m hm => ?_))))
        rw [hr m hm, b_or, gb_one (by omega), Bool.or_assoc]
        show _ = (bt acc m || (((eth i && bt x2 (wh i % 3)) && bt x1 (fr i) && decide (to i = m)) || _))
        rw [z, y]
        have : decide (m = to i) = decide (to i = m) := by
          by_cases e : m = to i
          · rw [decide_eq_true e, decide_eq_true e.symm]
          · rw [decide_eq_false e, decide_eq_false (fun h => e h.symm)]
        rw [this]; simp
      · refine nm_r (nI_1 i) (ih (i + 1) _ n (by omega) (by omega) (fun r hr => hp r (fun m hm => ?_)))
        rw [hr m hm]
        show _ = (bt acc m || (((eth i && bt x2 (wh i % 3)) && bt x1 (fr i) && decide (to i = m)) || _))
        rw [y]; simp
    · refine nm_r (nI_1 i) (ih (i + 1) _ n (by omega) (by omega) (fun r hr => hp r (fun m hm => ?_)))
      rw [hr m hm]
      show _ = (bt acc m || (((eth i && bt x2 (wh i % 3)) && bt x1 (fr i) && decide (to i = m)) || _))
      rw [z]; simp
theorem gy_step {post : Int32 → Prop} {x1 x2 : Int32} {eth : Nat → Bool} {wh fr to : Nat → Nat} (hE : gy_Nz a_edgeThere eth 20) (hw : gx_Nm a_whats wh 20 63) (hf : gx_Nm a_froms fr 20 12) (ht : gx_Nm a_tos to 20 12) (hp : post (gb_mk (gp_stp (fun e => eth e && bt x2 (wh e % 3)) fr to (bt x1)))) : wpY_step post (f_base, f_many, a_nodeThere, a_labels, a_values, a_edgeThere, a_froms, a_tos, a_whats, a_patterns, a_parts, a_chosen) x1 x2 := by
  refine Exists.intro 21 (gy_step5 hE hw hf ht 20 0 0 21 rfl (by omega) (fun r hr => ?_))
  have e : r = gb_mk (gp_stp (fun e => eth e && bt x2 (wh e % 3)) fr to (bt x1)) := gb_mk_of (fun m hm => by rw [hr m hm, b_0, Bool.false_or]; rfl)
  rw [e]; exact hp
theorem gy_ways11 {post : Int32 → Prop} {x2 : Int32} {k : Nat} {eth : Nat → Bool} {wh fr to : Nat → Nat} (hk : k < 100) (hE : gy_Nz a_edgeThere eth 20) (hw : gx_Nm a_whats wh 20 63) (hf : gx_Nm a_froms fr 20 12) (ht : gx_Nm a_tos to 20 12) : ∀ (d i : Nat) (x4 x5 : Int32) (n : Nat), i + d = k → d < n → (∀ r, (∀ m, m < 32 → bt r m = (bt x4 m || gp_rc (fun e => eth e && bt x2 (wh e % 3)) fr to d (bt x5) m)) → post r) → wY_ways_11 post x2 (nI k) f_base f_many a_nodeThere a_labels a_values a_edgeThere a_froms a_tos a_whats a_patterns a_parts a_chosen n x4 x5 (nI i) := by
  intro d
  induction d with
  | zero =>
    intro i x4 x5 n hi hn hp
    obtain ⟨n, rfl⟩ := gx_S n (by omega)
    refine pk_le k i (fun _ => hp x4 (fun m _ => ?_)) (fun h => by omega)
    show bt x4 m = (bt x4 m || false)
    rw [Bool.or_false]
  | succ d ih =>
    intro i x4 x5 n hi hn hp
    obtain ⟨n, rfl⟩ := gx_S n (by omega)
    refine pk_le k i (fun h => by omega) (fun _ => gy_step hE hw hf ht ?_)
    refine nm_e (nm_r (nI_1 i) (ih (i + 1) _ _ n (by omega) (by omega) (fun r hr => hp r (fun m hm => ?_))))
    rw [hr m hm, b_or, gb_mk_l _ hm, Bool.or_assoc]
    show _ = (bt x4 m || (gp_stp _ fr to (bt x5) m || gp_rc _ fr to d (gp_stp _ fr to (bt x5)) m))
    rw [gp_rc_c (fun e _ => rfl) (fun e he => (hf e he).2) d (S' := gp_stp (fun e => eth e && bt x2 (wh e % 3)) fr to (bt x5)) (fun q hq => gb_mk_l _ (by omega)) m]
theorem gy_ways {post : Int32 → Prop} {x2 : Int32} {s k : Nat} {eth : Nat → Bool} {wh fr to : Nat → Nat} (hs : s < 12) (hk : k < 100) (hE : gy_Nz a_edgeThere eth 20) (hw : gx_Nm a_whats wh 20 63) (hf : gx_Nm a_froms fr 20 12) (ht : gx_Nm a_tos to 20 12) (hp : post (gb_mk (gp_rc (fun e => eth e && bt x2 (wh e % 3)) fr to k (fun n => decide (n = s))))) : wpY_ways post (f_base, f_many, a_nodeThere, a_labels, a_values, a_edgeThere, a_froms, a_tos, a_whats, a_patterns, a_parts, a_chosen) (nI s) x2 (nI k) := by
  refine nm_e (Exists.intro (k + 1) (gy_ways11 hk hE hw hf ht k 0 0 _ (k + 1) (by omega) (by omega) (fun r hr => ?_)))
  have e : r = gb_mk (gp_rc (fun e => eth e && bt x2 (wh e % 3)) fr to k (fun n => decide (n = s))) := by
    apply gb_mk_of
    intro m hm
    rw [hr m hm, b_0, Bool.false_or]
    exact gp_rc_c (fun e _ => rfl) (fun e he => (hf e he).2) k (fun n _ => gb_one (by omega) n) m
  rw [e]; exact hp
/-! place -/
def gy_Pl (pl : List Nat) (parts : Nat → Int32) : Prop := pl.length ≤ 8 ∧ pl.Nodup ∧ ∀ (k p : Nat), pl[k]? = some p → parts k = nI p ∧ p < 8
theorem gy_place2 {post : Int32 → Prop} {pl : List Nat} {p k0 : Nat} (hP : gy_Pl pl a_parts) (hp8 : p < 8) (hk0 : k0 ≤ pl.length) (h1 : ∀ i q, i < k0 → pl[i]? = some q → q ≠ p) (h2 : k0 < pl.length → pl[k0]? = some p) (hp : post (nI k0)) : ∀ (d i n : Nat), i + d = k0 → d < n → wY_place_2 post (nI p) f_base (nI pl.length) a_nodeThere a_labels a_values a_edgeThere a_froms a_tos a_whats a_patterns a_parts a_chosen n (nI i) := by
  obtain ⟨q1, q2, q3⟩ := hP
  intro d
  induction d with
  | zero =>
    intro i n hi hn
    obtain ⟨n, rfl⟩ := gx_S n (by omega)
    have : i = k0 := by omega
    subst this
    refine pk_le pl.length i (fun _ => hp) (fun h => And.intro (vp_in_nI (by omega) (by omega)) ?_)
    rw [nI_clamp (n := i) (by omega), (q3 i p (h2 h)).1]
    exact br_t rfl hp
  | succ d ih =>
    intro i n hi hn
    obtain ⟨n, rfl⟩ := gx_S n (by omega)
    obtain ⟨q, hq⟩ : ∃ q, pl[i]? = some q := ⟨_, List.getElem?_eq_getElem (by omega)⟩
    obtain ⟨e1, e2⟩ := q3 i q hq
    refine pk_le pl.length i (fun h => by omega) (fun h => And.intro (vp_in_nI (by omega) (by omega)) ?_)
    rw [nI_clamp (n := i) (by omega), e1]
    refine br_f ?_ (nm_r (nI_1 i) (ih (i + 1) n (by omega) (by omega)))
    rw [nI_eq (by omega) (by omega)]
    exact h1 i q (by omega) hq
theorem gy_place {post : Int32 → Prop} {pl : List Nat} {p k0 : Nat} (hP : gy_Pl pl a_parts) (hk0 : pl[k0]? = some p) (hp : post (nI k0)) : wpY_place post (f_base, nI pl.length, a_nodeThere, a_labels, a_values, a_edgeThere, a_froms, a_tos, a_whats, a_patterns, a_parts, a_chosen) (nI p) := by
  have hlt := (List.getElem?_eq_some_iff.mp hk0).1
  refine Exists.intro (k0 + 1) (gy_place2 hP (hP.2.2 k0 p hk0).2 (by omega) (fun i q hi hq e => ?_) (fun _ => hk0) hp k0 0 (k0 + 1) (by omega) (by omega))
  subst e
  have := gx_len_nd hP.2.1 hq hk0
  omega
theorem gy_placeN {post : Int32 → Prop} {pl : List Nat} {p : Nat} (hP : gy_Pl pl a_parts) (hp8 : p < 8) (hn : p ∉ pl) (hp : post (nI pl.length)) : wpY_place post (f_base, nI pl.length, a_nodeThere, a_labels, a_values, a_edgeThere, a_froms, a_tos, a_whats, a_patterns, a_parts, a_chosen) (nI p) := by
  refine Exists.intro (pl.length + 1) (gy_place2 hP hp8 (Nat.le_refl _) (fun i q hi hq e => ?_) (fun h => by omega) hp pl.length 0 (pl.length + 1) (by omega) (by omega))
  subst e
  exact hn (List.mem_iff_getElem?.mpr ⟨i, hq⟩)
end
end
section
/-! fits -/
def gy_PT (b mode : Nat) (sp lk kd : Nat → Bool) (la lb : Nat → Nat) (tys labs lst grt : Nat → Int32) (pat : Nat → Int32) : Prop :=
  mode < 4 ∧ pat (b + 0) = nI mode ∧ (∀ i, i < 4 → pat (b + (1 + i)) = if sp i then 1 else 0) ∧ (∀ i, i < 4 → sp i = true → pat (b + (5 + i)) = labs i ∧ pat (b + (9 + i)) = lst i ∧ pat (b + (13 + i)) = grt i) ∧
  (∀ j, j < 4 → pat (b + (17 + j)) = if lk j then 1 else 0) ∧ (∀ j, j < 4 → lk j = true → pat (b + (21 + j)) = nI (la j + 4 * lb j) ∧ la j < 4 ∧ lb j < 4 ∧ sp (la j) = true ∧ sp (lb j) = true ∧ pat (b + (25 + j)) = tys j ∧ pat (b + (29 + j)) = if kd j then 1 else 0) ∧
  (∀ i, 4 ≤ i → sp i = false ∧ lk i = false)
def gp_sd (pl : List Nat) (k : Nat) : Nat := (pl[k]?).getD 0
theorem gp_sd_s {pl : List Nat} {k : Nat} (h : k < pl.length) : pl[k]? = some (gp_sd pl k) := by
  unfold gp_sd
  rw [List.getElem?_eq_getElem h]; rfl
theorem gp_sd_e {pl : List Nat} {k p : Nat} (h : pl[k]? = some p) : gp_sd pl k = p := by
  unfold gp_sd
  rw [h]; rfl
theorem gp_sd_inj {pl : List Nat} (hnd : pl.Nodup) {i k : Nat} (hi : i < pl.length) (hk : k < pl.length) (h : gp_sd pl i = gp_sd pl k) : i = k := by
  have h1 := gp_sd_s hi
  have h2 := gp_sd_s hk
  rw [← h] at h2
  exact gx_len_nd hnd h1 h2
/-- nodes a spot may have -/
def gp_cd (sp th : Nat → Bool) (labs lst grt val : Nat → Int32) (lab : Nat → Nat) (i n : Nat) : Bool := sp i && (decide (n < 12) && th n && bt (labs i) (lab n) && decide (lst i ≤ val n) && decide (val n ≤ grt i))
/-- the parts of a pattern, in order -/
def gp_pl (sp lk kd : Nat → Bool) : List Nat := gp_us sp (fun _ => 50) ++ gp_lp lk kd
theorem gp_pl_nd (sp lk kd : Nat → Bool) : (gp_pl sp lk kd).Nodup := by
  unfold gp_pl
  rw [List.nodup_append]
  refine ⟨gp_us_nd _ _, gp_lp_nd _ _, fun a ha b hb e => ?_⟩
  have h1 := (gp_us_m.mp ha).1
  obtain ⟨j, h2, _⟩ := gp_lp_m.mp hb
  omega
theorem gp_pl_len (sp lk kd : Nat → Bool) : (gp_pl sp lk kd).length ≤ 8 := by
  unfold gp_pl
  rw [List.length_append]
  have h1 : (gp_us sp (fun _ => 50)).length ≤ 4 := gb_fl_len _ _ _
  have h2 := gp_lp_len lk kd
  omega
theorem gp_pl_m {sp lk kd : Nat → Bool} {p : Nat} : p ∈ gp_pl sp lk kd ↔ (p < 4 ∧ sp p = true) ∨ (∃ j, p = 4 + j ∧ j < 4 ∧ lk j = true ∧ kd j = false) := by
  unfold gp_pl
  rw [List.mem_append, gp_us_m, gp_lp_m]
  constructor
  · rintro (⟨a, b, _⟩ | h)
    · exact Or.inl ⟨a, b⟩
    · exact Or.inr h
  · rintro (⟨a, b⟩ | h)
    · exact Or.inl ⟨a, b, rfl⟩
    · exact Or.inr h
theorem gp_pl_lt {sp lk kd : Nat → Bool} {p : Nat} (h : p ∈ gp_pl sp lk kd) : p < 8 := by
  rcases gp_pl_m.mp h with h | ⟨j, rfl, hj, _⟩ <;> omega
/-- spots come ahead of links -/
theorem gp_pl_ord {sp lk kd : Nat → Bool} {k l p q : Nat} (hk : (gp_pl sp lk kd)[k]? = some p) (hl : (gp_pl sp lk kd)[l]? = some q) (hp : p < 4) (hq : 4 ≤ q) : k < l := by
  unfold gp_pl at hk hl
  have h1 : k < (gp_us sp (fun _ => 50)).length := by
    rcases Nat.lt_or_ge k (gp_us sp (fun _ => 50)).length with h | h
    · exact h
    · rw [List.getElem?_append_right h] at hk
      obtain ⟨j, e, _⟩ := gp_lp_m.mp (List.mem_iff_getElem?.mpr ⟨_, hk⟩)
      omega
  have h2 : (gp_us sp (fun _ => 50)).length ≤ l := by
    rcases Nat.lt_or_ge l (gp_us sp (fun _ => 50)).length with h | h
    · rw [List.getElem?_append_left h] at hl
      have := (gp_us_m.mp (List.mem_iff_getElem?.mpr ⟨_, hl⟩)).1
      omega
    · exact h
  omega
theorem gp_pl_Pl {sp lk kd : Nat → Bool} {parts : Nat → Int32} (h : ∀ (k p : Nat), (gp_pl sp lk kd)[k]? = some p → parts k = nI p) : gy_Pl (gp_pl sp lk kd) parts :=
  ⟨gp_pl_len _ _ _, gp_pl_nd _ _ _, fun k p hk => ⟨h k p hk, gp_pl_lt (List.mem_iff_getElem?.mpr ⟨k, hk⟩)⟩⟩
section
variable {f_base f_many : Int32} {a_nodeThere a_labels a_values a_edgeThere a_froms a_tos a_whats a_patterns a_parts a_chosen : Nat → Int32}
variable {b mode l : Nat} {sp lk kd : Nat → Bool} {la lb v : Nat → Nat} {tys labs lst grt : Nat → Int32} {eth th : Nat → Bool} {wh fr to lab : Nat → Nat} {cn : Nat → Nat → Nat → Bool}
theorem gy_taken4 {post : Int32 → Prop} (hP : gy_Pl (gp_pl sp lk kd) a_parts) (hl : l < (gp_pl sp lk kd).length) (hc : ∀ k, k ≤ l → a_chosen k = nI (v k) ∧ v k < 20) : ∀ (d k : Nat) (bb : Bool) (n : Nat), k + d = l → d < n →
    ((bb || gb_an (fun k => decide (gp_sd (gp_pl sp lk kd) k / 4 = gp_sd (gp_pl sp lk kd) l / 4) && decide (v k = v l)) k d) = true → post 1) → ((bb || gb_an (fun k => decide (gp_sd (gp_pl sp lk kd) k / 4 = gp_sd (gp_pl sp lk kd) l / 4) && decide (v k = v l)) k d) = false → post 0) →
    wY_taken_4 post (nI l) f_base f_many a_nodeThere a_labels a_values a_edgeThere a_froms a_tos a_whats a_patterns a_parts a_chosen n (if bb then 1 else 0) (nI k) := by
  have h8 := hP.1
  obtain ⟨p1, p2⟩ := hP.2.2 l _ (gp_sd_s hl)
  intro d
  induction d with
  | zero =>
    intro k bb n hk hn h1 h0
    obtain ⟨n, rfl⟩ := gx_S n (by omega)
    refine pk_le l k (fun _ => ?_) (fun h => by omega)
    cases bb
    · exact And.intro rfl (h0 rfl)
    · exact And.intro rfl (h1 rfl)
  | succ d ih =>
    intro k bb n hk hn h1 h0
    obtain ⟨n, rfl⟩ := gx_S n (by omega)
    obtain ⟨q1, q2⟩ := hP.2.2 k _ (gp_sd_s (show k < (gp_pl sp lk kd).length by omega))
    obtain ⟨c1, c2⟩ := hc k (by omega)
    obtain ⟨d1, d2⟩ := hc l (by omega)
    refine pk_le l k (fun h => by omega) (fun _ => ?_)
    cases bb
    · refine br_t rfl (And.intro (vp_in_nI (by omega) (by omega)) (And.intro (by decide) (And.intro (vp_in_nI (by omega) (by omega)) (And.intro (by decide) ?_))))
      rw [nI_clamp (n := k) (by omega), nI_clamp (n := l) (by omega), q1, p1, c1, d1, gy_div4 (by omega), gy_div4 (by omega)]
      refine pk_eq _ _ (fun e => ?_) (fun e => ?_)
      · refine And.intro (vp_in_nI (by omega) (by omega)) (And.intro (vp_in_nI (by omega) (by omega)) (pk_eq _ _ (fun e2 => ?_) (fun e2 => ?_)))
        · refine nm_r (nI_1 k) (ih (k + 1) true n (by omega) (by omega) (fun _ => h1 ?_) (fun h => by simp at h))
          show (false || ((decide (_ = _) && decide (v k = v l)) || _)) = true
          rw [decide_eq_true e, decide_eq_true e2]; simp
        · refine nm_r (nI_1 k) (ih (k + 1) false n (by omega) (by omega) (fun h => h1 ?_) (fun h => h0 ?_))
          · show (false || ((_ && decide (v k = v l)) || _)) = true
            rw [decide_eq_false e2]; simpa using h
          · show (false || ((_ && decide (v k = v l)) || _)) = false
            rw [decide_eq_false e2]; simpa using h
      · refine nm_r (nI_1 k) (ih (k + 1) false n (by omega) (by omega) (fun h => h1 ?_) (fun h => h0 ?_))
        · show (false || ((decide (_ = _) && decide (v k = v l)) || _)) = true
          rw [decide_eq_false e]; simpa using h
        · show (false || ((decide (_ = _) && decide (v k = v l)) || _)) = false
          rw [decide_eq_false e]; simpa using h
    · exact br_f (by decide) (nm_r (nI_1 k) (ih (k + 1) true n (by omega) (by omega) (fun _ => h1 rfl) (fun h => by simp at h)))
theorem gy_taken {post : Int32 → Prop} (hP : gy_Pl (gp_pl sp lk kd) a_parts) (hl : l < (gp_pl sp lk kd).length) (hc : ∀ k, k ≤ l → a_chosen k = nI (v k) ∧ v k < 20) (h1 : gb_an (fun k => decide (gp_sd (gp_pl sp lk kd) k / 4 = gp_sd (gp_pl sp lk kd) l / 4) && decide (v k = v l)) 0 l = true → post 1) (h0 : gb_an (fun k => decide (gp_sd (gp_pl sp lk kd) k / 4 = gp_sd (gp_pl sp lk kd) l / 4) && decide (v k = v l)) 0 l = false → post 0) : wpY_taken post (f_base, f_many, a_nodeThere, a_labels, a_values, a_edgeThere, a_froms, a_tos, a_whats, a_patterns, a_parts, a_chosen) (nI l) :=
  Exists.intro (l + 1) (gy_taken4 (v := v) hP hl hc l 0 false (l + 1) (by omega) (by omega) (fun h => h1 (by simpa using h)) (fun h => h0 (by simpa using h)))
theorem gp_lev {pl : List Nat} (hnd : pl.Nodup) {k l : Nat} (hl : l ≤ pl.length) (hv : ∀ k, k < l → v k < 20) (hk : k < pl.length) : (k < l → gp_g (gp_sd pl) v l (gp_sd pl k) = v k) ∧ (l ≤ k → gp_g (gp_sd pl) v l (gp_sd pl k) = 50) := by
  constructor
  · intro h
    exact gp_g_in (fun a b ha hb e => gp_sd_inj hnd (by omega) (by omega) e) h
  · intro h
    apply gp_g_out
    intro q hq e
    have := gp_sd_inj hnd (show q < pl.length by omega) hk e
    omega
/-- what 'taken' says of the choices so far -/
theorem gp_tk {pl : List Nat} (hnd : pl.Nodup) (hl : l < pl.length) (h8 : ∀ p, p ∈ pl → p < 8) (hv : ∀ k, k ≤ l → v k < 20) (off : Nat) (ho : off = 0 ∨ off = 4) (hd : gp_sd pl l / 4 = off / 4) : gb_an (fun k => decide (gp_sd pl k / 4 = gp_sd pl l / 4) && decide (v k = v l)) 0 l = false ↔ ∀ i, i < 4 → gp_g (gp_sd pl) v l (off + i) ≠ v l := by
  have hvl := hv l (Nat.le_refl _)
  rw [← Bool.not_eq_true, gb_an_iff]
  constructor
  · rintro h i hi e
    have hne : gp_g (gp_sd pl) v l (off + i) ≠ 50 := by omega
    have h50 : ¬ ∀ k, k < l → gp_sd pl k ≠ off + i := fun z => hne (gp_g_out z)
    obtain ⟨k, hk⟩ := Classical.not_forall.mp h50
    obtain ⟨hk1, hk2⟩ := Classical.not_imp.mp hk
    have hk3 : gp_sd pl k = off + i := Classical.not_not.mp hk2
    refine h ⟨k, by omega, by omega, ?_⟩
    rw [Bool.and_eq_true, decide_eq_true_eq, decide_eq_true_eq]
    constructor
    · rw [hk3, hd]
      omega
    · rw [← e, ← hk3, (gp_lev hnd (by omega) (fun q hq => hv q (by omega)) (by omega)).1 hk1]
  · rintro h ⟨k, _, hk, hk2⟩
    rw [Bool.and_eq_true, decide_eq_true_eq, decide_eq_true_eq] at hk2
    have hk8 : gp_sd pl k < 8 := h8 _ (List.mem_iff_getElem?.mpr ⟨k, gp_sd_s (by omega)⟩)
    have hi : gp_sd pl k - off < 4 ∧ off + (gp_sd pl k - off) = gp_sd pl k := by
      rw [hd] at hk2
      omega
    apply h (gp_sd pl k - off) hi.1
    rw [hi.2, (gp_lev hnd (by omega) (fun q hq => hv q (by omega)) (by omega)).1 (by omega)]
    exact hk2.2
theorem gy_waysAt4 {post : Int32 → Prop} {i : Nat} (hb : b + 33 ≤ 66) (hPT : gy_PT b mode sp lk kd la lb tys labs lst grt a_patterns) (hP : gy_Pl (gp_pl sp lk kd) a_parts) (hE : gy_Nz a_edgeThere eth 20) (hw : gx_Nm a_whats wh 20 63) (hf : gx_Nm a_froms fr 20 12) (ht : gx_Nm a_tos to 20 12)
    (hcn : ∀ j n m, j < 4 → lk j = true → kd j = true → cn j n m = gp_rc (fun e => eth e && bt (tys j) (wh e % 3)) fr to 3 (fun q => decide (q = n)) m)
    (hl : l < (gp_pl sp lk kd).length) (hi : gp_sd (gp_pl sp lk kd) l = i) (hc : ∀ k, k ≤ l → a_chosen k = nI (v k) ∧ v k < gp_lim (gp_sd (gp_pl sp lk kd) k))
    (h1 : gb_al (fun j => gp_lo (fun j => lk j && kd j) la lb cn i (gp_g (gp_sd (gp_pl sp lk kd)) v (l + 1)) j) 0 4 = true → post 1) (h0 : gb_al (fun j => gp_lo (fun j => lk j && kd j) la lb cn i (gp_g (gp_sd (gp_pl sp lk kd)) v (l + 1)) j) 0 4 = false → post 0) :
    ∀ (d j : Nat) (bb : Bool) (n : Nat), j + d = 4 → d < n → bb = gb_al (fun j => gp_lo (fun j => lk j && kd j) la lb cn i (gp_g (gp_sd (gp_pl sp lk kd)) v (l + 1)) j) 0 j →
    wY_waysAt_4 post (nI l) (nI b) (nI (gp_pl sp lk kd).length) a_nodeThere a_labels a_values a_edgeThere a_froms a_tos a_whats a_patterns a_parts a_chosen n (if bb then 1 else 0) (nI j) := by
  obtain ⟨m4, p0, psp, pso, plk, pll, pout⟩ := hPT
  have h8 := hP.1
  have hnd := hP.2.1
  have hl20 : ∀ p, gp_lim p ≤ 20 := fun p => by unfold gp_lim; split <;> omega
  have hv20 : ∀ k, k < l + 1 → v k < 20 := fun k hk => by have := (hc k (by omega)).2; have := hl20 (gp_sd (gp_pl sp lk kd) k); omega
  intro d
  induction d with
  | zero =>
    intro j bb n hj hn hbb
    obtain ⟨n, rfl⟩ := gx_S n (by omega)
    have : j = 4 := by omega
    subst this
    refine pk_le 4 4 (fun _ => ?_) (fun h => by omega)
    cases bb
    · exact And.intro rfl (h0 hbb.symm)
    · exact And.intro rfl (h1 hbb.symm)
  | succ d ih =>
    intro j bb n hj hn hbb
    obtain ⟨n, rfl⟩ := gx_S n (by omega)
    refine pk_le 4 j (fun h => by omega) (fun _ => ?_)
    cases bb
    · refine br_t rfl (And.intro rfl (h0 ?_))
      cases hc4 : gb_al (fun j => gp_lo (fun j => lk j && kd j) la lb cn i (gp_g (gp_sd (gp_pl sp lk kd)) v (l + 1)) j) 0 4
      · rfl
      · have : gb_al (fun j => gp_lo (fun j => lk j && kd j) la lb cn i (gp_g (gp_sd (gp_pl sp lk kd)) v (l + 1)) j) 0 j = true := gb_al_iff.mpr (fun t t1 t2 => gb_al_iff.mp hc4 t t1 (by omega))
        rw [this] at hbb; cases hbb
    · have hj4 : j < 4 := by omega
      have next : ∀ b1, b1 = gp_lo (fun j => lk j && kd j) la lb cn i (gp_g (gp_sd (gp_pl sp lk kd)) v (l + 1)) j → wY_waysAt_4 post (nI l) (nI b) (nI (gp_pl sp lk kd).length) a_nodeThere a_labels a_values a_edgeThere a_froms a_tos a_whats a_patterns a_parts a_chosen n (if b1 then 1 else 0) (nI (j + 1)) := by
        intro b1 hb1
        refine ih (j + 1) b1 n (by omega) (by omega) ?_
        rw [gb_al_s, ← hbb, Bool.true_and, Nat.zero_add]; exact hb1
      refine br_f (by decide) (gy_isLinkB hj4 hb (fun z1 z2 => ?_) (fun z => nm_r (nI_1 j) (next true ?_)))
      · have hlk : lk j = true := by
          cases h : lk j
          · rw [plk j hj4, h] at z1; exact absurd z1 (by decide)
          · rfl
        obtain ⟨q1, q2, q3, q4, q5, q6, q7⟩ := pll j hj4 hlk
        have hkd : kd j = true := by
          cases h : kd j
          · rw [q7, h] at z2; exact absurd z2 (by decide)
          · rfl
        obtain ⟨ka, hka⟩ := List.mem_iff_getElem?.mp (gp_pl_m.mpr (Or.inl ⟨q2, q4⟩) : la j ∈ gp_pl sp lk kd)
        obtain ⟨kb, hkb⟩ := List.mem_iff_getElem?.mp (gp_pl_m.mpr (Or.inl ⟨q3, q5⟩) : lb j ∈ gp_pl sp lk kd)
        have lka := (List.getElem?_eq_some_iff.mp hka).1
        have lkb := (List.getElem?_eq_some_iff.mp hkb).1
        have ska := gp_sd_e hka
        have skb := gp_sd_e hkb
        have hga := gp_lev (v := v) hnd (show l + 1 ≤ (gp_pl sp lk kd).length by omega) hv20 lka
        have hgb := gp_lev (v := v) hnd (show l + 1 ≤ (gp_pl sp lk kd).length by omega) hv20 lkb
        rw [ska] at hga
        rw [skb] at hgb
        -- not now
        have notnow : (l < ka ∨ l < kb ∨ (ka ≠ l ∧ kb ≠ l)) → wY_waysAt_82 post (wY_waysAt_4 post (nI l) (nI b) (nI (gp_pl sp lk kd).length) a_nodeThere a_labels a_values a_edgeThere a_froms a_tos a_whats a_patterns a_parts a_chosen n) (nI l) (nI j) (nI ka) (nI kb) (nI b) (nI (gp_pl sp lk kd).length) a_nodeThere a_labels a_values a_edgeThere a_froms a_tos a_whats a_patterns a_parts a_chosen := by
          intro hnn
          refine br_t rfl (nm_r (nI_1 j) (next true ?_))
          symm
          refine gp_lo_iff.mpr (fun _ w2 w3 w4 => ?_)
          rcases hnn with h | h | h
          · exact absurd (hga.2 (by omega)) w3
          · exact absurd (hgb.2 (by omega)) w4
          · rcases w2 with e | e
            · exact absurd (gp_sd_inj hnd lka hl (by rw [ska, hi]; exact e)) h.1
            · exact absurd (gp_sd_inj hnd lkb hl (by rw [skb, hi]; exact e)) h.2
        -- now
        have now : ka ≤ l → kb ≤ l → (ka = l ∨ kb = l) → wY_waysAt_78 post (wY_waysAt_4 post (nI l) (nI b) (nI (gp_pl sp lk kd).length) a_nodeThere a_labels a_values a_edgeThere a_froms a_tos a_whats a_patterns a_parts a_chosen n) (nI l) (nI j) (nI ka) (nI kb) (nI b) (nI (gp_pl sp lk kd).length) a_nodeThere a_labels a_values a_edgeThere a_froms a_tos a_whats a_patterns a_parts a_chosen := by
          intro h1 h2 h3
          obtain ⟨ca, va⟩ := hc ka h1
          obtain ⟨cb, vb⟩ := hc kb h2
          rw [ska, show gp_lim (la j) = 12 from if_pos q2] at va
          rw [skb, show gp_lim (lb j) = 12 from if_pos q3] at vb
          have ga := hga.1 (by omega)
          have gb := hgb.1 (by omega)
          refine br_f (by decide) (And.intro (vp_in_nI (by omega) (by omega)) ?_)
          rw [nI_clamp (n := ka) (by omega), ca]
          refine gy_at (b := b) (k := 25 + j) (nI_add 25 j) (by omega) ?_
          rw [q6]
          refine gy_ways (k := 3) va (by omega) hE hw hf ht (And.intro (vp_in_nI (by omega) (by omega)) ?_)
          rw [nI_clamp (n := kb) (by omega), cb]
          have hlo : gp_lo (fun j => lk j && kd j) la lb cn i (gp_g (gp_sd (gp_pl sp lk kd)) v (l + 1)) j = bt (gb_mk (gp_rc (fun e => eth e && bt (tys j) (wh e % 3)) fr to 3 (fun n => decide (n = v ka)))) (v kb) := by
            rw [gb_mk_l _ (by omega), ← hcn j _ _ hj4 hlk hkd]
            apply gb_bool
            rw [gp_lo_iff, ga, gb]
            constructor
            · intro h
              refine h (by rw [hlk, hkd]; rfl) ?_ (by omega) (by omega)
              rcases h3 with e | e
              · left; rw [← ska, e]; exact hi
              · right; rw [← skb, e]; exact hi
            · intro h _ _ _ _
              exact h
          refine gb_br1 (v kb) (by omega) (fun y => nm_r (nI_1 j) (next true ?_)) (fun y => nm_r (nI_1 j) (next false ?_))
          · rw [hlo, y]
          · rw [hlo, y]
        refine gy_at (b := b) (k := 21 + j) (nI_add 21 j) (by omega) (And.intro (by decide) ?_)
        rw [q1, gy_rem4 (by omega), show (la j + 4 * lb j) % 4 = la j from by omega]
        refine gy_place hP hka ?_
        refine gy_at (b := b) (k := 21 + j) (nI_add 21 j) (by omega) (And.intro (by decide) ?_)
        rw [q1, gy_div4 (by omega), show (la j + 4 * lb j) / 4 = lb j from by omega]
        refine gy_place hP hkb ?_
        refine pk_lt l ka (fun h => notnow (Or.inl h)) (fun h => pk_lt l kb (fun h' => notnow (Or.inr (Or.inl h'))) (fun h' => pk_eq ka l (fun e => now h h' (Or.inl e)) (fun e => pk_eq kb l (fun e' => now h h' (Or.inr e')) (fun e' => notnow (Or.inr (Or.inr ⟨e, e'⟩))))))
      · symm
        refine gp_lo_iff.mpr (fun w1 _ _ _ => ?_)
        rw [Bool.and_eq_true] at w1
        exfalso
        apply z
        obtain ⟨_, _, _, _, _, _, q7⟩ := pll j hj4 w1.1
        rw [plk j hj4, w1.1, q7, w1.2]
        exact ⟨rfl, rfl⟩
end
end
section
/-! fits as a whole, raise -/
/-- what the reference's search stands on -/
def gy_SC (b mode : Nat) (sp lk kd : Nat → Bool) (la lb : Nat → Nat) (tys labs lst grt : Nat → Int32) (th eth : Nat → Bool) (lab wh fr to : Nat → Nat) (nth lbs ets frs tos whs pat parts : Nat → Int32) : Prop :=
  b + 33 ≤ 66 ∧ gy_PT b mode sp lk kd la lb tys labs lst grt pat ∧ gy_Pl (gp_pl sp lk kd) parts ∧ gy_Nz nth th 12 ∧ gx_Nm lbs lab 12 4 ∧ gy_Nz ets eth 20 ∧ gx_Nm whs wh 20 63 ∧ gx_Nm frs fr 20 12 ∧ gx_Nm tos to 20 12
def gp_al (lk eth : Nat → Bool) (tys : Nat → Int32) (wh : Nat → Nat) (j e : Nat) : Bool := decide (e < 20) && lk j && eth e && bt (tys j) (wh e % 3)
def gp_cn (al : Nat → Nat → Bool) (kd : Nat → Bool) (fr to : Nat → Nat) (j n m : Nat) : Bool := gp_rc (al j) fr to (if kd j then 3 else 1) (fun q => decide (q = n)) m
/-- what the reference asks of one choice -/
def gy_ft (mode : Nat) (sp lk kd : Nat → Bool) (la lb : Nat → Nat) (tys labs lst grt : Nat → Int32) (th eth : Nat → Bool) (lab wh fr to : Nat → Nat) (val : Nat → Int32) : (Nat → Nat) → Nat → Nat → Bool :=
  gp_fa (gp_ft (gp_cd sp th labs lst grt val lab) (decide (mode % 2 = 1)) (fun j => lk j && kd j) la lb (gp_cn (gp_al lk eth tys wh) kd fr to)) (gp_ef (gp_al lk eth tys wh) fr to (decide (2 ≤ mode)) la lb)
section
variable {f_base f_many : Int32} {a_nodeThere a_labels a_values a_edgeThere a_froms a_tos a_whats a_patterns a_parts a_chosen : Nat → Int32}
variable {b mode l : Nat} {sp lk kd : Nat → Bool} {la lb v : Nat → Nat} {tys labs lst grt : Nat → Int32} {th eth : Nat → Bool} {lab wh fr to : Nat → Nat}
theorem gy_fits {post : Int32 → Prop} (hC : gy_SC b mode sp lk kd la lb tys labs lst grt th eth lab wh fr to a_nodeThere a_labels a_edgeThere a_froms a_tos a_whats a_patterns a_parts)
    (hl : l < (gp_pl sp lk kd).length) (hc : ∀ k, k ≤ l → a_chosen k = nI (v k) ∧ v k < gp_lim (gp_sd (gp_pl sp lk kd) k))
    (h1 : gy_ft mode sp lk kd la lb tys labs lst grt th eth lab wh fr to a_values (gp_g (gp_sd (gp_pl sp lk kd)) v l) (gp_sd (gp_pl sp lk kd) l) (v l) = true → post 1)
    (h0 : gy_ft mode sp lk kd la lb tys labs lst grt th eth lab wh fr to a_values (gp_g (gp_sd (gp_pl sp lk kd)) v l) (gp_sd (gp_pl sp lk kd) l) (v l) = false → post 0) : wpY_fits post (nI b, nI (gp_pl sp lk kd).length, a_nodeThere, a_labels, a_values, a_edgeThere, a_froms, a_tos, a_whats, a_patterns, a_parts, a_chosen) (nI l) := by
  obtain ⟨hb, hPT, hP, hN, hLb, hE, hw, hf, ht⟩ := hC
  have hPT0 := hPT
  obtain ⟨m4, p0, psp, pso, plk, pll, pout⟩ := hPT
  have h8 := hP.1
  have hnd := hP.2.1
  obtain ⟨sp1, sp2⟩ := hP.2.2 l _ (gp_sd_s hl)
  obtain ⟨cl, vl⟩ := hc l (Nat.le_refl _)
  have hl20 : ∀ p, gp_lim p ≤ 20 := fun p => by unfold gp_lim; split <;> omega
  have hv20 : ∀ k, k ≤ l → v k < 20 := fun k hk => by have := (hc k (by omega)).2; have := hl20 (gp_sd (gp_pl sp lk kd) k); omega
  have hmem : gp_sd (gp_pl sp lk kd) l ∈ gp_pl sp lk kd := List.mem_iff_getElem?.mpr ⟨l, gp_sd_s hl⟩
  have hin8 : vp_in (nI l) 8 := vp_in_nI (by omega) (by omega)
  refine And.intro hin8 ?_
  rw [nI_clamp (n := l) (by omega), sp1, cl]
  refine nm_e (And.intro hin8 (nm_e ?_))
  rcases gp_pl_m.mp hmem with ⟨i4, hsp⟩ | ⟨j, ej, j4, hlk, hkd⟩
  · -- a spot
    generalize hi : gp_sd (gp_pl sp lk kd) l = i at *
    have vl12 : v l < 12 := by rw [show gp_lim i = 12 from if_pos i4] at vl; exact vl
    obtain ⟨o1, o2, o3⟩ := pso i i4 hsp
    obtain ⟨lb1, lb2⟩ := hLb (v l) vl12
    have hin12 : vp_in (nI (v l)) 12 := vp_in_nI vl12 (by omega)
    have eft : gy_ft mode sp lk kd la lb tys labs lst grt th eth lab wh fr to a_values (gp_g (gp_sd (gp_pl sp lk kd)) v l) i (v l) = (gp_cd sp th labs lst grt a_values lab i (v l) && (!(decide (mode % 2 = 1)) || gb_al (fun k => decide (gp_g (gp_sd (gp_pl sp lk kd)) v l k ≠ v l)) 0 4) && gb_al (fun j => gp_lo (fun j => lk j && kd j) la lb (gp_cn (gp_al lk eth tys wh) kd fr to) i (gp_g (gp_sd (gp_pl sp lk kd)) v (l + 1)) j) 0 4) := by
      unfold gy_ft gp_fa
      rw [if_pos i4]
      unfold gp_ft
      have : gp_st (gp_g (gp_sd (gp_pl sp lk kd)) v l) i (v l) = gp_g (gp_sd (gp_pl sp lk kd)) v (l + 1) := by
        show _ = gp_st _ (gp_sd (gp_pl sp lk kd) l) (v l)
        rw [hi]
      rw [this]
    rw [eft] at h1 h0
    have f86 : gp_cd sp th labs lst grt a_values lab i (v l) = false → wY_fits_86 post (nI l) (nI b) (nI (gp_pl sp lk kd).length) a_nodeThere a_labels a_values a_edgeThere a_froms a_tos a_whats a_patterns a_parts a_chosen := by
      intro h
      exact br_t rfl (h0 (by rw [h]; rfl))
    have f87 : gp_cd sp th labs lst grt a_values lab i (v l) = true → wY_fits_87 post (nI l) 1 (nI b) (nI (gp_pl sp lk kd).length) a_nodeThere a_labels a_values a_edgeThere a_froms a_tos a_whats a_patterns a_parts a_chosen := by
      intro hcd
      rw [hcd, Bool.true_and] at h1 h0
      have f113 : (!(decide (mode % 2 = 1)) || gb_al (fun k => decide (gp_g (gp_sd (gp_pl sp lk kd)) v l k ≠ v l)) 0 4) = true → wY_fits_113 post (nI l) (nI b) (nI (gp_pl sp lk kd).length) a_nodeThere a_labels a_values a_edgeThere a_froms a_tos a_whats a_patterns a_parts a_chosen := by
        intro hm
        rw [hm, Bool.true_and] at h1 h0
        exact Exists.intro 5 (gy_waysAt4 (i := i) hb hPT0 hP hE hw hf ht (cn := gp_cn (gp_al lk eth tys wh) kd fr to) (fun j n m hj hlk hkd => by
          unfold gp_cn
          rw [hkd]
          exact gp_rc_c (fun e he => by unfold gp_al; rw [hlk, decide_eq_true he]; simp) (fun e he => (hf e he).2) 3 (fun q _ => rfl) m) hl hi (fun k hk => hc k hk) (fun h => br_f (by decide) (h1 h)) (fun h => br_t rfl (h0 h)) 4 0 true 5 rfl (by omega) rfl)
      refine br_f (by decide) (gy_at (b := b) (k := 0) rfl (by omega) (And.intro (by decide) ?_))
      rw [p0, gy_rem2 (by omega)]
      have htk := gp_tk (v := v) hnd hl (fun p hp => gp_pl_lt hp) hv20 0 (Or.inl rfl) (by rw [hi]; omega)
      refine pk_eq (mode % 2) 1 (fun e => ?_) (fun e => f113 (by simp [e]))
      refine gy_taken (v := v) hP hl (fun k hk => ⟨(hc k hk).1, hv20 k hk⟩) (fun h => br_f (by decide) (h0 ?_)) (fun h => br_t rfl (f113 ?_))
      · have : gb_al (fun k => decide (gp_g (gp_sd (gp_pl sp lk kd)) v l k ≠ v l)) 0 4 = false := by
          cases hal : gb_al (fun k => decide (gp_g (gp_sd (gp_pl sp lk kd)) v l k ≠ v l)) 0 4
          · rfl
          · have h' := htk.mpr (fun i hi => by
              have := gb_al_iff.mp hal i (by omega) (by omega)
              rw [Nat.zero_add]
              simpa using this)
            rw [h] at h'; cases h'
        rw [this, decide_eq_true e]; rfl
      · rw [Bool.or_eq_true]
        right
        refine gb_al_iff.mpr (fun i _ hi => ?_)
        have := htk.mp h i (by omega)
        rw [Nat.zero_add] at this
        simpa using this
    refine pk_le 4 i (fun h => by omega) (fun _ => And.intro hin12 ?_)
    rw [nI_clamp (n := v l) (by omega)]
    refine br_c (fun z => f86 ?_) (fun z => gy_at (b := b) (k := 5 + i) (nI_add 5 i) (by omega) (And.intro hin12 ?_))
    · have := (hN (v l) vl12).mp z
      unfold gp_cd
      rw [this]; simp
    · have zth : th (v l) = true := by
        cases h : th (v l)
        · exact absurd ((hN (v l) vl12).mpr h) z
        · rfl
      rw [o1, lb1]
      refine gb_br1 (lab (v l)) (by omega) (fun y => And.intro hin12 (gy_at (b := b) (k := 9 + i) (nI_add 9 i) (by omega) ?_)) (fun y => f86 ?_)
      · rw [o2]
        refine br_c (fun x => f86 ?_) (fun x => And.intro hin12 (gy_at (b := b) (k := 13 + i) (nI_add 13 i) (by omega) ?_))
        · unfold gp_cd
          rw [decide_eq_false (p := lst i ≤ a_values (v l)) (Int32.not_le.mpr x)]; simp
        · rw [o3]
          refine br_c (fun u => f86 ?_) (fun u => f87 ?_)
          · unfold gp_cd
            rw [decide_eq_false (p := a_values (v l) ≤ grt i) (Int32.not_le.mpr u)]; simp
          · unfold gp_cd
            rw [hsp, zth, y, decide_eq_true vl12, decide_eq_true (Int32.not_lt.mp x), decide_eq_true (Int32.not_lt.mp u)]; rfl
      · unfold gp_cd
        rw [y]; simp
  · -- a link
    obtain ⟨q1, q2, q3, q4, q5, q6, q7⟩ := pll j j4 hlk
    have vl20 : v l < 20 := hv20 l (Nat.le_refl _)
    obtain ⟨ka, hka⟩ := List.mem_iff_getElem?.mp (gp_pl_m.mpr (Or.inl ⟨q2, q4⟩) : la j ∈ gp_pl sp lk kd)
    obtain ⟨kb, hkb⟩ := List.mem_iff_getElem?.mp (gp_pl_m.mpr (Or.inl ⟨q3, q5⟩) : lb j ∈ gp_pl sp lk kd)
    have lka := (List.getElem?_eq_some_iff.mp hka).1
    have lkb := (List.getElem?_eq_some_iff.mp hkb).1
    have hsdl := gp_sd_s hl
    have oka := gp_pl_ord hka hsdl q2 (by omega)
    have okb := gp_pl_ord hkb hsdl q3 (by omega)
    have hga := (gp_lev (v := v) hnd (show l ≤ (gp_pl sp lk kd).length by omega) (fun k hk => hv20 k (by omega)) lka).1 oka
    have hgb := (gp_lev (v := v) hnd (show l ≤ (gp_pl sp lk kd).length by omega) (fun k hk => hv20 k (by omega)) lkb).1 okb
    rw [gp_sd_e hka] at hga
    rw [gp_sd_e hkb] at hgb
    have hva := (hc ka (by omega)).2
    have hvb := (hc kb (by omega)).2
    rw [gp_sd_e hka, show gp_lim (la j) = 12 from if_pos q2] at hva
    rw [gp_sd_e hkb, show gp_lim (lb j) = 12 from if_pos q3] at hvb
    obtain ⟨fe1, fe2⟩ := hf (v l) vl20
    obtain ⟨te1, te2⟩ := ht (v l) vl20
    have eft : gy_ft mode sp lk kd la lb tys labs lst grt th eth lab wh fr to a_values (gp_g (gp_sd (gp_pl sp lk kd)) v l) (gp_sd (gp_pl sp lk kd) l) (v l) = ((eth (v l) && bt (tys j) (wh (v l) % 3)) && decide (fr (v l) = v ka) && decide (to (v l) = v kb) && (!(decide (2 ≤ mode)) || gb_al (fun k => decide (gp_g (gp_sd (gp_pl sp lk kd)) v l (4 + k) ≠ v l)) 0 4)) := by
      unfold gy_ft gp_fa
      rw [ej, if_neg (by omega)]
      unfold gp_ef gp_al
      rw [show 4 + j - 4 = j from by omega, hga, hgb, hlk, decide_eq_true vl20]
      simp
    rw [eft] at h1 h0
    have htk := gp_tk (v := v) hnd hl (fun p hp => gp_pl_lt hp) hv20 4 (Or.inr rfl) (by rw [ej]; omega)
    have hin20 : vp_in (nI (v l)) 20 := vp_in_nI vl20 (by omega)
    have f211 : ((eth (v l) && bt (tys j) (wh (v l) % 3)) && decide (fr (v l) = v ka) && decide (to (v l) = v kb)) = false → wY_fits_211 post (nI l) (nI b) (nI (gp_pl sp lk kd).length) a_nodeThere a_labels a_values a_edgeThere a_froms a_tos a_whats a_patterns a_parts a_chosen := by
      intro h
      exact br_t rfl (h0 (by rw [h]; rfl))
    have f212 : ((eth (v l) && bt (tys j) (wh (v l) % 3)) && decide (fr (v l) = v ka) && decide (to (v l) = v kb)) = true → wY_fits_212 post (nI l) 1 (nI b) (nI (gp_pl sp lk kd).length) a_nodeThere a_labels a_values a_edgeThere a_froms a_tos a_whats a_patterns a_parts a_chosen := by
      intro h
      rw [h, Bool.true_and] at h1 h0
      refine br_f (by decide) (gy_at (b := b) (k := 0) rfl (by omega) ?_)
      rw [p0]
      refine pk_lt mode 2 (fun z => h1 (by simp; omega)) (fun z => ?_)
      refine gy_taken (v := v) hP hl (fun k hk => ⟨(hc k hk).1, hv20 k hk⟩) (fun y => br_f (by decide) (h0 ?_)) (fun y => br_t rfl (h1 ?_))
      · have : gb_al (fun k => decide (gp_g (gp_sd (gp_pl sp lk kd)) v l (4 + k) ≠ v l)) 0 4 = false := by
          cases hal : gb_al (fun k => decide (gp_g (gp_sd (gp_pl sp lk kd)) v l (4 + k) ≠ v l)) 0 4
          · rfl
          · have h' := htk.mpr (fun i hi => by
              have := gb_al_iff.mp hal i (by omega) (by omega)
              simpa using this)
            rw [y] at h'; cases h'
        rw [this, decide_eq_true z]; rfl
      · rw [Bool.or_eq_true]
        right
        refine gb_al_iff.mpr (fun i _ hi => ?_)
        have := htk.mp y i (by omega)
        simpa using this
    rw [ej]
    have ex4 : nI (4 + j) - 4 = nI j := by
      rw [show (4 : Int32) = nI 4 from rfl, pk_sub (by omega), Nat.add_sub_cancel_left]
    refine pk_le 4 (4 + j) (fun _ => nm_r ex4 (gy_at (b := b) (k := 25 + j) (nI_add 25 j) (by omega) ?_)) (fun h => by omega)
    rw [q6]
    refine gy_typed vl20 hE hw (fun z => br_f (by decide) (And.intro hin20 (gy_at (b := b) (k := 21 + j) (nI_add 21 j) (by omega) (And.intro (by decide) ?_)))) (fun z => br_t rfl (f211 (by rw [z]; rfl)))
    rw [q1, gy_rem4 (by omega), show (la j + 4 * lb j) % 4 = la j from by omega]
    refine gy_place hP hka (And.intro (vp_in_nI (by omega) (by omega)) ?_)
    rw [nI_clamp (n := v l) (by omega), nI_clamp (n := ka) (by omega), fe1, (hc ka (by omega)).1]
    refine pk_eq _ _ (fun e => And.intro hin20 (gy_at (b := b) (k := 21 + j) (nI_add 21 j) (by omega) (And.intro (by decide) ?_))) (fun e => f211 (by rw [decide_eq_false e]; simp))
    rw [q1, gy_div4 (by omega), show (la j + 4 * lb j) / 4 = lb j from by omega]
    refine gy_place hP hkb (And.intro (vp_in_nI (by omega) (by omega)) ?_)
    rw [nI_clamp (n := kb) (by omega), te1, (hc kb (by omega)).1]
    exact pk_eq _ _ (fun e' => f212 (by rw [z, decide_eq_true e, decide_eq_true e']; rfl)) (fun e' => f211 (by rw [decide_eq_false e']; simp))
end
end
section
/-! raise, advance -/
section
variable {f_base f_many : Int32} {a_nodeThere a_labels a_values a_edgeThere a_froms a_tos a_whats a_patterns a_parts a_chosen : Nat → Int32}
variable {b mode : Nat} {sp lk kd : Nat → Bool} {la lb : Nat → Nat} {tys labs lst grt : Nat → Int32} {th eth : Nat → Bool} {lab wh fr to : Nat → Nat}
theorem gy_raise28 {post : Int32 → SY → Prop} {l : Nat} {v : Nat → Nat} (hC : gy_SC b mode sp lk kd la lb tys labs lst grt th eth lab wh fr to a_nodeThere a_labels a_edgeThere a_froms a_tos a_whats a_patterns a_parts)
    (hl : l < (gp_pl sp lk kd).length) (ch0 : Nat → Int32) (hc0 : ∀ k, k < l → ch0 k = nI (v k) ∧ v k < gp_lim (gp_sd (gp_pl sp lk kd) k)) :
    ∀ (d c n : Nat) (ch : Nat → Int32), c + d = gp_lim (gp_sd (gp_pl sp lk kd) l) → d < n → ch l = nI c → (∀ k, k ≠ l → ch k = ch0 k) →
    (gb_fl (gy_ft mode sp lk kd la lb tys labs lst grt th eth lab wh fr to a_values (gp_g (gp_sd (gp_pl sp lk kd)) v l) (gp_sd (gp_pl sp lk kd) l)) c d = [] → ∀ ch', (∀ k, k ≠ l → ch' k = ch0 k) → post 0 (nI b, nI (gp_pl sp lk kd).length, a_nodeThere, a_labels, a_values, a_edgeThere, a_froms, a_tos, a_whats, a_patterns, a_parts, ch')) →
    (∀ e cs, gb_fl (gy_ft mode sp lk kd la lb tys labs lst grt th eth lab wh fr to a_values (gp_g (gp_sd (gp_pl sp lk kd)) v l) (gp_sd (gp_pl sp lk kd) l)) c d = e :: cs → ∀ ch', (∀ k, k ≠ l → ch' k = ch0 k) → ch' l = nI e → post 1 (nI b, nI (gp_pl sp lk kd).length, a_nodeThere, a_labels, a_values, a_edgeThere, a_froms, a_tos, a_whats, a_patterns, a_parts, ch')) →
    wY_raise_28 post (nI l) (nI (gp_lim (gp_sd (gp_pl sp lk kd) l))) (nI b) (nI (gp_pl sp lk kd).length) n a_nodeThere a_labels a_values a_edgeThere a_froms a_tos a_whats a_patterns a_parts ch := by
  have h8 := hC.2.2.1.1
  have hl20 : ∀ p, gp_lim p ≤ 20 := fun p => by unfold gp_lim; split <;> omega
  have hll := hl20 (gp_sd (gp_pl sp lk kd) l)
  have hin : vp_in (nI l) 8 := vp_in_nI (by omega) (by omega)
  intro d
  induction d with
  | zero =>
    intro c n ch hd hn hcl hck P0 P1
    obtain ⟨n, rfl⟩ := gx_S n (by omega)
    refine And.intro hin ?_
    rw [nI_clamp (n := l) (by omega), hcl]
    refine pk_le (gp_lim (gp_sd (gp_pl sp lk kd) l)) c (fun _ => And.intro hin ?_) (fun h => by omega)
    rw [nI_clamp (n := l) (by omega), hcl]
    exact pk_le (gp_lim (gp_sd (gp_pl sp lk kd) l)) c (fun _ => P0 rfl ch hck) (fun h => by omega)
  | succ d ih =>
    intro c n ch hd hn hcl hck P0 P1
    obtain ⟨n, rfl⟩ := gx_S n (by omega)
    refine And.intro hin ?_
    rw [nI_clamp (n := l) (by omega), hcl]
    refine pk_le (gp_lim (gp_sd (gp_pl sp lk kd) l)) c (fun h => by omega) (fun _ => ?_)
    have hgv : gp_g (gp_sd (gp_pl sp lk kd)) (fun k => if k = l then c else v k) l = gp_g (gp_sd (gp_pl sp lk kd)) v l := gp_g_c (fun k hk => ⟨rfl, if_neg (by omega)⟩)
    refine gy_fits (v := fun k => if k = l then c else v k) hC hl (fun k hk => ?_) (fun h => br_f (by decide) ?_) (fun h => br_t rfl ?_)
    · by_cases e : k = l
      · subst e
        rw [if_pos rfl]
        exact ⟨hcl, by omega⟩
      · rw [if_neg e, hck k e]
        exact hc0 k (by omega)
    · rw [hgv, if_pos rfl] at h
      refine And.intro hin ?_
      rw [nI_clamp (n := l) (by omega), hcl]
      refine pk_le (gp_lim (gp_sd (gp_pl sp lk kd) l)) c (fun h => by omega) (fun _ => P1 c (gb_fl (gy_ft mode sp lk kd la lb tys labs lst grt th eth lab wh fr to a_values (gp_g (gp_sd (gp_pl sp lk kd)) v l) (gp_sd (gp_pl sp lk kd) l)) (c + 1) d) ?_ ch hck hcl)
      show (if _ then _ else _) = _
      rw [h]; rfl
    · rw [hgv, if_pos rfl] at h
      have e : gb_fl (gy_ft mode sp lk kd la lb tys labs lst grt th eth lab wh fr to a_values (gp_g (gp_sd (gp_pl sp lk kd)) v l) (gp_sd (gp_pl sp lk kd) l)) c (d + 1) = gb_fl (gy_ft mode sp lk kd la lb tys labs lst grt th eth lab wh fr to a_values (gp_g (gp_sd (gp_pl sp lk kd)) v l) (gp_sd (gp_pl sp lk kd) l)) (c + 1) d := by
        show (if _ then _ else _) = _
        rw [h]; rfl
      rw [e] at P0 P1
      refine And.intro hin (And.intro hin (nm_e ?_))
      refine ih (c + 1) n _ (by omega) (by omega) (by rw [pk_us, nI_1]) (fun k hk => ?_) P0 P1
      rw [pk_un hk]; exact hck k hk
theorem gy_raise {post : Int32 → SY → Prop} {l c : Nat} {v : Nat → Nat} (hC : gy_SC b mode sp lk kd la lb tys labs lst grt th eth lab wh fr to a_nodeThere a_labels a_edgeThere a_froms a_tos a_whats a_patterns a_parts)
    (hl : l < (gp_pl sp lk kd).length) (hc0 : ∀ k, k < l → a_chosen k = nI (v k) ∧ v k < gp_lim (gp_sd (gp_pl sp lk kd) k)) (hcl : c ≤ gp_lim (gp_sd (gp_pl sp lk kd) l)) (hcc : a_chosen l + 1 = nI c)
    (P0 : gb_fl (gy_ft mode sp lk kd la lb tys labs lst grt th eth lab wh fr to a_values (gp_g (gp_sd (gp_pl sp lk kd)) v l) (gp_sd (gp_pl sp lk kd) l)) c (gp_lim (gp_sd (gp_pl sp lk kd) l) - c) = [] → ∀ ch', (∀ k, k ≠ l → ch' k = a_chosen k) → post 0 (nI b, nI (gp_pl sp lk kd).length, a_nodeThere, a_labels, a_values, a_edgeThere, a_froms, a_tos, a_whats, a_patterns, a_parts, ch'))
    (P1 : ∀ e cs, gb_fl (gy_ft mode sp lk kd la lb tys labs lst grt th eth lab wh fr to a_values (gp_g (gp_sd (gp_pl sp lk kd)) v l) (gp_sd (gp_pl sp lk kd) l)) c (gp_lim (gp_sd (gp_pl sp lk kd) l) - c) = e :: cs → ∀ ch', (∀ k, k ≠ l → ch' k = a_chosen k) → ch' l = nI e → post 1 (nI b, nI (gp_pl sp lk kd).length, a_nodeThere, a_labels, a_values, a_edgeThere, a_froms, a_tos, a_whats, a_patterns, a_parts, ch')) :
    wpY_raise post (nI b, nI (gp_pl sp lk kd).length, a_nodeThere, a_labels, a_values, a_edgeThere, a_froms, a_tos, a_whats, a_patterns, a_parts, a_chosen) (nI l) := by
  have hP := hC.2.2.1
  have h8 := hP.1
  obtain ⟨p1, p2⟩ := hP.2.2 l _ (gp_sd_s hl)
  have hin : vp_in (nI l) 8 := vp_in_nI (by omega) (by omega)
  have key : ∀ z : Int32, z = nI (gp_lim (gp_sd (gp_pl sp lk kd) l)) → wY_raise_17 post (nI l) z (nI b) (nI (gp_pl sp lk kd).length) a_nodeThere a_labels a_values a_edgeThere a_froms a_tos a_whats a_patterns a_parts a_chosen := by
    intro z hz
    subst hz
    refine And.intro hin (And.intro hin (nm_e ?_))
    rw [nI_clamp (n := l) (by omega), hcc]
    exact Exists.intro (gp_lim (gp_sd (gp_pl sp lk kd) l) - c + 1) (gy_raise28 hC hl a_chosen hc0 (gp_lim (gp_sd (gp_pl sp lk kd) l) - c) c _ _ (by omega) (by omega) pk_us (fun k hk => pk_un hk) P0 P1)
  refine And.intro hin ?_
  rw [nI_clamp (n := l) (by omega), p1]
  refine pk_le 4 _ (fun h => key 20 ?_) (fun h => key 12 ?_)
  · rw [show gp_lim (gp_sd (gp_pl sp lk kd) l) = 20 from if_neg (by omega)]; rfl
  · rw [show gp_lim (gp_sd (gp_pl sp lk kd) l) = 12 from if_pos h]; rfl
end
/-- what is still to be tried at a level behind its own choice -/
def gy_cs (ft : (Nat → Nat) → Nat → Nat → Bool) (sd v : Nat → Nat) (k : Nat) : List Nat := gb_fl (ft (gp_g sd v k) (sd k)) (v k + 1) (gp_lim (sd k) - (v k + 1))
def gy_T (ft : (Nat → Nat) → Nat → Nat → Bool) (pl : List Nat) (m : Nat) (g : Nat → Nat) : List (Nat → Nat) := gp_Y ft (pl.drop (pl.length - m)) g
theorem gy_T0 (ft : (Nat → Nat) → Nat → Nat → Bool) (pl : List Nat) (g : Nat → Nat) : gy_T ft pl 0 g = [g] := by
  unfold gy_T
  rw [List.drop_eq_nil_of_le (by omega)]; rfl
theorem gy_Ts {ft : (Nat → Nat) → Nat → Nat → Bool} {pl : List Nat} {l : Nat} (hl : l < pl.length) (g : Nat → Nat) : gy_T ft pl (pl.length - 1 - l + 1) g = (gb_fl (ft g (gp_sd pl l)) 0 (gp_lim (gp_sd pl l))).flatMap (fun n => gy_T ft pl (pl.length - 1 - l) (gp_st g (gp_sd pl l) n)) := by
  unfold gy_T
  have e : pl.drop (pl.length - (pl.length - 1 - l + 1)) = gp_sd pl l :: pl.drop (l + 1) := by
    rw [show pl.length - (pl.length - 1 - l + 1) = l from by omega, List.drop_eq_getElem_cons hl]
    have := gp_sd_s hl
    rw [List.getElem?_eq_getElem hl] at this
    injection this with this
    rw [this]
  rw [e, show pl.length - (pl.length - 1 - l) = l + 1 from by omega]
  rfl
section
variable {f_base f_many : Int32} {a_nodeThere a_labels a_values a_edgeThere a_froms a_tos a_whats a_patterns a_parts a_chosen : Nat → Int32}
variable {b mode : Nat} {sp lk kd : Nat → Bool} {la lb : Nat → Nat} {tys labs lst grt : Nat → Int32} {th eth : Nat → Bool} {lab wh fr to : Nat → Nat}
theorem gy_adv2 {post : Int32 → SY → Prop} {RR : List (Nat → Nat)} {pl : List Nat} {ft : (Nat → Nat) → Nat → Nat → Bool} {val : Nat → Int32} (epl : pl = gp_pl sp lk kd) (evl : val = a_values) (eft : ft = gy_ft mode sp lk kd la lb tys labs lst grt th eth lab wh fr to val)
    (hC : gy_SC b mode sp lk kd la lb tys labs lst grt th eth lab wh fr to a_nodeThere a_labels a_edgeThere a_froms a_tos a_whats a_patterns a_parts)
    (P0 : RR = [] → ∀ ch, post 0 (nI b, nI pl.length, a_nodeThere, a_labels, a_values, a_edgeThere, a_froms, a_tos, a_whats, a_patterns, a_parts, ch))
    (P1 : ∀ a R, RR = a :: R → ∀ ch v, (∀ k, k < pl.length → ch k = nI (v k) ∧ v k < gp_lim (gp_sd pl k)) → a = gp_g (gp_sd pl) v pl.length → R = gp_R (gy_T ft pl) (gp_sd pl) v (gy_cs ft (gp_sd pl) v) pl.length 0 → post 1 (nI b, nI pl.length, a_nodeThere, a_labels, a_values, a_edgeThere, a_froms, a_tos, a_whats, a_patterns, a_parts, ch)) :
    ∀ (N l c n : Nat) (v : Nat → Nat) (ch : Nat → Int32), gp_mu 20 (fun k => if k = l then gb_fl (ft (gp_g (gp_sd pl) v l) (gp_sd pl l)) c (gp_lim (gp_sd pl l) - c) else gy_cs ft (gp_sd pl) v k) (l + 1) (pl.length - 1 - l) ≤ N → N + 1 < n → l < pl.length → c ≤ gp_lim (gp_sd pl l) → ch l + 1 = nI c → (∀ k, k < l → ch k = nI (v k) ∧ v k < gp_lim (gp_sd pl k)) →
    RR = gp_R (gy_T ft pl) (gp_sd pl) v (fun k => if k = l then gb_fl (ft (gp_g (gp_sd pl) v l) (gp_sd pl l)) c (gp_lim (gp_sd pl l) - c) else gy_cs ft (gp_sd pl) v k) (l + 1) (pl.length - 1 - l) →
    wY_advance_2 post n (nI l) (nI b) (nI pl.length) a_nodeThere a_labels a_values a_edgeThere a_froms a_tos a_whats a_patterns a_parts ch := by
  have h8 : pl.length ≤ 8 := by rw [epl]; exact gp_pl_len _ _ _
  have hl20 : ∀ p, gp_lim p ≤ 20 := fun p => by unfold gp_lim; split <;> omega
  intro N
  induction N with
  | zero =>
    intro l c n v ch hmu
    rw [gp_mu_s] at hmu
    omega
  | succ N ih =>
    intro l c n v ch hmu hn hl hcl hcc hck hR
    obtain ⟨n, rfl⟩ := gx_S n (by omega)
    have hll := hl20 (gp_sd pl l)
    refine br_f (nI_pos (by omega)) (pk_le pl.length l (fun h => by omega) (fun _ => ?_))
    have P0' : gb_fl (ft (gp_g (gp_sd pl) v l) (gp_sd pl l)) c (gp_lim (gp_sd pl l) - c) = [] → ∀ ch', (∀ k, k ≠ l → ch' k = ch k) → wY_advance_2 post n (nI l + (-1)) (nI b) (nI pl.length) a_nodeThere a_labels a_values a_edgeThere a_froms a_tos a_whats a_patterns a_parts ch' := by
      intro hnil ch' hch'
      have hR2 : RR = gp_R (gy_T ft pl) (gp_sd pl) v (gy_cs ft (gp_sd pl) v) l (pl.length - 1 - l + 1) := by
        rw [hR, gp_R_s, if_pos rfl, hnil]
        show [] ++ _ = _
        rw [List.nil_append]
        exact gp_R_c (fun k hk => ⟨rfl, if_neg (by omega)⟩) (fun k hk => rfl)
      have hmu2 : gp_mu 20 (gy_cs ft (gp_sd pl) v) l (pl.length - 1 - l + 1) ≤ N := by
        rw [gp_mu_s] at hmu
        have : gp_mu 20 (fun k => if k = l then gb_fl (ft (gp_g (gp_sd pl) v l) (gp_sd pl l)) c (gp_lim (gp_sd pl l) - c) else gy_cs ft (gp_sd pl) v k) l (pl.length - 1 - l + 1) = gp_mu 20 (gy_cs ft (gp_sd pl) v) l (pl.length - 1 - l + 1) := gp_mu_c (fun k hk => by rw [if_neg (by omega)])
        omega
      by_cases hl0 : l = 0
      · subst hl0
        obtain ⟨n, rfl⟩ := gx_S n (by omega)
        exact br_t (by decide) (br_t (by decide) (P0 hR2 ch'))
      · obtain ⟨l', rfl⟩ := gx_S l (by omega)
        rw [pk_m1]
        obtain ⟨y1, y2⟩ := hck l' (by omega)
        have em : pl.length - 1 - (l' + 1) + 1 = pl.length - 1 - l' := by omega
        rw [em] at hR2 hmu2
        refine ih l' (v l' + 1) n v ch' ?_ (by omega) (by omega) (by omega) ?_ (fun k hk => ?_) ?_
        · refine Nat.le_trans (Nat.le_of_eq (gp_mu_c (fun k hk => ?_))) hmu2
          by_cases e : k = l'
          · subst e; rw [if_pos rfl]; rfl
          · rw [if_neg e]
        · rw [hch' l' (by omega), y1, nI_1]
        · rw [hch' k (by omega)]; exact hck k (by omega)
        · rw [hR2]
          refine gp_R_c (fun k hk => ⟨rfl, ?_⟩) (fun k hk => rfl)
          by_cases e : k = l'
          · subst e; rw [if_pos rfl]; rfl
          · rw [if_neg e]
    have P1' : ∀ e cs, gb_fl (ft (gp_g (gp_sd pl) v l) (gp_sd pl l)) c (gp_lim (gp_sd pl l) - c) = e :: cs → ∀ ch', (∀ k, k ≠ l → ch' k = ch k) → ch' l = nI e → ((nI pl.length ≤ nI (l + 1) → wY_advance_2 post n (nI (l + 1)) (nI b) (nI pl.length) a_nodeThere a_labels a_values a_edgeThere a_froms a_tos a_whats a_patterns a_parts ch') ∧ (¬ nI pl.length ≤ nI (l + 1) → (vp_in (nI (l + 1)) 8 ∧ ∀ a_chosen_22 : Nat → Int32, a_chosen_22 = upd ch' (nI (l + 1)).toNatClampNeg (-1) → wY_advance_2 post n (nI (l + 1)) (nI b) (nI pl.length) a_nodeThere a_labels a_values a_edgeThere a_froms a_tos a_whats a_patterns a_parts a_chosen_22))) := by
      intro e cs hcs ch' hch' hce
      obtain ⟨f1, f2, f3, f4, f5⟩ := gb_fl_1 hcs
      have he : e < gp_lim (gp_sd pl l) := by omega
      -- the new values
      have gv : ∀ k, k ≤ l → gp_g (gp_sd pl) (fun q => if q = l then e else v q) k = gp_g (gp_sd pl) v k := fun k hk => gp_g_c (fun q hq => ⟨rfl, if_neg (by omega)⟩)
      have gvs : gp_g (gp_sd pl) (fun q => if q = l then e else v q) (l + 1) = gp_st (gp_g (gp_sd pl) v l) (gp_sd pl l) e := by
        show gp_st (gp_g (gp_sd pl) (fun q => if q = l then e else v q) l) (gp_sd pl l) (if l = l then e else v l) = _
        rw [gv l (Nat.le_refl _), if_pos rfl]
      have hcsl : gy_cs ft (gp_sd pl) (fun q => if q = l then e else v q) l = cs := by
        unfold gy_cs
        dsimp only
        rw [gv l (Nat.le_refl _), if_pos rfl, f5]
        congr 1
        omega
      have hcsk : ∀ k, k < l → gy_cs ft (gp_sd pl) (fun q => if q = l then e else v q) k = gy_cs ft (gp_sd pl) v k := by
        intro k hk
        unfold gy_cs
        dsimp only
        rw [gv k (by omega), if_neg (show k ≠ l by omega)]
      have hvk : ∀ k, k < l + 1 → ch' k = nI ((fun q => if q = l then e else v q) k) ∧ (fun q => if q = l then e else v q) k < gp_lim (gp_sd pl k) := by
        intro k hk
        dsimp only
        by_cases z : k = l
        · subst z; rw [if_pos rfl]; exact ⟨hce, he⟩
        · rw [if_neg z, hch' k z]; exact hck k (by omega)
      have hRR : RR = gy_T ft pl (pl.length - 1 - l) (gp_st (gp_g (gp_sd pl) v l) (gp_sd pl l) e) ++ gp_R (gy_T ft pl) (gp_sd pl) (fun q => if q = l then e else v q) (gy_cs ft (gp_sd pl) (fun q => if q = l then e else v q)) (l + 1) (pl.length - 1 - l) := by
        rw [hR, gp_R_s, if_pos rfl, hcs, List.flatMap_cons, List.append_assoc, gp_R_s, hcsl, gv l (Nat.le_refl _)]
        congr 2
        exact gp_R_c (fun k hk => ⟨rfl, by rw [if_neg (by omega), hcsk k hk]⟩) (fun k hk => (if_neg (by omega)).symm)
      have hmu3 : 1 + cs.length * gp_w 20 (pl.length - 1 - l) + gp_w 20 (pl.length - 1 - l) + gp_mu 20 (gy_cs ft (gp_sd pl) v) l (pl.length - 1 - l + 1) ≤ N + 1 := by
        rw [gp_mu_s] at hmu
        have : gp_mu 20 (fun k => if k = l then gb_fl (ft (gp_g (gp_sd pl) v l) (gp_sd pl l)) c (gp_lim (gp_sd pl l) - c) else gy_cs ft (gp_sd pl) v k) l (pl.length - 1 - l + 1) = gp_mu 20 (gy_cs ft (gp_sd pl) v) l (pl.length - 1 - l + 1) := gp_mu_c (fun k hk => by rw [if_neg (by omega)])
        rw [this, if_pos rfl, hcs, List.length_cons, Nat.add_mul, Nat.one_mul] at hmu
        omega
      refine pk_le pl.length (l + 1) (fun h => ?_) (fun h => And.intro (vp_in_nI (by omega) (by omega)) ?_)
      · have hlast : pl.length = l + 1 := by omega
        obtain ⟨n, rfl⟩ := gx_S n (by omega)
        refine br_f (nI_pos (by omega)) (pk_le pl.length (l + 1) (fun _ => br_f (nI_pos (by omega)) ?_) (fun h => by omega))
        rw [show pl.length - 1 - l = 0 from by omega, gy_T0] at hRR
        refine P1 _ _ hRR ch' _ (fun k hk => hvk k (by omega)) ?_ ?_
        · rw [hlast, gvs]
        · rw [hlast]; rfl
      · rw [nI_clamp (n := l + 1) (by omega)]
        have hm1 : pl.length - 1 - l = (pl.length - 1 - (l + 1)) + 1 := by omega
        have gk : gp_g (gp_sd pl) (fun q => if q = l then e else v q) (l + 1) = gp_st (gp_g (gp_sd pl) v l) (gp_sd pl l) e := gvs
        refine nm_e (ih (l + 1) 0 n (fun q => if q = l then e else v q) _ ?_ (by omega) h (by omega) ?_ (fun k hk => ?_) ?_)
        · rw [gp_mu_s, gp_mu_s, if_pos rfl, if_neg (show l ≠ l + 1 by omega), hcsl]
          have e1 : gp_mu 20 (fun k => if k = l + 1 then gb_fl (ft (gp_g (gp_sd pl) (fun q => if q = l then e else v q) (l + 1)) (gp_sd pl (l + 1))) 0 (gp_lim (gp_sd pl (l + 1)) - 0) else gy_cs ft (gp_sd pl) (fun q => if q = l then e else v q) k) l (pl.length - 1 - (l + 1) + 1 + 1) = gp_mu 20 (gy_cs ft (gp_sd pl) v) l (pl.length - 1 - l + 1) := by
            rw [hm1]
            apply gp_mu_c
            intro k hk
            rw [if_neg (by omega), hcsk k hk]
          rw [e1, ← hm1]
          have hw : gp_w 20 (pl.length - 1 - l) = 2 + 20 * gp_w 20 (pl.length - 1 - (l + 1)) := by rw [hm1]; rfl
          have hle := Nat.mul_le_mul_right (gp_w 20 (pl.length - 1 - (l + 1))) (Nat.le_trans (gb_fl_len (ft (gp_g (gp_sd pl) (fun q => if q = l then e else v q) (l + 1)) (gp_sd pl (l + 1))) (gp_lim (gp_sd pl (l + 1)) - 0) 0) (show gp_lim (gp_sd pl (l + 1)) - 0 ≤ 20 by have := hl20 (gp_sd pl (l + 1)); omega))
          generalize (gb_fl (ft (gp_g (gp_sd pl) (fun q => if q = l then e else v q) (l + 1)) (gp_sd pl (l + 1))) 0 (gp_lim (gp_sd pl (l + 1)) - 0)).length * gp_w 20 (pl.length - 1 - (l + 1)) = A at *
          generalize cs.length * gp_w 20 (pl.length - 1 - l) = C at *
          omega
        · rw [pk_us]; decide
        · rw [pk_un (by omega)]
          exact hvk k hk
        · rw [hRR, gp_R_s _ _ _ _ (l + 1) (pl.length - 1 - (l + 1)), if_pos rfl, gk, hm1, gy_Ts h]
          congr 1
          exact gp_R_c (fun k hk => ⟨rfl, (if_neg (by omega)).symm⟩) (fun k hk => rfl)
    subst epl evl eft
    refine gy_raise (v := v) (c := c) hC hl hck hcl hcc (fun hnil ch' hch' => br_t rfl (nm_e (P0' hnil ch' hch'))) (fun e cs hcs ch' hch' hce => br_f (by decide) (nm_r (nI_1 l) (P1' e cs hcs ch' hch' hce)))
end
end
section
/-! order, first, next, and what is built on them -/
def gy_Li (L : List Nat) (arr : Nat → Int32) : Prop := ∀ (k p : Nat), L[k]? = some p → arr k = nI p
theorem gy_Li_s {L : List Nat} {arr : Nat → Int32} {x : Nat} (h : gy_Li L arr) : gy_Li (L ++ [x]) (upd arr L.length (nI x)) := by
  intro k p hk
  rw [List.getElem?_append] at hk
  by_cases c : k < L.length
  · rw [if_pos c] at hk
    rw [pk_un (by omega)]
    exact h k p hk
  · rw [if_neg c] at hk
    have hk0 : k - L.length = 0 := by
      rcases Nat.eq_zero_or_pos (k - L.length) with z0 | z0
      · exact z0
      · rw [List.getElem?_eq_none (by simp; omega)] at hk; cases hk
    rw [hk0] at hk
    have hx : x = p := by simpa using hk
    have : k = L.length := by omega
    rw [this, pk_us, hx]
/-- between two calls of the reference: a is at hand, R is still to come -/
def gy_NY (ft : (Nat → Nat) → Nat → Nat → Bool) (pl : List Nat) (ch : Nat → Int32) (a : Nat → Nat) (R : List (Nat → Nat)) : Prop :=
  ∃ v, (∀ k, k < pl.length → ch k = nI (v k) ∧ v k < gp_lim (gp_sd pl k)) ∧ a = gp_g (gp_sd pl) v pl.length ∧ R = gp_R (gy_T ft pl) (gp_sd pl) v (gy_cs ft (gp_sd pl) v) pl.length 0
section
variable {f_base f_many : Int32} {a_nodeThere a_labels a_values a_edgeThere a_froms a_tos a_whats a_patterns a_parts a_chosen : Nat → Int32}
variable {b mode : Nat} {sp lk kd : Nat → Bool} {la lb : Nat → Nat} {tys labs lst grt : Nat → Int32} {th eth : Nat → Bool} {lab wh fr to : Nat → Nat}
theorem gy_ord51 {post : SY → Prop} (hb : b + 33 ≤ 66) (hPT : gy_PT b mode sp lk kd la lb tys labs lst grt a_patterns) (us : List Nat) (hus : us.length ≤ 4) (hp : ∀ parts, gy_Li (us ++ gp_lp lk kd) parts → post (nI b, nI (us ++ gp_lp lk kd).length, a_nodeThere, a_labels, a_values, a_edgeThere, a_froms, a_tos, a_whats, a_patterns, parts, a_chosen)) :
    ∀ (d j n : Nat) (L : List Nat) (parts : Nat → Int32), j + d = 4 → d < n → L = us ++ (gb_fl (fun j => lk j && !(kd j)) 0 j).map (fun j => 4 + j) → gy_Li L parts → wY_order_51 post (nI b) n (nI j) (nI L.length) a_nodeThere a_labels a_values a_edgeThere a_froms a_tos a_whats a_patterns parts a_chosen := by
  obtain ⟨m4, p0, psp, pso, plk, pll, pout⟩ := hPT
  intro d
  induction d with
  | zero =>
    intro j n L parts hj hn hL hLi
    obtain ⟨n, rfl⟩ := gx_S n (by omega)
    have : j = 4 := by omega
    subst this
    subst hL
    exact pk_le 4 4 (fun _ => hp parts hLi) (fun h => by omega)
  | succ d ih =>
    intro j n L parts hj hn hL hLi
    obtain ⟨n, rfl⟩ := gx_S n (by omega)
    have hj4 : j < 4 := by omega
    have hsplit : (gb_fl (fun j => lk j && !(kd j)) 0 (j + 1)).map (fun j => 4 + j) = (gb_fl (fun j => lk j && !(kd j)) 0 j).map (fun j => 4 + j) ++ (if lk j && !(kd j) then [4 + j] else []) := by
      rw [gb_fl_app, List.map_append, Nat.zero_add]
      congr 1
      show (if lk j && !(kd j) then [j] else []).map _ = _
      cases (lk j && !(kd j)) <;> rfl
    have hlen : L.length ≤ 4 + j := by
      rw [hL, List.length_append, List.length_map]
      have := gb_fl_len (fun j => lk j && !(kd j)) j 0
      omega
    refine pk_le 4 j (fun h => by omega) (fun _ => gy_isLinkB hj4 hb (fun z1 z2 => ?_) (fun z => nm_r (nI_1 j) (ih (j + 1) n L parts (by omega) (by omega) ?_ hLi)))
    · have hlk : lk j = true := by
        cases h : lk j
        · rw [plk j hj4, h] at z1; exact absurd z1 (by decide)
        · rfl
      have hkd : kd j = false := by
        cases h : kd j
        · rfl
        · obtain ⟨_, _, _, _, _, _, q7⟩ := pll j hj4 hlk
          rw [q7, h] at z2; exact absurd z2 (by decide)
      refine And.intro (vp_in_nI (by omega) (by omega)) ?_
      rw [nI_clamp (n := L.length) (by omega), show (4 : Int32) + nI j = nI (4 + j) from nI_add 4 j]
      have e1 : (L ++ [4 + j]).length = L.length + 1 := by rw [List.length_append]; rfl
      refine nm_e (nm_r (nI_1 _) (nm_r (nI_1 j) ?_))
      rw [← e1]
      refine ih (j + 1) n (L ++ [4 + j]) _ (by omega) (by omega) ?_ (gy_Li_s hLi)
      rw [hsplit, hL, List.append_assoc, hlk, hkd]; rfl
    · rw [hsplit, hL]
      have : (lk j && !(kd j)) = false := by
        cases h1 : lk j
        · rfl
        · cases h2 : kd j
          · exfalso
            apply z
            obtain ⟨_, _, _, _, _, _, q7⟩ := pll j hj4 h1
            rw [plk j hj4, h1, q7, h2]
            exact ⟨rfl, rfl⟩
          · rfl
      rw [this]; simp
theorem gy_ord7 {post : SY → Prop} (hb : b + 33 ≤ 66) (hPT : gy_PT b mode sp lk kd la lb tys labs lst grt a_patterns) (hp : ∀ parts, gy_Li (gp_pl sp lk kd) parts → post (nI b, nI (gp_pl sp lk kd).length, a_nodeThere, a_labels, a_values, a_edgeThere, a_froms, a_tos, a_whats, a_patterns, parts, a_chosen)) :
    ∀ (d i n : Nat) (L : List Nat) (parts : Nat → Int32), i + d = 4 → d < n → L = gb_fl (fun i => sp i && decide ((fun _ : Nat => 50) i = 50)) 0 i → gy_Li L parts → wY_order_7 post (nI b) n (nI i) (nI L.length) a_nodeThere a_labels a_values a_edgeThere a_froms a_tos a_whats a_patterns parts a_chosen := by
  have hPT0 := hPT
  obtain ⟨m4, p0, psp, pso, plk, pll, pout⟩ := hPT
  intro d
  induction d with
  | zero =>
    intro i n L parts hi hn hL hLi
    obtain ⟨n, rfl⟩ := gx_S n (by omega)
    have : i = 4 := by omega
    subst this
    have hlen : L.length ≤ 4 := by rw [hL]; exact gb_fl_len _ _ _
    refine pk_le 4 4 (fun _ => Exists.intro 5 (gy_ord51 hb hPT0 L hlen (fun parts hl => ?_) 4 0 5 L parts rfl (by omega) (by show L = L ++ []; rw [List.append_nil]) hLi)) (fun h => by omega)
    have : L ++ gp_lp lk kd = gp_pl sp lk kd := by rw [hL]; rfl
    rw [this] at hl ⊢
    exact hp parts hl
  | succ d ih =>
    intro i n L parts hi hn hL hLi
    obtain ⟨n, rfl⟩ := gx_S n (by omega)
    have hi4 : i < 4 := by omega
    have hlen : L.length ≤ i := by rw [hL]; exact gb_fl_len _ _ _
    have hsplit : gb_fl (fun i => sp i && decide ((fun _ : Nat => 50) i = 50)) 0 (i + 1) = gb_fl (fun i => sp i && decide ((fun _ : Nat => 50) i = 50)) 0 i ++ (if sp i then [i] else []) := by
      rw [gb_fl_app, Nat.zero_add]
      congr 1
      show (if sp i && true then [i] else []) = _
      rw [Bool.and_true]
    refine pk_le 4 i (fun h => by omega) (fun _ => gy_at (b := b) (k := 1 + i) (nI_add 1 i) (by omega) ?_)
    rw [psp i hi4]
    refine br_c (fun z => ?_) (fun z => nm_r (nI_1 i) (ih (i + 1) n L parts (by omega) (by omega) ?_ hLi))
    · have hs : sp i = true := by
        cases h : sp i
        · rw [h] at z; exact absurd z (by decide)
        · rfl
      refine And.intro (vp_in_nI (by omega) (by omega)) ?_
      rw [nI_clamp (n := L.length) (by omega)]
      have e1 : (L ++ [i]).length = L.length + 1 := by rw [List.length_append]; rfl
      refine nm_e (nm_r (nI_1 _) (nm_r (nI_1 i) ?_))
      rw [← e1]
      refine ih (i + 1) n (L ++ [i]) _ (by omega) (by omega) ?_ (gy_Li_s hLi)
      rw [hsplit, hL, hs]; rfl
    · have hs : sp i = false := by
        cases h : sp i
        · rfl
        · rw [h] at z; exact absurd rfl z
      rw [hsplit, hL, hs]; simp
/-- what the reference's search stands on, ahead of the parts -/
def gy_S0 (b mode : Nat) (sp lk kd : Nat → Bool) (la lb : Nat → Nat) (tys labs lst grt : Nat → Int32) (th eth : Nat → Bool) (lab wh fr to : Nat → Nat) (nth lbs ets frs tos whs pat : Nat → Int32) : Prop :=
  b + 33 ≤ 66 ∧ gy_PT b mode sp lk kd la lb tys labs lst grt pat ∧ gy_Nz nth th 12 ∧ gx_Nm lbs lab 12 4 ∧ gy_Nz ets eth 20 ∧ gx_Nm whs wh 20 63 ∧ gx_Nm frs fr 20 12 ∧ gx_Nm tos to 20 12
theorem gy_S0_C (h : gy_S0 b mode sp lk kd la lb tys labs lst grt th eth lab wh fr to a_nodeThere a_labels a_edgeThere a_froms a_tos a_whats a_patterns) (hp : gy_Li (gp_pl sp lk kd) a_parts) : gy_SC b mode sp lk kd la lb tys labs lst grt th eth lab wh fr to a_nodeThere a_labels a_edgeThere a_froms a_tos a_whats a_patterns a_parts :=
  ⟨h.1, h.2.1, gp_pl_Pl hp, h.2.2⟩
theorem gy_first {post : Int32 → SY → Prop} {w : Nat} {ft : (Nat → Nat) → Nat → Nat → Bool} (hb : b = 33 * w) (eft : ft = gy_ft mode sp lk kd la lb tys labs lst grt th eth lab wh fr to a_values)
    (hC : gy_S0 b mode sp lk kd la lb tys labs lst grt th eth lab wh fr to a_nodeThere a_labels a_edgeThere a_froms a_tos a_whats a_patterns)
    (P0 : gp_Y ft (gp_pl sp lk kd) (fun _ => 50) = [] → ∀ parts ch, gy_Li (gp_pl sp lk kd) parts → post 0 (nI b, nI (gp_pl sp lk kd).length, a_nodeThere, a_labels, a_values, a_edgeThere, a_froms, a_tos, a_whats, a_patterns, parts, ch))
    (P1 : ∀ a R, gp_Y ft (gp_pl sp lk kd) (fun _ => 50) = a :: R → ∀ parts ch, gy_Li (gp_pl sp lk kd) parts → gy_NY ft (gp_pl sp lk kd) ch a R → post 1 (nI b, nI (gp_pl sp lk kd).length, a_nodeThere, a_labels, a_values, a_edgeThere, a_froms, a_tos, a_whats, a_patterns, parts, ch)) :
    wpY_first post (f_base, f_many, a_nodeThere, a_labels, a_values, a_edgeThere, a_froms, a_tos, a_whats, a_patterns, a_parts, a_chosen) (nI w) := by
  have h8 := gp_pl_len sp lk kd
  have hb33 := hC.1
  unfold wpY_first
  refine nm_r (e' := nI b) (by rw [show (33 : Int32) = nI 33 from rfl, pk_mul, hb]) ?_
  refine Exists.intro 5 (gy_ord7 hC.1 hC.2.1 (fun parts hli => ?_) 4 0 5 [] a_parts rfl (by omega) rfl (fun k p hk => by simp at hk))
  refine nm_e (pk_eq (gp_pl sp lk kd).length 0 (fun h0 => ?_) (fun h0 => ?_))
  · have hnil : gp_pl sp lk kd = [] := List.length_eq_zero_iff.mp h0
    refine P1 (fun _ => 50) [] (by rw [hnil]; rfl) parts _ hli ⟨fun _ => 0, fun k hk => by omega, ?_, ?_⟩
    · rw [h0]; rfl
    · rw [h0]; rfl
  · have hSC := gy_S0_C (a_parts := parts) hC hli
    have hl0 : (gp_pl sp lk kd).length - 1 - 0 + 1 = (gp_pl sp lk kd).length := by omega
    have hY : gp_Y ft (gp_pl sp lk kd) (fun _ => 50) = gp_R (gy_T ft (gp_pl sp lk kd)) (gp_sd (gp_pl sp lk kd)) (fun _ => 0) (fun k => if k = 0 then gb_fl (ft (gp_g (gp_sd (gp_pl sp lk kd)) (fun _ => 0) 0) (gp_sd (gp_pl sp lk kd) 0)) 0 (gp_lim (gp_sd (gp_pl sp lk kd) 0) - 0) else gy_cs ft (gp_sd (gp_pl sp lk kd)) (fun _ => 0) k) (0 + 1) ((gp_pl sp lk kd).length - 1 - 0) := by
      rw [gp_R_s, if_pos rfl]
      have e1 : gp_Y ft (gp_pl sp lk kd) (fun _ => 50) = gy_T ft (gp_pl sp lk kd) ((gp_pl sp lk kd).length - 1 - 0 + 1) (fun _ => 50) := by
        unfold gy_T
        rw [hl0, Nat.sub_self]; rfl
      rw [e1, gy_Ts (l := 0) (by omega)]
      show _ = _ ++ []
      rw [List.append_nil]
      rfl
    refine Exists.intro _ (gy_adv2 (RR := gp_Y ft (gp_pl sp lk kd) (fun _ => 50)) rfl rfl eft hSC (fun h ch => br_t rfl (P0 h parts ch hli)) (fun a R h ch v h1 h2 h3 => br_f (by decide) (P1 a R h parts ch hli ⟨v, h1, h2, h3⟩)) _ 0 0 _ (fun _ => 0) _ (Nat.le_refl _) (Nat.lt_succ_self _) (by omega) (by omega) (by rw [pk_us]; decide) (fun k hk => by omega) hY)
theorem gy_next {post : Int32 → SY → Prop} {a : Nat → Nat} {R : List (Nat → Nat)} {ft : (Nat → Nat) → Nat → Nat → Bool} (eft : ft = gy_ft mode sp lk kd la lb tys labs lst grt th eth lab wh fr to a_values)
    (hC : gy_S0 b mode sp lk kd la lb tys labs lst grt th eth lab wh fr to a_nodeThere a_labels a_edgeThere a_froms a_tos a_whats a_patterns) (hli : gy_Li (gp_pl sp lk kd) a_parts) (hN : gy_NY ft (gp_pl sp lk kd) a_chosen a R)
    (P0 : R = [] → ∀ ch, post 0 (nI b, nI (gp_pl sp lk kd).length, a_nodeThere, a_labels, a_values, a_edgeThere, a_froms, a_tos, a_whats, a_patterns, a_parts, ch))
    (P1 : ∀ a' R', R = a' :: R' → ∀ ch, gy_NY ft (gp_pl sp lk kd) ch a' R' → post 1 (nI b, nI (gp_pl sp lk kd).length, a_nodeThere, a_labels, a_values, a_edgeThere, a_froms, a_tos, a_whats, a_patterns, a_parts, ch)) :
    wpY_next post (nI b, nI (gp_pl sp lk kd).length, a_nodeThere, a_labels, a_values, a_edgeThere, a_froms, a_tos, a_whats, a_patterns, a_parts, a_chosen) := by
  have h8 := gp_pl_len sp lk kd
  obtain ⟨v, h1, h2, h3⟩ := hN
  refine pk_le (gp_pl sp lk kd).length 0 (fun h => P0 (by rw [h3, show (gp_pl sp lk kd).length = 0 from by omega]; rfl) a_chosen) (fun h => ?_)
  obtain ⟨l, hl⟩ := gx_S (gp_pl sp lk kd).length h
  have e1 : nI (gp_pl sp lk kd).length - 1 = nI l := by rw [hl, nI_pred]
  rw [e1]
  obtain ⟨c1, c2⟩ := h1 l (by omega)
  refine Exists.intro _ (gy_adv2 (RR := R) rfl rfl eft (gy_S0_C hC hli) (fun h ch => br_t rfl (P0 h ch)) (fun a R' h ch v h1 h2 h3 => br_f (by decide) (P1 a R' h ch ⟨v, h1, h2, h3⟩)) _ l (v l + 1) _ v _ (Nat.le_refl _) (Nat.lt_succ_self _) (by omega) (by omega) (by rw [c1, nI_1]) (fun k hk => h1 k (by omega)) ?_)
  rw [h3, show (gp_pl sp lk kd).length - 1 - l = 0 from by omega, hl]
  refine gp_R_c (fun k hk => ⟨rfl, ?_⟩) (fun k hk => rfl)
  by_cases e : k = l
  · subst e; rw [if_pos rfl]; rfl
  · rw [if_neg e]
theorem gy_mat8 {post : Int32 → SY → Prop} {ft : (Nat → Nat) → Nat → Nat → Bool} (eft : ft = gy_ft mode sp lk kd la lb tys labs lst grt th eth lab wh fr to a_values)
    (hC : gy_S0 b mode sp lk kd la lb tys labs lst grt th eth lab wh fr to a_nodeThere a_labels a_edgeThere a_froms a_tos a_whats a_patterns) (hli : gy_Li (gp_pl sp lk kd) a_parts) : ∀ (R : List (Nat → Nat)) (a : Nat → Nat) (acc n : Nat) (ch : Nat → Int32), R.length + 1 < n → gy_NY ft (gp_pl sp lk kd) ch a R →
    (∀ ch, post (nI (acc + 1 + R.length)) (nI b, nI (gp_pl sp lk kd).length, a_nodeThere, a_labels, a_values, a_edgeThere, a_froms, a_tos, a_whats, a_patterns, a_parts, ch)) → wY_matches_8 post n (nI acc) 1 (nI b) (nI (gp_pl sp lk kd).length) a_nodeThere a_labels a_values a_edgeThere a_froms a_tos a_whats a_patterns a_parts ch := by
  intro R
  induction R with
  | nil =>
    intro a acc n ch hn hN hp
    obtain ⟨n, rfl⟩ := gx_S n (by omega)
    refine br_f (by decide) (nm_r (nI_1 acc) (gy_next eft hC hli hN (fun _ ch => ?_) (fun a' R' h => by cases h)))
    obtain ⟨n, rfl⟩ := gx_S n (by omega)
    exact br_t rfl (hp ch)
  | cons a' R ih =>
    intro a acc n ch hn hN hp
    obtain ⟨n, rfl⟩ := gx_S n (by omega)
    refine br_f (by decide) (nm_r (nI_1 acc) (gy_next eft hC hli hN (fun h => by cases h) (fun a2 R' h ch hN' => ?_)))
    injection h with h1 h2
    subst h1 h2
    refine ih a' (acc + 1) n ch (by simp at hn; omega) hN' (fun ch => ?_)
    have := hp ch
    rw [List.length_cons] at this
    rw [show acc + 1 + 1 + R.length = acc + 1 + (R.length + 1) from by omega]
    exact this
theorem gy_matches {post : Int32 → SY → Prop} {w : Nat} (hb : b = 33 * w)
    (hC : gy_S0 b mode sp lk kd la lb tys labs lst grt th eth lab wh fr to a_nodeThere a_labels a_edgeThere a_froms a_tos a_whats a_patterns)
    (hp : ∀ parts ch, post (nI (gp_Y (gy_ft mode sp lk kd la lb tys labs lst grt th eth lab wh fr to a_values) (gp_pl sp lk kd) (fun _ => 50)).length) (nI b, nI (gp_pl sp lk kd).length, a_nodeThere, a_labels, a_values, a_edgeThere, a_froms, a_tos, a_whats, a_patterns, parts, ch)) : wpY_matches post (f_base, f_many, a_nodeThere, a_labels, a_values, a_edgeThere, a_froms, a_tos, a_whats, a_patterns, a_parts, a_chosen) (nI w) := by
  unfold wpY_matches
  refine gy_first hb rfl hC (fun h parts ch hli => ?_) (fun a R h parts ch hli hN => ?_)
  · refine Exists.intro 1 (br_t rfl ?_)
    have := hp parts ch
    rw [h] at this
    exact this
  · refine Exists.intro (R.length + 2) (gy_mat8 rfl hC hli R a 0 (R.length + 2) ch (by omega) hN (fun ch => ?_))
    have := hp parts ch
    rw [h, List.length_cons] at this
    rw [show 0 + 1 + R.length = R.length + 1 from by omega]
    exact this
end
end
section
/-! the reference's part and weigh -/
theorem gy_NY_at {ft : (Nat → Nat) → Nat → Nat → Bool} {pl : List Nat} {ch : Nat → Int32} {a : Nat → Nat} {R : List (Nat → Nat)} (hnd : pl.Nodup) (h : gy_NY ft pl ch a R) {k p : Nat} (hk : pl[k]? = some p) : ch k = nI (a p) ∧ a p < gp_lim p := by
  obtain ⟨v, h1, h2, _⟩ := h
  have hlt := (List.getElem?_eq_some_iff.mp hk).1
  have hl20 : ∀ p, gp_lim p ≤ 20 := fun p => by unfold gp_lim; split <;> omega
  have e := (gp_lev (v := v) hnd (Nat.le_refl _) (fun q hq => by have := (h1 q hq).2; have := hl20 (gp_sd pl q); omega) hlt).1 hlt
  rw [gp_sd_e hk, ← h2] at e
  obtain ⟨c1, c2⟩ := h1 k hlt
  rw [gp_sd_e hk] at c2
  rw [e]
  exact ⟨c1, c2⟩
section
variable {f_base f_many : Int32} {a_nodeThere a_labels a_values a_edgeThere a_froms a_tos a_whats a_patterns a_parts a_chosen : Nat → Int32}
variable {b mode : Nat} {sp lk kd : Nat → Bool} {la lb : Nat → Nat} {tys labs lst grt : Nat → Int32} {th eth : Nat → Bool} {lab wh fr to : Nat → Nat}
theorem gy_pt38 {post : Int32 → SY → Prop} {ft : (Nat → Nat) → Nat → Nat → Bool} {K p : Nat} (hK : K < 1000) (hp8 : p < 8) (eft : ft = gy_ft mode sp lk kd la lb tys labs lst grt th eth lab wh fr to a_values)
    (hC : gy_S0 b mode sp lk kd la lb tys labs lst grt th eth lab wh fr to a_nodeThere a_labels a_edgeThere a_froms a_tos a_whats a_patterns) (hli : gy_Li (gp_pl sp lk kd) a_parts) : ∀ (d i n : Nat) (R : List (Nat → Nat)) (a : Nat → Nat) (ch : Nat → Int32), i + d = K → d + 1 < n → gy_NY ft (gp_pl sp lk kd) ch a R →
    ((a :: R)[d]? = none → ∀ ch, post (-1) (nI b, nI (gp_pl sp lk kd).length, a_nodeThere, a_labels, a_values, a_edgeThere, a_froms, a_tos, a_whats, a_patterns, a_parts, ch)) → (∀ G, (a :: R)[d]? = some G → p ∈ gp_pl sp lk kd → ∀ ch, post (nI (G p)) (nI b, nI (gp_pl sp lk kd).length, a_nodeThere, a_labels, a_values, a_edgeThere, a_froms, a_tos, a_whats, a_patterns, a_parts, ch)) → (p ∉ gp_pl sp lk kd → ∀ ch, post (-1) (nI b, nI (gp_pl sp lk kd).length, a_nodeThere, a_labels, a_values, a_edgeThere, a_froms, a_tos, a_whats, a_patterns, a_parts, ch)) →
    wY_part_38 post (nI K) (nI p) n 1 (nI i) (nI b) (nI (gp_pl sp lk kd).length) a_nodeThere a_labels a_values a_edgeThere a_froms a_tos a_whats a_patterns a_parts ch := by
  have h8 := gp_pl_len sp lk kd
  have hPl := gp_pl_Pl hli
  intro d
  induction d with
  | zero =>
    intro i n R a ch hi hn hN P0 P1 P2
    obtain ⟨n, rfl⟩ := gx_S n (by omega)
    refine pk_le K i (fun _ => br_f (by decide) ?_) (fun h => by omega)
    by_cases hm : p ∈ gp_pl sp lk kd
    · obtain ⟨k0, hk0⟩ := List.mem_iff_getElem?.mp hm
      have hlt := (List.getElem?_eq_some_iff.mp hk0).1
      refine gy_place hPl hk0 (br_f (by decide) (pk_le (gp_pl sp lk kd).length k0 (fun h => by omega) (fun _ => And.intro (vp_in_nI (by omega) (by omega)) ?_)))
      rw [nI_clamp (n := k0) (by omega), (gy_NY_at (gp_pl_nd _ _ _) hN hk0).1]
      exact P1 a rfl hm ch
    · exact gy_placeN hPl hp8 hm (br_f (by decide) (pk_le (gp_pl sp lk kd).length (gp_pl sp lk kd).length (fun _ => P2 hm ch) (fun h => by omega)))
  | succ d ih =>
    intro i n R a ch hi hn hN P0 P1 P2
    obtain ⟨n, rfl⟩ := gx_S n (by omega)
    refine pk_le K i (fun h => by omega) (fun _ => br_f (by decide) (gy_next eft hC hli hN (fun h ch => nm_r (nI_1 i) ?_) (fun a' R' h ch hN' => nm_r (nI_1 i) ?_)))
    · obtain ⟨n, rfl⟩ := gx_S n (by omega)
      have hfin := P0 (by rw [h]; rfl) ch
      refine pk_le K (i + 1) (fun _ => br_t rfl (br_t rfl hfin)) (fun _ => br_t rfl (br_t rfl (br_t rfl hfin)))
    · refine ih (i + 1) n R' a' ch (by omega) (by omega) hN' (fun hz => P0 ?_) (fun G hG => P1 G ?_) P2
      · rw [h]; exact hz
      · rw [h]; exact hG
theorem gy_part0 {post : Int32 → SY → Prop} {x1 x2 : Int32} (hp : post (-1) (f_base, f_many, a_nodeThere, a_labels, a_values, a_edgeThere, a_froms, a_tos, a_whats, a_patterns, a_parts, a_chosen)) : ∃ n38 : Nat, wY_part_38 post x1 x2 n38 0 0 f_base f_many a_nodeThere a_labels a_values a_edgeThere a_froms a_tos a_whats a_patterns a_parts a_chosen :=
  Exists.intro 1 (br_c (fun _ => br_t rfl (br_t rfl hp)) (fun _ => br_t rfl (br_t rfl (br_t rfl hp))))
theorem gy_part {post : Int32 → SY → Prop} {K p : Nat} (hb : b = 0) (hK : K < 1000) (hp8 : p < 8)
    (hC : gy_S0 b mode sp lk kd la lb tys labs lst grt th eth lab wh fr to a_nodeThere a_labels a_edgeThere a_froms a_tos a_whats a_patterns)
    (P0 : (gp_Y (gy_ft mode sp lk kd la lb tys labs lst grt th eth lab wh fr to a_values) (gp_pl sp lk kd) (fun _ => 50))[K]? = none → ∀ parts ch, post (-1) (nI b, nI (gp_pl sp lk kd).length, a_nodeThere, a_labels, a_values, a_edgeThere, a_froms, a_tos, a_whats, a_patterns, parts, ch))
    (P1 : ∀ G, (gp_Y (gy_ft mode sp lk kd la lb tys labs lst grt th eth lab wh fr to a_values) (gp_pl sp lk kd) (fun _ => 50))[K]? = some G → p ∈ gp_pl sp lk kd → ∀ parts ch, post (nI (G p)) (nI b, nI (gp_pl sp lk kd).length, a_nodeThere, a_labels, a_values, a_edgeThere, a_froms, a_tos, a_whats, a_patterns, parts, ch))
    (P2 : p ∉ gp_pl sp lk kd → ∀ parts ch, post (-1) (nI b, nI (gp_pl sp lk kd).length, a_nodeThere, a_labels, a_values, a_edgeThere, a_froms, a_tos, a_whats, a_patterns, parts, ch)) :
    wpY_part post (f_base, f_many, a_nodeThere, a_labels, a_values, a_edgeThere, a_froms, a_tos, a_whats, a_patterns, a_parts, a_chosen) (nI K) (nI p) := by
  refine br_f (nI_pos (by omega)) (pk_lt 999 K (fun h => by omega) (fun _ => br_f (nI_pos (by omega)) (pk_lt 7 p (fun h => by omega) (fun _ => ?_))))
  refine gy_first (w := 0) (by omega) rfl hC (fun h parts ch hli => br_t rfl (gy_part0 (P0 (by rw [h]; simp) parts ch))) (fun a R h parts ch hli hN => br_f (by decide) (Exists.intro (K + 2) ?_))
  refine gy_pt38 hK hp8 rfl hC hli K 0 (K + 2) R a ch (by omega) (by omega) hN (fun hz ch => P0 (by rw [h]; exact hz) parts ch) (fun G hG hm ch => P1 G (by rw [h]; exact hG) hm parts ch) (fun hm ch => P2 hm parts ch)
theorem gy_weight4 {post : Int32 → Prop} {ft : (Nat → Nat) → Nat → Nat → Bool} {a : Nat → Nat} {R : List (Nat → Nat)} (hw : gx_Nm a_whats wh 20 63) (hli : gy_Li (gp_pl sp lk kd) a_parts) (hN : gy_NY ft (gp_pl sp lk kd) a_chosen a R) : ∀ (d k s n : Nat), k + d = (gp_pl sp lk kd).length → d < n →
    post (nI (s + gp_fs (fun a b : Nat => a + b) 0 (fun p => if p < 4 then 0 else wh (a p) / 3) ((gp_pl sp lk kd).drop k))) → wY_weight_4 post f_base (nI (gp_pl sp lk kd).length) a_nodeThere a_labels a_values a_edgeThere a_froms a_tos a_whats a_patterns a_parts a_chosen n (nI s) (nI k) := by
  have h8 := gp_pl_len sp lk kd
  intro d
  induction d with
  | zero =>
    intro k s n hk hn hp
    obtain ⟨n, rfl⟩ := gx_S n (by omega)
    rw [List.drop_eq_nil_of_le (by omega)] at hp
    exact pk_le (gp_pl sp lk kd).length k (fun _ => hp) (fun h => by omega)
  | succ d ih =>
    intro k s n hk hn hp
    obtain ⟨n, rfl⟩ := gx_S n (by omega)
    have hkl : k < (gp_pl sp lk kd).length := by omega
    have hsd := gp_sd_s hkl
    have h1 := hli k _ hsd
    obtain ⟨c1, c2⟩ := gy_NY_at (gp_pl_nd _ _ _) hN hsd
    have hp8 : gp_sd (gp_pl sp lk kd) k < 8 := gp_pl_lt (List.mem_iff_getElem?.mpr ⟨k, hsd⟩)
    have hdrop : (gp_pl sp lk kd).drop k = gp_sd (gp_pl sp lk kd) k :: (gp_pl sp lk kd).drop (k + 1) := by
      rw [List.drop_eq_getElem_cons hkl]
      rw [List.getElem?_eq_getElem hkl] at hsd
      injection hsd with hsd
      rw [hsd]
    rw [hdrop] at hp
    have hp' : post (nI (s + ((if gp_sd (gp_pl sp lk kd) k < 4 then 0 else wh (a (gp_sd (gp_pl sp lk kd) k)) / 3) + gp_fs (fun a b : Nat => a + b) 0 (fun p => if p < 4 then 0 else wh (a p) / 3) ((gp_pl sp lk kd).drop (k + 1))))) := hp
    have hin : vp_in (nI k) 8 := vp_in_nI (by omega) (by omega)
    refine pk_le (gp_pl sp lk kd).length k (fun h => by omega) (fun _ => And.intro hin ?_)
    rw [nI_clamp (n := k) (by omega), h1, c1]
    refine pk_lt _ 4 (fun h => ?_) (fun h => ?_)
    · rw [if_pos h, Nat.zero_add] at hp'
      exact nm_r (nI_1 k) (ih (k + 1) s n (by omega) (by omega) hp')
    · rw [if_neg (by omega)] at hp'
      have hc20 : a (gp_sd (gp_pl sp lk kd) k) < 20 := by rw [show gp_lim (gp_sd (gp_pl sp lk kd) k) = 20 from if_neg (by omega)] at c2; exact c2
      obtain ⟨w1, w2⟩ := hw _ hc20
      refine And.intro hin (And.intro (vp_in_nI hc20 (by omega)) (And.intro (by decide) ?_))
      rw [nI_clamp (n := a (gp_sd (gp_pl sp lk kd) k)) (by omega), w1, gy_div3 (by omega)]
      refine nm_r (nI_add _ _) (nm_r (nI_1 k) (ih (k + 1) _ n (by omega) (by omega) ?_))
      rw [Nat.add_assoc]; exact hp'
theorem gy_wsum (a : Nat → Nat) : gp_fs (fun a b : Nat => a + b) 0 (fun p => if p < 4 then 0 else wh (a p) / 3) (gp_pl sp lk kd) = gp_wt (fun e => wh e / 3) (gb_fl (fun j => lk j && !(kd j)) 0 4) a := by
  unfold gp_pl
  rw [gp_fs_app gp_cmN, gp_fs_c (g := fun _ => 0) (l := gp_us sp (fun _ => 50)) (fun p hp => if_pos (gp_us_m.mp hp).1), gp_fs_z gp_cmN, Nat.zero_add]
  unfold gp_lp gp_wt
  generalize gb_fl (fun j => lk j && !(kd j)) 0 4 = L
  induction L with
  | nil => rfl
  | cons j L ih =>
    show (if 4 + j < 4 then 0 else wh (a (4 + j)) / 3) + gp_fs _ 0 _ (L.map _) = wh (a (4 + j)) / 3 + gp_fs _ 0 _ L
    rw [ih, if_neg (by omega)]
theorem gy_weight {post : Int32 → Prop} {ft : (Nat → Nat) → Nat → Nat → Bool} {a : Nat → Nat} {R : List (Nat → Nat)} (hw : gx_Nm a_whats wh 20 63) (hli : gy_Li (gp_pl sp lk kd) a_parts) (hN : gy_NY ft (gp_pl sp lk kd) a_chosen a R) (hp : post (nI (gp_wt (fun e => wh e / 3) (gb_fl (fun j => lk j && !(kd j)) 0 4) a))) : wpY_weight post (f_base, nI (gp_pl sp lk kd).length, a_nodeThere, a_labels, a_values, a_edgeThere, a_froms, a_tos, a_whats, a_patterns, a_parts, a_chosen) := by
  refine Exists.intro ((gp_pl sp lk kd).length + 1) (gy_weight4 hw hli hN (gp_pl sp lk kd).length 0 0 _ (by omega) (by omega) ?_)
  rw [Nat.zero_add, show (gp_pl sp lk kd).drop 0 = gp_pl sp lk kd from rfl, gy_wsum]
  exact hp
theorem gy_wg25 {post : Int32 → SY → Prop} {ft : (Nat → Nat) → Nat → Nat → Bool} {x1 : Int32} {mx : Bool} (hx1 : x1 = 0 ↔ mx = false) (hwb : ∀ e, wh e / 3 ≤ 20) (eft : ft = gy_ft mode sp lk kd la lb tys labs lst grt th eth lab wh fr to a_values)
    (hC : gy_S0 b mode sp lk kd la lb tys labs lst grt th eth lab wh fr to a_nodeThere a_labels a_edgeThere a_froms a_tos a_whats a_patterns) (hli : gy_Li (gp_pl sp lk kd) a_parts) : ∀ (R : List (Nat → Nat)) (a : Nat → Nat) (b0 : Option Nat) (n : Nat) (ch : Nat → Int32), R.length + 1 < n → (∀ v, b0 = some v → v < 1000) → gy_NY ft (gp_pl sp lk kd) ch a R →
    (∀ ch, post (gx_oI (gp_bt mx b0 (gp_fs (gp_bt mx) none (fun g => some (gp_wt (fun e => wh e / 3) (gb_fl (fun j => lk j && !(kd j)) 0 4) g)) (a :: R)))) (nI b, nI (gp_pl sp lk kd).length, a_nodeThere, a_labels, a_values, a_edgeThere, a_froms, a_tos, a_whats, a_patterns, a_parts, ch)) → wY_weigh_25 post x1 n (gx_oI b0) 1 (nI b) (nI (gp_pl sp lk kd).length) a_nodeThere a_labels a_values a_edgeThere a_froms a_tos a_whats a_patterns a_parts ch := by
  have hw := hC.2.2.2.2.2.1
  have hlen : (gb_fl (fun j => lk j && !(kd j)) 0 4).length ≤ 4 := gb_fl_len _ _ _
  intro R
  induction R with
  | nil =>
    intro a b0 n ch hn hb hN hp
    obtain ⟨n, rfl⟩ := gx_S n (by omega)
    refine br_f (by decide) (gy_weight hw hli hN ?_)
    have hv := gp_wt_le hwb (gb_fl (fun j => lk j && !(kd j)) 0 4) a
    have hp1 : ∀ ch, post (gx_oI (gp_bt mx b0 (some (gp_wt (fun e => wh e / 3) (gb_fl (fun j => lk j && !(kd j)) 0 4) a)))) (nI b, nI (gp_pl sp lk kd).length, a_nodeThere, a_labels, a_values, a_edgeThere, a_froms, a_tos, a_whats, a_patterns, a_parts, ch) := hp
    generalize gp_wt (fun e => wh e / 3) (gb_fl (fun j => lk j && !(kd j)) 0 4) a = W at *
    have fin : ∀ z : Int32, z = gx_oI (gp_bt mx b0 (some W)) → wY_weigh_64 post (wY_weigh_25 post x1 n) x1 z (nI b) (nI (gp_pl sp lk kd).length) a_nodeThere a_labels a_values a_edgeThere a_froms a_tos a_whats a_patterns a_parts ch := by
      intro z hz
      unfold wY_weigh_64
      refine gy_next eft hC hli hN (fun _ ch => ?_) (fun a' R' h => by cases h)
      obtain ⟨n, rfl⟩ := gx_S n (by omega)
      refine br_t rfl ?_
      rw [hz]; exact hp1 ch
    cases b0 with
    | none => exact br_t gx_neg1 (fin _ rfl)
    | some bv =>
      have hbv := hb bv rfl
      refine br_f (nI_pos (by omega)) (br_c (fun z => ?_) (fun z => ?_))
      · have hm := hx1.mp z
        refine pk_le bv W (fun h => fin _ ?_) (fun h => fin _ ?_)
        · rw [hm]; simp only [gp_bt, Bool.false_eq_true, if_false]; rw [if_neg (by omega)]
        · rw [hm]; simp only [gp_bt, Bool.false_eq_true, if_false]; rw [if_pos (by omega)]; rfl
      · have hm : mx = true := by
          cases h : mx
          · exact absurd (hx1.mpr h) z
          · rfl
        refine pk_le W bv (fun h => fin _ ?_) (fun h => fin _ ?_)
        · rw [hm]; simp only [gp_bt, if_true]; rw [if_neg (by omega)]
        · rw [hm]; simp only [gp_bt, if_true]; rw [if_pos (by omega)]; rfl
  | cons a' R ih =>
    intro a b0 n ch hn hb hN hp
    obtain ⟨n, rfl⟩ := gx_S n (by omega)
    refine br_f (by decide) (gy_weight hw hli hN ?_)
    have hv := gp_wt_le hwb (gb_fl (fun j => lk j && !(kd j)) 0 4) a
    have hp1 : ∀ ch, post (gx_oI (gp_bt mx b0 (gp_bt mx (some (gp_wt (fun e => wh e / 3) (gb_fl (fun j => lk j && !(kd j)) 0 4) a)) (gp_fs (gp_bt mx) none (fun g => some (gp_wt (fun e => wh e / 3) (gb_fl (fun j => lk j && !(kd j)) 0 4) g)) (a' :: R))))) (nI b, nI (gp_pl sp lk kd).length, a_nodeThere, a_labels, a_values, a_edgeThere, a_froms, a_tos, a_whats, a_patterns, a_parts, ch) := hp
    generalize gp_wt (fun e => wh e / 3) (gb_fl (fun j => lk j && !(kd j)) 0 4) a = W at *
    have fin : ∀ z : Int32, z = gx_oI (gp_bt mx b0 (some W)) → wY_weigh_64 post (wY_weigh_25 post x1 n) x1 z (nI b) (nI (gp_pl sp lk kd).length) a_nodeThere a_labels a_values a_edgeThere a_froms a_tos a_whats a_patterns a_parts ch := by
      intro z hz
      unfold wY_weigh_64
      refine gy_next eft hC hli hN (fun h => by cases h) (fun a2 R' h ch hN' => ?_)
      injection h with h1 h2
      subst h1 h2
      rw [hz]
      refine ih a' (gp_bt mx b0 (some W)) n ch (by simp at hn; omega) (fun v hv2 => ?_) hN' (fun ch => ?_)
      · rcases gp_bt_pick mx hv2 with z | z
        · exact hb v z
        · injection z with z; omega
      · rw [(gp_bt_cm mx).2.1]; exact hp1 ch
    cases b0 with
    | none => exact br_t gx_neg1 (fin _ rfl)
    | some bv =>
      have hbv := hb bv rfl
      refine br_f (nI_pos (by omega)) (br_c (fun z => ?_) (fun z => ?_))
      · have hm := hx1.mp z
        refine pk_le bv W (fun h => fin _ ?_) (fun h => fin _ ?_)
        · rw [hm]; simp only [gp_bt, Bool.false_eq_true, if_false]; rw [if_neg (by omega)]
        · rw [hm]; simp only [gp_bt, Bool.false_eq_true, if_false]; rw [if_pos (by omega)]; rfl
      · have hm : mx = true := by
          cases h : mx
          · exact absurd (hx1.mpr h) z
          · rfl
        refine pk_le W bv (fun h => fin _ ?_) (fun h => fin _ ?_)
        · rw [hm]; simp only [gp_bt, if_true]; rw [if_neg (by omega)]
        · rw [hm]; simp only [gp_bt, if_true]; rw [if_pos (by omega)]; rfl
theorem gy_weigh11 {post : Int32 → SY → Prop} {x1 : Int32} {mx : Bool} (hb : b = 0) (hx1 : x1 = 0 ↔ mx = false) (hwb : ∀ e, wh e / 3 ≤ 20)
    (hC : gy_S0 b mode sp lk kd la lb tys labs lst grt th eth lab wh fr to a_nodeThere a_labels a_edgeThere a_froms a_tos a_whats a_patterns)
    (hp : ∀ parts ch, post (gx_oI (gp_fs (gp_bt mx) none (fun g => some (gp_wt (fun e => wh e / 3) (gb_fl (fun j => lk j && !(kd j)) 0 4) g)) (gp_Y (gy_ft mode sp lk kd la lb tys labs lst grt th eth lab wh fr to a_values) (gp_pl sp lk kd) (fun _ => 50)))) (nI b, nI (gp_pl sp lk kd).length, a_nodeThere, a_labels, a_values, a_edgeThere, a_froms, a_tos, a_whats, a_patterns, parts, ch)) : wY_weigh_11 post x1 (-1) f_base f_many a_nodeThere a_labels a_values a_edgeThere a_froms a_tos a_whats a_patterns a_parts a_chosen := by
  unfold wY_weigh_11
  refine gy_first (w := 0) (by omega) rfl hC (fun h parts ch hli => br_t rfl (Exists.intro 1 (br_t rfl ?_))) (fun a R h parts ch hli hN => br_f (by decide) (Exists.intro (R.length + 2) ?_))
  · have := hp parts ch
    rw [h] at this
    exact this
  · refine gy_wg25 (mx := mx) hx1 hwb rfl hC hli R a none (R.length + 2) ch (by omega) (fun v hv => by cases hv) hN (fun ch => ?_)
    have := hp parts ch
    rw [h] at this
    exact this
end
end
section
/-! pages: ow p is the list that a page belongs to, rk p its distance from the end of that list, zs p its size, en k the edge at k -/
def gx_U (us : Nat → Int32) (p : Nat) : Prop := p < 48 ∧ ¬ us p = 0
def gx_PE (V : Nat → Nat → Prop) (mem : Nat → Nat → Bool) (ow en : Nat → Nat) (pe : Nat → Int32) : Prop :=
  (∀ p i, V p i → i < 4 ∧ pe (p * 4 + i) = nI (en (p * 4 + i)) ∧ en (p * 4 + i) < 20 ∧ mem (ow p) (en (p * 4 + i)) = true) ∧
  (∀ p q i j, V p i → V q j → ow p = ow q → en (p * 4 + i) = en (q * 4 + j) → p = q ∧ i = j) ∧
  (∀ l e, l < 24 → mem l e = true → ∃ p i, V p i ∧ ow p = l ∧ en (p * 4 + i) = e)
def gx_PC (ow rk zs : Nat → Nat) (fp us nx sz : Nat → Int32) : Prop :=
  (∀ p, gx_U us p → ow p < 24 ∧ sz p = nI (zs p) ∧ 1 ≤ zs p ∧ zs p ≤ 4) ∧
  (∀ p, gx_U us p → (rk p = 0 → nx p = -1) ∧ (∀ r, rk p = r + 1 → ∃ q, gx_U us q ∧ nx p = nI q ∧ ow q = ow p ∧ rk q = r)) ∧
  (∀ p q, gx_U us p → gx_U us q → ow p = ow q → rk p = rk q → p = q) ∧
  (∀ l, l < 24 → (fp l = -1 ∧ ∀ p, gx_U us p → ow p ≠ l) ∨ (∃ p, gx_U us p ∧ fp l = nI p ∧ ow p = l ∧ ∀ q, gx_U us q → ow q = l → rk q ≤ rk p)) ∧
  (∀ p q, gx_U us p → gx_U us q → ow p = ow q → rk p < rk q → zs p = 4)
def gx_V (us : Nat → Int32) (zs : Nat → Nat) (p i : Nat) : Prop := gx_U us p ∧ i < zs p
def gx_Pg (mem : Nat → Nat → Bool) (fp us nx sz pe : Nat → Int32) : Prop := ∃ ow rk zs en, gx_PC ow rk zs fp us nx sz ∧ gx_PE (gx_V us zs) mem ow en pe
def gx_ins (mem : Nat → Nat → Bool) (l e : Nat) : Nat → Nat → Bool := fun l' e' => mem l' e' || (decide (l' = l) && decide (e' = e))
def gx_del (mem : Nat → Nat → Bool) (l e : Nat) : Nat → Nat → Bool := fun l' e' => mem l' e' && !(decide (l' = l) && decide (e' = e))
theorem gx_PE_add {V V' : Nat → Nat → Prop} {mem : Nat → Nat → Bool} {ow ow' en : Nat → Nat} {pe : Nat → Int32} {h s l e : Nat} (hP : gx_PE V mem ow en pe) (hV : ∀ p i, V' p i ↔ V p i ∨ (p = h ∧ i = s)) (hs : s < 4) (hn : ¬ V h s) (how : ∀ p i, V p i → ow' p = ow p) (hl : ow' h = l) (he : e < 20) (hm : mem l e = false) :
    gx_PE V' (gx_ins mem l e) ow' (fun k => if k = h * 4 + s then e else en k) (upd pe (h * 4 + s) (nI e)) := by
  obtain ⟨f, g, k⟩ := hP
  have old : ∀ p i, V p i → p * 4 + i ≠ h * 4 + s := by
    intro p i hv z
    have h4 := (f p i hv).1
    have : p = h ∧ i = s := by omega
    rw [this.1, this.2] at hv
    exact hn hv
  refine ⟨fun p i hv => ?_, fun p q i j hp hq hpq hen => ?_, fun l' e' hl' hm' => ?_⟩
  · rcases (hV p i).mp hv with hv | ⟨rfl, rfl⟩
    · obtain ⟨a1, a2, a3, a4⟩ := f p i hv
      dsimp only
      rw [if_neg (old p i hv), pk_un (old p i hv), how p i hv]
      exact ⟨a1, a2, a3, by unfold gx_ins; rw [a4]; rfl⟩
    · dsimp only
      rw [if_pos rfl, pk_us, hl]
      exact ⟨hs, rfl, he, by unfold gx_ins; simp⟩
  · dsimp only at hen
    rcases (hV p i).mp hp with hp | ⟨rfl, rfl⟩
    · rcases (hV q j).mp hq with hq | ⟨rfl, rfl⟩
      · rw [if_neg (old p i hp), if_neg (old q j hq)] at hen
        rw [how p i hp, how q j hq] at hpq
        exact g p q i j hp hq hpq hen
      · rw [if_neg (old p i hp), if_pos rfl] at hen
        have a4 := (f p i hp).2.2.2
        rw [hl, how p i hp] at hpq
        rw [hpq, hen, hm] at a4; cases a4
    · rcases (hV q j).mp hq with hq | ⟨rfl, rfl⟩
      · rw [if_pos rfl, if_neg (old q j hq)] at hen
        have a4 := (f q j hq).2.2.2
        rw [hl, how q j hq] at hpq
        rw [← hpq, ← hen, hm] at a4; cases a4
      · exact ⟨rfl, rfl⟩
  · unfold gx_ins at hm'
    rw [Bool.or_eq_true, Bool.and_eq_true, decide_eq_true_eq, decide_eq_true_eq] at hm'
    by_cases hc : l' = l ∧ e' = e
    · refine ⟨h, s, (hV h s).mpr (Or.inr ⟨rfl, rfl⟩), by rw [hl, hc.1], ?_⟩
      dsimp only
      rw [if_pos rfl, hc.2]
    · rcases hm' with hm' | hm'
      · obtain ⟨p, i, v1, v2, v3⟩ := k l' e' hl' hm'
        refine ⟨p, i, (hV p i).mpr (Or.inl v1), by rw [how p i v1]; exact v2, ?_⟩
        dsimp only
        rw [if_neg (old p i v1)]; exact v3
      · exact absurd hm' hc
theorem gx_PE_rem {V V' : Nat → Nat → Prop} {mem : Nat → Nat → Bool} {ow en : Nat → Nat} {pe : Nat → Int32} {h s l e p0 i0 : Nat} (hP : gx_PE V mem ow en pe) (hV : ∀ p i, V' p i ↔ V p i ∧ ¬ (p = h ∧ i = s)) (hh : V h s) (how : ow h = l) (h0 : V p0 i0) (how0 : ow p0 = l) (hen0 : en (p0 * 4 + i0) = e) :
    gx_PE V' (gx_del mem l e) ow (fun k => if k = p0 * 4 + i0 then en (h * 4 + s) else en k) (upd pe (p0 * 4 + i0) (nI (en (h * 4 + s)))) := by
  obtain ⟨f, g, k⟩ := hP
  obtain ⟨b1, b2, b3, b4⟩ := f h s hh
  obtain ⟨c1, c2, c3, c4⟩ := f p0 i0 h0
  have eqp : ∀ p i, i < 4 → p * 4 + i = p0 * 4 + i0 → p = p0 ∧ i = i0 := by intro p i hi z; omega
  refine ⟨fun p i hv => ?_, fun p q i j hp hq hpq hen => ?_, fun l' e' hl' hm' => ?_⟩
  · obtain ⟨hv1, hv2⟩ := (hV p i).mp hv
    obtain ⟨a1, a2, a3, a4⟩ := f p i hv1
    dsimp only
    by_cases z : p * 4 + i = p0 * 4 + i0
    · rw [if_pos z, z, pk_us]
      obtain ⟨rfl, rfl⟩ := eqp p i a1 z
      refine ⟨a1, rfl, b3, ?_⟩
      unfold gx_del
      rw [how0]
      rw [how] at b4
      rw [b4]
      have hne : en (h * 4 + s) ≠ e := by
        intro hz
        have := g p h i s h0 hh (by rw [how0, how]) (by rw [hen0, hz])
        exact hv2 this
      simp [hne]
    · rw [if_neg z, pk_un z]
      refine ⟨a1, a2, a3, ?_⟩
      unfold gx_del
      rw [a4, Bool.true_and]
      by_cases hc : ow p = l ∧ en (p * 4 + i) = e
      · have := g p p0 i i0 hv1 h0 (by rw [hc.1, how0]) (by rw [hc.2, hen0])
        exact absurd (by rw [this.1, this.2]) z
      · by_cases hc1 : ow p = l
        · have : en (p * 4 + i) ≠ e := fun w => hc ⟨hc1, w⟩
          simp [this]
        · simp [hc1]
  · obtain ⟨hp1, hp2⟩ := (hV p i).mp hp
    obtain ⟨hq1, hq2⟩ := (hV q j).mp hq
    have a1 := (f p i hp1).1
    have d1 := (f q j hq1).1
    dsimp only at hen
    by_cases z : p * 4 + i = p0 * 4 + i0
    · by_cases y : q * 4 + j = p0 * 4 + i0
      · have e1 := eqp p i a1 z
        have e2 := eqp q j d1 y
        exact ⟨e1.1.trans e2.1.symm, e1.2.trans e2.2.symm⟩
      · rw [if_pos z, if_neg y] at hen
        have e1 := eqp p i a1 z
        have := g h q s j hh hq1 (by rw [how, ← hpq, e1.1, how0]) hen
        exact absurd ⟨this.1.symm, this.2.symm⟩ hq2
    · by_cases y : q * 4 + j = p0 * 4 + i0
      · rw [if_neg z, if_pos y] at hen
        have e2 := eqp q j d1 y
        have := g p h i s hp1 hh (by rw [how, hpq, e2.1, how0]) hen
        exact absurd this hp2
      · rw [if_neg z, if_neg y] at hen
        exact g p q i j hp1 hq1 hpq hen
  · unfold gx_del at hm'
    rw [Bool.and_eq_true, Bool.not_eq_true', ← Bool.not_eq_true, Bool.and_eq_true, decide_eq_true_eq, decide_eq_true_eq] at hm'
    obtain ⟨hm1, hm2⟩ := hm'
    obtain ⟨p, i, v1, v2, v3⟩ := k l' e' hl' hm1
    by_cases z : p = h ∧ i = s
    · obtain ⟨rfl, rfl⟩ := z
      have hl2 : l' = l := v2.symm.trans how
      have hne : e' ≠ e := fun w => hm2 ⟨hl2, w⟩
      refine ⟨p0, i0, (hV p0 i0).mpr ⟨h0, ?_⟩, by rw [how0, hl2], ?_⟩
      · rintro ⟨rfl, rfl⟩
        exact hne (v3.symm.trans hen0)
      · dsimp only
        rw [if_pos rfl]; exact v3
    · refine ⟨p, i, (hV p i).mpr ⟨v1, z⟩, v2, ?_⟩
      have a1 := (f p i v1).1
      have hne : p * 4 + i ≠ p0 * 4 + i0 := by
        intro w
        obtain ⟨rfl, rfl⟩ := eqp p i a1 w
        exact hm2 ⟨v2.symm.trans how0, v3.symm.trans hen0⟩
      dsimp only
      rw [if_neg hne]; exact v3
/-- an edge onto the first page, where there is room -/
theorem gx_Pg_old {mem : Nat → Nat → Bool} {ow rk zs en : Nat → Nat} {fp us nx sz pe : Nat → Int32} {h l e : Nat} (hc : gx_PC ow rk zs fp us nx sz) (hp : gx_PE (gx_V us zs) mem ow en pe) (hU : gx_U us h) (how : ow h = l) (hmax : ∀ q, gx_U us q → ow q = l → rk q ≤ rk h) (hz : zs h < 4) (he : e < 20) (hm : mem l e = false) :
    gx_Pg (gx_ins mem l e) fp us nx (upd sz h (nI (zs h + 1))) (upd pe (h * 4 + zs h) (nI e)) := by
  obtain ⟨A, B, C, D, E⟩ := hc
  refine ⟨ow, rk, fun p => if p = h then zs h + 1 else zs p, _, ⟨fun p hu => ?_, B, C, D, fun p q hu hv h1 h2 => ?_⟩, gx_PE_add hp (fun p i => ?_) hz (fun w => by have := w.2; omega) (fun p i _ => rfl) how he hm⟩
  · dsimp only
    by_cases z : p = h
    · subst z
      rw [if_pos rfl, pk_us]
      exact ⟨(A p hu).1, rfl, by omega, by omega⟩
    · rw [if_neg z, pk_un z]; exact A p hu
  · dsimp only
    have hne : p ≠ h := by
      intro z
      subst z
      have := hmax q hv (by rw [← h1, how])
      omega
    rw [if_neg hne]
    exact E p q hu hv h1 h2
  · unfold gx_V
    dsimp only
    by_cases z : p = h
    · subst z
      rw [if_pos rfl]
      constructor
      · rintro ⟨a, b⟩
        by_cases y : i = zs p
        · exact Or.inr ⟨rfl, y⟩
        · exact Or.inl ⟨a, by omega⟩
      · rintro (⟨a, b⟩ | ⟨_, rfl⟩)
        · exact ⟨a, by omega⟩
        · exact ⟨hU, by omega⟩
    · rw [if_neg z]
      constructor
      · exact Or.inl
      · rintro (a | ⟨a, _⟩)
        · exact a
        · exact absurd a z
/-- an edge onto a new first page -/
theorem gx_Pg_new {mem : Nat → Nat → Bool} {ow rk zs en : Nat → Nat} {fp us nx sz pe : Nat → Int32} {p l e : Nat} (hc : gx_PC ow rk zs fp us nx sz) (hp : gx_PE (gx_V us zs) mem ow en pe) (hl : l < 24) (hp48 : p < 48) (hfree : us p = 0) (hd : (fp l = -1 ∧ ∀ q, gx_U us q → ow q ≠ l) ∨ (∃ h, gx_U us h ∧ fp l = nI h ∧ ow h = l ∧ (∀ q, gx_U us q → ow q = l → rk q ≤ rk h) ∧ zs h = 4)) (he : e < 20) (hm : mem l e = false) :
    gx_Pg (gx_ins mem l e) (upd fp l (nI p)) (upd us p 1) (upd nx p (fp l)) (upd sz p (nI 1)) (upd pe (p * 4 + 0) (nI e)) := by
  obtain ⟨A, B, C, D, E⟩ := hc
  have hnot : ¬ gx_U us p := fun w => w.2 hfree
  have hU : ∀ q, gx_U (upd us p 1) q ↔ q = p ∨ gx_U us q := by
    intro q
    unfold gx_U
    by_cases z : q = p
    · subst z
      rw [pk_us]
      exact ⟨fun _ => Or.inl rfl, fun _ => ⟨hp48, by decide⟩⟩
    · rw [pk_un z]
      exact ⟨Or.inr, fun w => w.resolve_left z⟩
  have hUn : ∀ q, gx_U us q → q ≠ p := fun q hq z => hnot (z ▸ hq)
  obtain ⟨r0, hr0, hr1, hr2⟩ : ∃ r0, (∀ q, gx_U us q → ow q = l → rk q < r0) ∧ (r0 = 0 → fp l = -1) ∧ (∀ r, r0 = r + 1 → ∃ q, gx_U us q ∧ fp l = nI q ∧ ow q = l ∧ rk q = r) := by
    rcases hd with ⟨d1, d2⟩ | ⟨h, d1, d2, d3, d4, d5⟩
    · exact ⟨0, fun q hq hq2 => absurd hq2 (d2 q hq), fun _ => d1, fun r hr => by omega⟩
    · exact ⟨rk h + 1, fun q hq hq2 => by have := d4 q hq hq2; omega, fun z => by omega, fun r hr => ⟨h, d1, d2, d3, by omega⟩⟩
  refine ⟨fun q => if q = p then l else ow q, fun q => if q = p then r0 else rk q, fun q => if q = p then 1 else zs q, _, ⟨fun q hu => ?_, fun q hu => ?_, fun q q' hu hu' h1 h2 => ?_, fun l' hl' => ?_, fun q q' hu hu' h1 h2 => ?_⟩, gx_PE_add (h := p) (s := 0) (l := l) hp (fun q i => ?_) (by omega) (fun w => hnot w.1) (fun q i w => if_neg (hUn q w.1)) (if_pos rfl) he hm⟩
  · dsimp only
    by_cases z : q = p
    · subst z
      rw [if_pos rfl, if_pos rfl, pk_us]
      exact ⟨hl, rfl, by omega, by omega⟩
    · rw [if_neg z, if_neg z, pk_un z]
      exact A q (((hU q).mp hu).resolve_left z)
  · dsimp only
    by_cases z : q = p
    · subst z
      rw [if_pos rfl, if_pos rfl, pk_us]
      refine ⟨hr1, fun r hr => ?_⟩
      obtain ⟨q', q1, q2, q3, q4⟩ := hr2 r hr
      exact ⟨q', (hU q').mpr (Or.inr q1), q2, by rw [if_neg (hUn q' q1)]; exact q3, by rw [if_neg (hUn q' q1)]; exact q4⟩
    · rw [if_neg z, if_neg z, pk_un z]
      obtain ⟨b1, b2⟩ := B q (((hU q).mp hu).resolve_left z)
      refine ⟨b1, fun r hr => ?_⟩
      obtain ⟨q', q1, q2, q3, q4⟩ := b2 r hr
      exact ⟨q', (hU q').mpr (Or.inr q1), q2, by rw [if_neg (hUn q' q1)]; exact q3, by rw [if_neg (hUn q' q1)]; exact q4⟩
  · dsimp only at h1 h2
    by_cases z : q = p
    · by_cases y : q' = p
      · rw [z, y]
      · rw [if_pos z, if_neg y] at h1 h2
        have := hr0 q' (((hU q').mp hu').resolve_left y) h1.symm
        omega
    · by_cases y : q' = p
      · rw [if_neg z, if_pos y] at h1 h2
        have := hr0 q (((hU q).mp hu).resolve_left z) h1
        omega
      · rw [if_neg z, if_neg y] at h1 h2
        exact C q q' (((hU q).mp hu).resolve_left z) (((hU q').mp hu').resolve_left y) h1 h2
  · dsimp only
    by_cases z : l' = l
    · subst z
      right
      refine ⟨p, (hU p).mpr (Or.inl rfl), by rw [pk_us], by rw [if_pos rfl], fun q hu hq => ?_⟩
      rw [if_pos rfl]
      by_cases y : q = p
      · rw [if_pos y]; exact Nat.le_refl _
      · rw [if_neg y] at hq ⊢
        have := hr0 q (((hU q).mp hu).resolve_left y) hq
        omega
    · rw [pk_un z]
      rcases D l' hl' with ⟨d1, d2⟩ | ⟨h, d1, d2, d3, d4⟩
      · left
        refine ⟨d1, fun q hu => ?_⟩
        by_cases y : q = p
        · rw [if_pos y]; exact fun w => z w.symm
        · rw [if_neg y]; exact d2 q (((hU q).mp hu).resolve_left y)
      · right
        have hhp := hUn h d1
        refine ⟨h, (hU h).mpr (Or.inr d1), d2, by rw [if_neg hhp]; exact d3, fun q hu hq => ?_⟩
        rw [if_neg hhp]
        by_cases y : q = p
        · rw [if_pos y] at hq; exact absurd hq.symm z
        · rw [if_neg y] at hq ⊢
          exact d4 q (((hU q).mp hu).resolve_left y) hq
  · dsimp only at h1 h2 ⊢
    by_cases z : q = p
    · rw [if_pos z] at h1 h2
      by_cases y : q' = p
      · rw [if_pos y] at h2; omega
      · rw [if_neg y] at h1 h2
        have := hr0 q' (((hU q').mp hu').resolve_left y) h1.symm
        omega
    · rw [if_neg z] at h1 h2 ⊢
      have hq := ((hU q).mp hu).resolve_left z
      by_cases y : q' = p
      · rw [if_pos y] at h1 h2
        rcases hd with ⟨d1, d2⟩ | ⟨h, d1, d2, d3, d4, d5⟩
        · exact absurd h1 (d2 q hq)
        · by_cases x : q = h
          · rw [x]; exact d5
          · have hlt : rk q < rk h := by
              have := d4 q hq h1
              rcases Nat.lt_or_ge (rk q) (rk h) with w | w
              · exact w
              · exact absurd (C q h hq d1 (by rw [h1, d3]) (by omega)) x
            exact E q h hq d1 (by rw [h1, d3]) hlt
      · rw [if_neg y] at h1 h2
        exact E q q' hq (((hU q').mp hu').resolve_left y) h1 h2
  · unfold gx_V
    dsimp only
    rw [hU q]
    by_cases z : q = p
    · rw [if_pos z]
      constructor
      · rintro ⟨_, w⟩; exact Or.inr ⟨z, by omega⟩
      · rintro (w | w)
        · exact absurd z (hUn q w.1)
        · exact ⟨Or.inl z, by omega⟩
    · rw [if_neg z]
      constructor
      · rintro ⟨w1, w2⟩; exact Or.inl ⟨w1.resolve_left z, w2⟩
      · rintro (w | w)
        · exact ⟨Or.inr w.1, w.2⟩
        · exact absurd w.1 z
/-- an edge off a list: the first page keeps others -/
theorem gx_Pg_remA {mem : Nat → Nat → Bool} {ow rk zs en : Nat → Nat} {fp us nx sz pe : Nat → Int32} {h s l e p0 i0 : Nat} (hc : gx_PC ow rk zs fp us nx sz) (hp : gx_PE (gx_V us zs) mem ow en pe) (hU : gx_U us h) (how : ow h = l) (hmax : ∀ q, gx_U us q → ow q = l → rk q ≤ rk h) (hs : zs h = s + 1) (hs1 : 1 ≤ s) (h0 : gx_V us zs p0 i0) (how0 : ow p0 = l) (hen0 : en (p0 * 4 + i0) = e) :
    gx_Pg (gx_del mem l e) fp us nx (upd sz h (nI s)) (upd pe (p0 * 4 + i0) (nI (en (h * 4 + s)))) := by
  obtain ⟨A, B, C, D, E⟩ := hc
  refine ⟨ow, rk, fun p => if p = h then s else zs p, _, ⟨fun p hu => ?_, B, C, D, fun p q hu hv h1 h2 => ?_⟩, gx_PE_rem (h := h) (s := s) hp (fun p i => ?_) ⟨hU, by omega⟩ how h0 how0 hen0⟩
  · dsimp only
    by_cases z : p = h
    · subst z
      have := A p hu
      rw [if_pos rfl, pk_us]
      exact ⟨this.1, rfl, hs1, by omega⟩
    · rw [if_neg z, pk_un z]; exact A p hu
  · dsimp only
    have hne : p ≠ h := by
      intro z
      subst z
      have := hmax q hv (by rw [← h1, how])
      omega
    rw [if_neg hne]
    exact E p q hu hv h1 h2
  · unfold gx_V
    dsimp only
    by_cases z : p = h
    · subst z
      rw [if_pos rfl, hs]
      constructor
      · rintro ⟨a, b⟩; exact ⟨⟨a, by omega⟩, by omega⟩
      · rintro ⟨⟨a, b⟩, c⟩
        refine ⟨a, ?_⟩
        have : i ≠ s := fun w => c ⟨rfl, w⟩
        omega
    · rw [if_neg z]
      exact ⟨fun w => ⟨w, fun y => z y.1⟩, fun w => w.1⟩
/-- an edge off a list: the first page is given back -/
theorem gx_Pg_remB {mem : Nat → Nat → Bool} {ow rk zs en : Nat → Nat} {fp us nx sz pe : Nat → Int32} {h l e p0 i0 : Nat} {x : Int32} (hc : gx_PC ow rk zs fp us nx sz) (hp : gx_PE (gx_V us zs) mem ow en pe) (hU : gx_U us h) (how : ow h = l) (hmax : ∀ q, gx_U us q → ow q = l → rk q ≤ rk h) (hs : zs h = 1) (h0 : gx_V us zs p0 i0) (how0 : ow p0 = l) (hen0 : en (p0 * 4 + i0) = e) :
    gx_Pg (gx_del mem l e) (upd fp l (nx h)) (upd us h 0) nx (upd sz h x) (upd pe (p0 * 4 + i0) (nI (en (h * 4 + 0)))) := by
  obtain ⟨A, B, C, D, E⟩ := hc
  have hU' : ∀ q, gx_U (upd us h 0) q ↔ gx_U us q ∧ q ≠ h := by
    intro q
    unfold gx_U
    by_cases z : q = h
    · subst z
      rw [pk_us]
      exact ⟨fun w => absurd rfl w.2, fun w => absurd rfl w.2⟩
    · rw [pk_un z]
      exact ⟨fun w => ⟨w, z⟩, fun w => w.1⟩
  refine ⟨ow, rk, zs, _, ⟨fun q hu => ?_, fun q hu => ?_, fun q q' hu hu' h1 h2 => C q q' ((hU' q).mp hu).1 ((hU' q').mp hu').1 h1 h2, fun l' hl' => ?_, fun q q' hu hu' h1 h2 => E q q' ((hU' q).mp hu).1 ((hU' q').mp hu').1 h1 h2⟩, gx_PE_rem (h := h) (s := 0) hp (fun p i => ?_) ⟨hU, by omega⟩ how h0 how0 hen0⟩
  · obtain ⟨w1, w2⟩ := (hU' q).mp hu
    rw [pk_un w2]; exact A q w1
  · obtain ⟨w1, w2⟩ := (hU' q).mp hu
    obtain ⟨b1, b2⟩ := B q w1
    refine ⟨b1, fun r hr => ?_⟩
    obtain ⟨q', q1, q2, q3, q4⟩ := b2 r hr
    refine ⟨q', (hU' q').mpr ⟨q1, fun z => ?_⟩, q2, q3, q4⟩
    rw [z] at q3 q4
    have := hmax q w1 (by rw [← q3, how])
    omega
  · by_cases z : l' = l
    · subst z
      rw [pk_us]
      cases hr : rk h with
      | zero =>
        left
        refine ⟨(B h hU).1 hr, fun q hu hq => ?_⟩
        obtain ⟨w1, w2⟩ := (hU' q).mp hu
        have := hmax q w1 hq
        exact w2 (C q h w1 hU (by rw [hq, how]) (by omega))
      | succ r =>
        right
        obtain ⟨q', q1, q2, q3, q4⟩ := (B h hU).2 r hr
        refine ⟨q', (hU' q').mpr ⟨q1, fun z => by rw [z] at q4; omega⟩, q2, by rw [q3, how], fun q hu hq => ?_⟩
        obtain ⟨w1, w2⟩ := (hU' q).mp hu
        have h1 := hmax q w1 hq
        rcases Nat.lt_or_ge (rk q) (rk h) with w | w
        · omega
        · exact absurd (C q h w1 hU (by rw [hq, how]) (by omega)) w2
    · rw [pk_un z]
      rcases D l' hl' with ⟨d1, d2⟩ | ⟨h', d1, d2, d3, d4⟩
      · left
        exact ⟨d1, fun q hu => d2 q ((hU' q).mp hu).1⟩
      · right
        refine ⟨h', (hU' h').mpr ⟨d1, fun y => z (by rw [← d3, y, how])⟩, d2, d3, fun q hu hq => d4 q ((hU' q).mp hu).1 hq⟩
  · unfold gx_V
    rw [hU' p]
    constructor
    · rintro ⟨⟨a, b⟩, c⟩; exact ⟨⟨a, c⟩, fun w => b w.1⟩
    · rintro ⟨⟨a, b⟩, c⟩
      refine ⟨⟨a, fun w => c ⟨w, ?_⟩⟩, b⟩
      rw [w, hs] at b
      omega
theorem gp_pig : ∀ (n : Nat) (f : Nat → Nat), (∀ i, i ≤ n → f i < n) → (∀ i j, i ≤ n → j ≤ n → f i = f j → i = j) → False
  | 0, f, h, _ => by have := h 0 (Nat.le_refl _); omega
  | n + 1, f, h, hi => by
    refine gp_pig n (fun i => if f i = n then f (n + 1) else f i) (fun i hn => ?_) (fun i j hn hm e => ?_)
    · try dsimp only
      by_cases z : f i = n
      · rw [if_pos z]
        have h1 := h (n + 1) (Nat.le_refl _)
        have h2 : f (n + 1) ≠ n := fun w => by have := hi i (n + 1) (by omega) (Nat.le_refl _) (by rw [z, w]); omega
        omega
      · rw [if_neg z]
        have := h i (by omega)
        omega
    · try dsimp only at e
      by_cases z : f i = n
      · by_cases y : f j = n
        · exact hi i j (by omega) (by omega) (by rw [z, y])
        · rw [if_pos z, if_neg y] at e
          have := hi (n + 1) j (Nat.le_refl _) (by omega) e
          omega
      · by_cases y : f j = n
        · rw [if_neg z, if_pos y] at e
          have := hi i (n + 1) (by omega) (Nat.le_refl _) e
          omega
        · rw [if_neg z, if_neg y] at e
          exact hi i j (by omega) (by omega) e
/-- there is a page that isn't used -/
theorem gx_Pg_free {mem : Nat → Nat → Bool} {ow rk zs en : Nat → Nat} {fp us nx sz pe : Nat → Int32} (hc : gx_PC ow rk zs fp us nx sz) (hp : gx_PE (gx_V us zs) mem ow en pe) (hu : ∀ l l' e, mem l e = true → mem l' e = true → l % 2 = l' % 2 → l = l') : ∃ p, p < 47 ∧ us p = 0 := by
  apply Classical.byContradiction
  intro hno
  have hall : ∀ p, p < 47 → gx_U us p := fun p hp => ⟨by omega, fun z => hno ⟨p, hp, z⟩⟩
  obtain ⟨A, B, C, D, E⟩ := hc
  obtain ⟨f, g, k⟩ := hp
  have hv : ∀ p, p < 47 → gx_V us zs p 0 := fun p hp => ⟨hall p hp, by have := (A p (hall p hp)).2.2.1; omega⟩
  refine gp_pig 40 (fun p => 2 * en (p * 4 + 0) + ow p % 2) (fun p hp => ?_) (fun p q hp hq e => ?_)
  · have := (f p 0 (hv p (by omega))).2.2.1
    try dsimp only
    omega
  · try dsimp only at e
    have h1 : en (p * 4 + 0) = en (q * 4 + 0) := by omega
    have h2 : ow p % 2 = ow q % 2 := by omega
    have a1 := (f p 0 (hv p (by omega))).2.2.2
    have a2 := (f q 0 (hv q (by omega))).2.2.2
    rw [h1] at a1
    have h3 := hu _ _ _ a1 a2 h2
    exact (g p q 0 0 (hv p (by omega)) (hv q (by omega)) h3 h1).1
end
section
/-! the walks over pages -/
theorem gx_byteM1 : vp_nar .byte ((-1 : Int32).toInt8.toInt32) = -1 := by rw [pk_vb]; decide
theorem gx_bool1 : vp_nar .boolean 1 = 1 := rfl
theorem gx_bool0 : vp_nar .boolean 0 = 0 := rfl
theorem gx_byte0 : vp_nar .byte 0 = 0 := by rw [vp_nar_byte]; decide
section
variable {f_nodeSet f_edgeSet f_sortedCount f_keptCount f_which f_inOrder f_total f_depth f_begun f_assigned f_usedNodes f_edgeLinks : Int32} {a_labelOf a_valueOf a_fromOf a_toOf a_typeOf a_weightOf a_firstPage a_pageUsed a_pageNext a_pageSize a_pageEdge a_labelled a_sorted a_modeOf a_spotSet a_spotLabels a_spotLeast a_spotGreatest a_linkSet a_linkFrom a_linkTo a_linkTypes a_linkKind a_outgoing a_incoming a_allowed a_candidates a_behind a_before a_nodeFor a_levelSpot a_levelLeft a_edgeLink a_choiceLeft a_choice a_pickedEdge : Nat → Int32}
theorem gx_listed17 {post : Int32 → Prop} {J9 : Int32 → Int32 → Prop} {p : Nat} {zs en : Nat → Nat} (hp48 : p < 48) (hz : a_pageSize p = nI (zs p)) (hz4 : zs p ≤ 4) (hen : ∀ i, i < zs p → a_pageEdge (p * 4 + i) = nI (en (p * 4 + i)) ∧ en (p * 4 + i) < 20) : ∀ (d i : Nat) (acc : Int32) (n : Nat), i + d = zs p → d < n → (∀ r, (∀ m, m < 32 → bt r m = (bt acc m || gb_an (fun t => decide (m = en (p * 4 + t))) i d)) → J9 r (a_pageNext p)) → wX_listed_17 post J9 (nI p) f_nodeSet f_edgeSet f_sortedCount f_keptCount f_which f_inOrder f_total f_depth f_begun f_assigned f_usedNodes f_edgeLinks a_labelOf a_valueOf a_fromOf a_toOf a_typeOf a_weightOf a_firstPage a_pageUsed a_pageNext a_pageSize a_pageEdge a_labelled a_sorted a_modeOf a_spotSet a_spotLabels a_spotLeast a_spotGreatest a_linkSet a_linkFrom a_linkTo a_linkTypes a_linkKind a_outgoing a_incoming a_allowed a_candidates a_behind a_before a_nodeFor a_levelSpot a_levelLeft a_edgeLink a_choiceLeft a_choice a_pickedEdge n acc (nI i) := by
  have hin : vp_in (nI p) 48 := vp_in_nI hp48 (by omega)
  intro d
  induction d with
  | zero =>
    intro i acc n hi hn hJ
    obtain ⟨n, rfl⟩ := gx_S n (by omega)
    refine And.intro hin ?_
    rw [nI_clamp (n := p) (by omega), hz]
    refine pk_le (zs p) i (fun _ => And.intro hin (nm_e (hJ acc (fun m _ => ?_)))) (fun h => by omega)
    show bt acc m = (bt acc m || false)
    rw [Bool.or_false]
  | succ d ih =>
    intro i acc n hi hn hJ
    obtain ⟨n, rfl⟩ := gx_S n (by omega)
    obtain ⟨e1, e2⟩ := hen i (by omega)
    refine And.intro hin ?_
    rw [nI_clamp (n := p) (by omega), hz, gx_ix4]
    refine pk_le (zs p) i (fun h => by omega) (fun _ => And.intro (vp_in_nI (by omega) (by omega)) ?_)
    rw [nI_clamp (n := p * 4 + i) (by omega), e1]
    refine nm_e (nm_r (nI_1 i) (ih (i + 1) _ n (by omega) (by omega) (fun r hr => hJ r (fun m hm => ?_))))
    rw [hr m hm, b_or, gb_one (by omega), Bool.or_assoc]
    rfl
theorem gx_listed9 {post : Int32 → Prop} {mem : Nat → Nat → Bool} {ow rk zs en : Nat → Nat} {l : Nat} (hc : gx_PC ow rk zs a_firstPage a_pageUsed a_pageNext a_pageSize) (hp : gx_PE (gx_V a_pageUsed zs) mem ow en a_pageEdge) : ∀ (r p : Nat) (acc : Int32) (n : Nat), rk p = r → gx_U a_pageUsed p → ow p = l → r + 1 < n →
    (∀ res, (∀ m, m < 32 → (bt res m = true ↔ bt acc m = true ∨ ∃ q i, gx_V a_pageUsed zs q i ∧ ow q = l ∧ rk q ≤ r ∧ en (q * 4 + i) = m)) → post res) → wX_listed_9 post f_nodeSet f_edgeSet f_sortedCount f_keptCount f_which f_inOrder f_total f_depth f_begun f_assigned f_usedNodes f_edgeLinks a_labelOf a_valueOf a_fromOf a_toOf a_typeOf a_weightOf a_firstPage a_pageUsed a_pageNext a_pageSize a_pageEdge a_labelled a_sorted a_modeOf a_spotSet a_spotLabels a_spotLeast a_spotGreatest a_linkSet a_linkFrom a_linkTo a_linkTypes a_linkKind a_outgoing a_incoming a_allowed a_candidates a_behind a_before a_nodeFor a_levelSpot a_levelLeft a_edgeLink a_choiceLeft a_choice a_pickedEdge n acc (nI p) := by
  obtain ⟨A, B, C, D, E⟩ := hc
  obtain ⟨f, g, k⟩ := hp
  intro r
  induction r with
  | zero =>
    intro p acc n hr hu how hn hpost
    obtain ⟨n, rfl⟩ := gx_S n (by omega)
    obtain ⟨n, rfl⟩ := gx_S n (by omega)
    obtain ⟨a1, a2, a3, a4⟩ := A p hu
    have hne : ¬ nI p = -1 := by
      intro z
      have : nI p < 0 := by rw [z]; decide
      exact absurd this (nI_pos (by have := hu.1; omega))
    refine br_f hne (Exists.intro 5 (gx_listed17 (zs := zs) (en := en) hu.1 a2 a4 (fun i hi => ⟨(f p i ⟨hu, hi⟩).2.1, (f p i ⟨hu, hi⟩).2.2.1⟩) (zs p) 0 acc 5 (by omega) (by omega) (fun res hres => ?_)))
    rw [(B p hu).1 hr]
    refine br_t rfl (hpost res (fun m hm => ?_))
    rw [hres m hm, Bool.or_eq_true, gb_an_iff]
    constructor
    · rintro (h | ⟨t, t1, t2, t3⟩)
      · exact Or.inl h
      · exact Or.inr ⟨p, t, ⟨hu, by omega⟩, how, by omega, (by simpa using t3 : m = _).symm⟩
    · rintro (h | ⟨q, i, ⟨q1, q2⟩, q3, q4, q5⟩)
      · exact Or.inl h
      · have : q = p := C q p q1 hu (by rw [q3, how]) (by omega)
        subst this
        exact Or.inr ⟨i, by omega, by omega, by simp [q5]⟩
  | succ r ih =>
    intro p acc n hr hu how hn hpost
    obtain ⟨n, rfl⟩ := gx_S n (by omega)
    obtain ⟨a1, a2, a3, a4⟩ := A p hu
    have hne : ¬ nI p = -1 := by
      intro z
      have : nI p < 0 := by rw [z]; decide
      exact absurd this (nI_pos (by have := hu.1; omega))
    refine br_f hne (Exists.intro 5 (gx_listed17 (zs := zs) (en := en) hu.1 a2 a4 (fun i hi => ⟨(f p i ⟨hu, hi⟩).2.1, (f p i ⟨hu, hi⟩).2.2.1⟩) (zs p) 0 acc 5 (by omega) (by omega) (fun res hres => ?_)))
    obtain ⟨q, q1, q2, q3, q4⟩ := (B p hu).2 r hr
    rw [q2]
    refine ih q res n q4 q1 (by rw [q3, how]) (by omega) (fun res2 hres2 => hpost res2 (fun m hm => ?_))
    rw [hres2 m hm, hres m hm, Bool.or_eq_true, gb_an_iff]
    constructor
    · rintro ((h | ⟨t, t1, t2, t3⟩) | ⟨q', i, w1, w2, w3, w4⟩)
      · exact Or.inl h
      · exact Or.inr ⟨p, t, ⟨hu, by omega⟩, how, by omega, (by simpa using t3 : m = _).symm⟩
      · exact Or.inr ⟨q', i, w1, w2, by omega, w4⟩
    · rintro (h | ⟨q', i, w1, w2, w3, w4⟩)
      · exact Or.inl (Or.inl h)
      · rcases Nat.lt_or_ge r (rk q') with z | z
        · have : q' = p := C q' p w1.1 hu (by rw [w2, how]) (by omega)
          subst this
          exact Or.inl (Or.inr ⟨i, by omega, by have := w1.2; omega, by simp [w4]⟩)
        · exact Or.inr ⟨q', i, w1, w2, z, w4⟩
theorem gx_listed {post : Int32 → Prop} {mem : Nat → Nat → Bool} {l : Nat} (hl : l < 24) (hP : gx_Pg mem a_firstPage a_pageUsed a_pageNext a_pageSize a_pageEdge) (hp : post (gb_mk (mem l))) : wpX_listed post (f_nodeSet, f_edgeSet, f_sortedCount, f_keptCount, f_which, f_inOrder, f_total, f_depth, f_begun, f_assigned, f_usedNodes, f_edgeLinks, a_labelOf, a_valueOf, a_fromOf, a_toOf, a_typeOf, a_weightOf, a_firstPage, a_pageUsed, a_pageNext, a_pageSize, a_pageEdge, a_labelled, a_sorted, a_modeOf, a_spotSet, a_spotLabels, a_spotLeast, a_spotGreatest, a_linkSet, a_linkFrom, a_linkTo, a_linkTypes, a_linkKind, a_outgoing, a_incoming, a_allowed, a_candidates, a_behind, a_before, a_nodeFor, a_levelSpot, a_levelLeft, a_edgeLink, a_choiceLeft, a_choice, a_pickedEdge) (nI l) := by
  obtain ⟨ow, rk, zs, en, hc, he⟩ := hP
  have hc0 := hc
  have he0 := he
  obtain ⟨A, B, C, D, E⟩ := hc
  obtain ⟨f, g, k⟩ := he
  refine And.intro (vp_in_nI hl (by omega)) ?_
  rw [nI_clamp (n := l) (by omega)]
  rcases D l hl with ⟨d1, d2⟩ | ⟨h, d1, d2, d3, d4⟩
  · rw [d1]
    refine nm_e (Exists.intro 1 (br_t rfl ?_))
    have : gb_mk (mem l) = 0 := by
      rw [← gb_mk_0]
      apply gb_mk_e
      intro e _
      cases hm : mem l e
      · rfl
      · obtain ⟨p, i, v1, v2, v3⟩ := k l e hl hm
        exact absurd v2 (d2 p v1.1)
    rw [this] at hp; exact hp
  · rw [d2]
    refine nm_e (Exists.intro (rk h + 2) (gx_listed9 hc0 he0 (rk h) h 0 (rk h + 2) rfl d1 d3 (by omega) (fun res hres => ?_)))
    have : res = gb_mk (mem l) := by
      apply gb_mk_of
      intro m hm
      apply gb_bool
      rw [hres m hm, b_0]
      constructor
      · rintro (z | ⟨q, i, w1, w2, w3, w4⟩)
        · cases z
        · have := (f q i w1).2.2.2
          rw [w2, w4] at this; exact this
      · intro hm2
        obtain ⟨p, i, v1, v2, v3⟩ := k l m hl hm2
        exact Or.inr ⟨p, i, v1, v2, d4 p v1.1 v2, v3⟩
    rw [this]; exact hp
theorem gx_2n (n : Nat) : (2 : Int32) * nI n = nI (2 * n) := by rw [show (2 : Int32) = nI 2 from rfl, pk_mul]
theorem gx_2n1 (n : Nat) : (2 : Int32) * nI n + 1 = nI (2 * n + 1) := by rw [gx_2n, nI_1]
theorem gx_readLists_l {post : SX → Prop} {mem : Nat → Nat → Bool} (hP : gx_Pg mem a_firstPage a_pageUsed a_pageNext a_pageSize a_pageEdge) (hp : ∀ out inc, (∀ n, n < 12 → out n = gb_mk (mem (2 * n)) ∧ inc n = gb_mk (mem (2 * n + 1))) → post (f_nodeSet, f_edgeSet, f_sortedCount, f_keptCount, f_which, f_inOrder, f_total, f_depth, f_begun, f_assigned, f_usedNodes, f_edgeLinks, a_labelOf, a_valueOf, a_fromOf, a_toOf, a_typeOf, a_weightOf, a_firstPage, a_pageUsed, a_pageNext, a_pageSize, a_pageEdge, a_labelled, a_sorted, a_modeOf, a_spotSet, a_spotLabels, a_spotLeast, a_spotGreatest, a_linkSet, a_linkFrom, a_linkTo, a_linkTypes, a_linkKind, out, inc, a_allowed, a_candidates, a_behind, a_before, a_nodeFor, a_levelSpot, a_levelLeft, a_edgeLink, a_choiceLeft, a_choice, a_pickedEdge)) : ∀ (d s : Nat) (out inc : Nat → Int32) (n : Nat), s + d = 12 → d < n → (∀ n, n < s → out n = gb_mk (mem (2 * n)) ∧ inc n = gb_mk (mem (2 * n + 1))) → wX_readLists_2 post f_nodeSet f_edgeSet f_sortedCount f_keptCount f_which f_inOrder f_total f_depth f_begun f_assigned f_usedNodes f_edgeLinks n (nI s) a_labelOf a_valueOf a_fromOf a_toOf a_typeOf a_weightOf a_firstPage a_pageUsed a_pageNext a_pageSize a_pageEdge a_labelled a_sorted a_modeOf a_spotSet a_spotLabels a_spotLeast a_spotGreatest a_linkSet a_linkFrom a_linkTo a_linkTypes a_linkKind out inc a_allowed a_candidates a_behind a_before a_nodeFor a_levelSpot a_levelLeft a_edgeLink a_choiceLeft a_choice a_pickedEdge := by
  intro d
  induction d with
  | zero =>
    intro s out inc n hs hn h
    obtain ⟨n, rfl⟩ := gx_S n (by omega)
    exact pk_le 12 s (fun _ => hp out inc (fun k hk => h k (by omega))) (fun h => by omega)
  | succ d ih =>
    intro s out inc n hs hn h
    obtain ⟨n, rfl⟩ := gx_S n (by omega)
    have hin : vp_in (nI s) 12 := vp_in_nI (by omega) (by omega)
    refine pk_le 12 s (fun h => by omega) (fun _ => ?_)
    rw [gx_2n]
    refine gx_listed (by omega) hP (And.intro hin ?_)
    rw [nI_clamp (n := s) (by omega), nI_1 (2 * s)]
    refine nm_e (gx_listed (by omega) hP (And.intro hin (nm_e (nm_r (nI_1 s) (ih (s + 1) _ _ n (by omega) (by omega) (fun k hk => ?_))))))
    by_cases e : k = s
    · subst e
      rw [pk_us, pk_us]; exact ⟨rfl, rfl⟩
    · rw [pk_un e, pk_un e]; exact h k (by omega)
theorem gx_readLists {post : SX → Prop} {mem : Nat → Nat → Bool} (hP : gx_Pg mem a_firstPage a_pageUsed a_pageNext a_pageSize a_pageEdge) (hp : ∀ out inc, (∀ n, n < 12 → out n = gb_mk (mem (2 * n)) ∧ inc n = gb_mk (mem (2 * n + 1))) → post (f_nodeSet, f_edgeSet, f_sortedCount, f_keptCount, f_which, f_inOrder, f_total, f_depth, f_begun, f_assigned, f_usedNodes, f_edgeLinks, a_labelOf, a_valueOf, a_fromOf, a_toOf, a_typeOf, a_weightOf, a_firstPage, a_pageUsed, a_pageNext, a_pageSize, a_pageEdge, a_labelled, a_sorted, a_modeOf, a_spotSet, a_spotLabels, a_spotLeast, a_spotGreatest, a_linkSet, a_linkFrom, a_linkTo, a_linkTypes, a_linkKind, out, inc, a_allowed, a_candidates, a_behind, a_before, a_nodeFor, a_levelSpot, a_levelLeft, a_edgeLink, a_choiceLeft, a_choice, a_pickedEdge)) : wpX_readLists post (f_nodeSet, f_edgeSet, f_sortedCount, f_keptCount, f_which, f_inOrder, f_total, f_depth, f_begun, f_assigned, f_usedNodes, f_edgeLinks, a_labelOf, a_valueOf, a_fromOf, a_toOf, a_typeOf, a_weightOf, a_firstPage, a_pageUsed, a_pageNext, a_pageSize, a_pageEdge, a_labelled, a_sorted, a_modeOf, a_spotSet, a_spotLabels, a_spotLeast, a_spotGreatest, a_linkSet, a_linkFrom, a_linkTo, a_linkTypes, a_linkKind, a_outgoing, a_incoming, a_allowed, a_candidates, a_behind, a_before, a_nodeFor, a_levelSpot, a_levelLeft, a_edgeLink, a_choiceLeft, a_choice, a_pickedEdge) :=
  Exists.intro 13 (gx_readLists_l hP hp 12 0 a_outgoing a_incoming 13 rfl (by omega) (fun n hn => by omega))
/-! list -/
theorem gx_newPage2 {post : Int32 → SX → Prop} {x1 : Int32} (hx : vp_nar .byte x1.toInt8.toInt32 = x1) {p0 : Nat} (hp0 : p0 < 47) (hfree : a_pageUsed p0 = 0) (hp : ∀ p, p < 48 → a_pageUsed p = 0 → post (nI p) (f_nodeSet, f_edgeSet, f_sortedCount, f_keptCount, f_which, f_inOrder, f_total, f_depth, f_begun, f_assigned, f_usedNodes, f_edgeLinks, a_labelOf, a_valueOf, a_fromOf, a_toOf, a_typeOf, a_weightOf, a_firstPage, upd a_pageUsed p 1, upd a_pageNext p x1, upd a_pageSize p 0, a_pageEdge, a_labelled, a_sorted, a_modeOf, a_spotSet, a_spotLabels, a_spotLeast, a_spotGreatest, a_linkSet, a_linkFrom, a_linkTo, a_linkTypes, a_linkKind, a_outgoing, a_incoming, a_allowed, a_candidates, a_behind, a_before, a_nodeFor, a_levelSpot, a_levelLeft, a_edgeLink, a_choiceLeft, a_choice, a_pickedEdge)) : ∀ (d p n : Nat), p + d = p0 → d < n → wX_newPage_2 post x1 f_nodeSet f_edgeSet f_sortedCount f_keptCount f_which f_inOrder f_total f_depth f_begun f_assigned f_usedNodes f_edgeLinks a_labelOf a_valueOf a_fromOf a_toOf a_typeOf a_weightOf a_firstPage a_pageUsed a_pageNext a_pageSize a_pageEdge a_labelled a_sorted a_modeOf a_spotSet a_spotLabels a_spotLeast a_spotGreatest a_linkSet a_linkFrom a_linkTo a_linkTypes a_linkKind a_outgoing a_incoming a_allowed a_candidates a_behind a_before a_nodeFor a_levelSpot a_levelLeft a_edgeLink a_choiceLeft a_choice a_pickedEdge n (nI p) := by
  have j23 : ∀ p, p < 48 → a_pageUsed p = 0 → wX_newPage_23 post x1 (nI p) f_nodeSet f_edgeSet f_sortedCount f_keptCount f_which f_inOrder f_total f_depth f_begun f_assigned f_usedNodes f_edgeLinks a_labelOf a_valueOf a_fromOf a_toOf a_typeOf a_weightOf a_firstPage a_pageUsed a_pageNext a_pageSize a_pageEdge a_labelled a_sorted a_modeOf a_spotSet a_spotLabels a_spotLeast a_spotGreatest a_linkSet a_linkFrom a_linkTo a_linkTypes a_linkKind a_outgoing a_incoming a_allowed a_candidates a_behind a_before a_nodeFor a_levelSpot a_levelLeft a_edgeLink a_choiceLeft a_choice a_pickedEdge := by
    intro p hp48 hu
    have hin : vp_in (nI p) 48 := vp_in_nI hp48 (by omega)
    refine And.intro hin ?_
    rw [nI_clamp (n := p) (by omega), gx_bool1, hx, gx_byte0]
    exact nm_e (And.intro hin (nm_e (And.intro hin (nm_e (hp p hp48 hu)))))
  intro d
  induction d with
  | zero =>
    intro p n hd hn
    obtain ⟨n, rfl⟩ := gx_S n (by omega)
    have : p = p0 := by omega
    subst this
    refine pk_le 47 p (fun h => by omega) (fun _ => And.intro (vp_in_nI (by omega) (by omega)) ?_)
    rw [nI_clamp (n := p) (by omega)]
    exact br_t hfree (j23 p (by omega) hfree)
  | succ d ih =>
    intro p n hd hn
    obtain ⟨n, rfl⟩ := gx_S n (by omega)
    refine pk_le 47 p (fun h => by omega) (fun _ => And.intro (vp_in_nI (by omega) (by omega)) ?_)
    rw [nI_clamp (n := p) (by omega)]
    exact br_c (fun z => j23 p (by omega) z) (fun z => nm_r (nI_1 p) (ih (p + 1) n (by omega) (by omega)))
theorem gx_list36 {post : SX → Prop} {e h s : Nat} (he : e < 20) (hh : h < 48) (hs : s < 4) (hsz : a_pageSize h = nI s) (hp : post (f_nodeSet, f_edgeSet, f_sortedCount, f_keptCount, f_which, f_inOrder, f_total, f_depth, f_begun, f_assigned, f_usedNodes, f_edgeLinks, a_labelOf, a_valueOf, a_fromOf, a_toOf, a_typeOf, a_weightOf, a_firstPage, a_pageUsed, a_pageNext, upd a_pageSize h (nI (s + 1)), upd a_pageEdge (h * 4 + s) (nI e), a_labelled, a_sorted, a_modeOf, a_spotSet, a_spotLabels, a_spotLeast, a_spotGreatest, a_linkSet, a_linkFrom, a_linkTo, a_linkTypes, a_linkKind, a_outgoing, a_incoming, a_allowed, a_candidates, a_behind, a_before, a_nodeFor, a_levelSpot, a_levelLeft, a_edgeLink, a_choiceLeft, a_choice, a_pickedEdge)) : wX_list_36 post (nI e) (nI h) f_nodeSet f_edgeSet f_sortedCount f_keptCount f_which f_inOrder f_total f_depth f_begun f_assigned f_usedNodes f_edgeLinks a_labelOf a_valueOf a_fromOf a_toOf a_typeOf a_weightOf a_firstPage a_pageUsed a_pageNext a_pageSize a_pageEdge a_labelled a_sorted a_modeOf a_spotSet a_spotLabels a_spotLeast a_spotGreatest a_linkSet a_linkFrom a_linkTo a_linkTypes a_linkKind a_outgoing a_incoming a_allowed a_candidates a_behind a_before a_nodeFor a_levelSpot a_levelLeft a_edgeLink a_choiceLeft a_choice a_pickedEdge := by
  have hin : vp_in (nI h) 48 := vp_in_nI hh (by omega)
  refine And.intro hin ?_
  rw [nI_clamp (n := h) (by omega), hsz, gx_ix4, nI_1]
  refine And.intro (vp_in_nI (by omega) (by omega)) ?_
  rw [nI_clamp (n := h * 4 + s) (by omega), gx_byte4 (by omega), gx_byte4 (by omega)]
  exact nm_e (And.intro hin (And.intro hin (nm_e hp)))
theorem gx_list {post : SX → Prop} {mem : Nat → Nat → Bool} {l e : Nat} (hl : l < 24) (he : e < 20) (hm : mem l e = false) (hu : ∀ l l' e, mem l e = true → mem l' e = true → l % 2 = l' % 2 → l = l') (hP : gx_Pg mem a_firstPage a_pageUsed a_pageNext a_pageSize a_pageEdge)
    (hp : ∀ fp us nx sz pe, gx_Pg (gx_ins mem l e) fp us nx sz pe → post (f_nodeSet, f_edgeSet, f_sortedCount, f_keptCount, f_which, f_inOrder, f_total, f_depth, f_begun, f_assigned, f_usedNodes, f_edgeLinks, a_labelOf, a_valueOf, a_fromOf, a_toOf, a_typeOf, a_weightOf, fp, us, nx, sz, pe, a_labelled, a_sorted, a_modeOf, a_spotSet, a_spotLabels, a_spotLeast, a_spotGreatest, a_linkSet, a_linkFrom, a_linkTo, a_linkTypes, a_linkKind, a_outgoing, a_incoming, a_allowed, a_candidates, a_behind, a_before, a_nodeFor, a_levelSpot, a_levelLeft, a_edgeLink, a_choiceLeft, a_choice, a_pickedEdge)) : wpX_list post (f_nodeSet, f_edgeSet, f_sortedCount, f_keptCount, f_which, f_inOrder, f_total, f_depth, f_begun, f_assigned, f_usedNodes, f_edgeLinks, a_labelOf, a_valueOf, a_fromOf, a_toOf, a_typeOf, a_weightOf, a_firstPage, a_pageUsed, a_pageNext, a_pageSize, a_pageEdge, a_labelled, a_sorted, a_modeOf, a_spotSet, a_spotLabels, a_spotLeast, a_spotGreatest, a_linkSet, a_linkFrom, a_linkTo, a_linkTypes, a_linkKind, a_outgoing, a_incoming, a_allowed, a_candidates, a_behind, a_before, a_nodeFor, a_levelSpot, a_levelLeft, a_edgeLink, a_choiceLeft, a_choice, a_pickedEdge) (nI l) (nI e) := by
  obtain ⟨ow, rk, zs, en, hc, hE⟩ := hP
  have hc0 := hc
  obtain ⟨p0, hp0, hfree⟩ := gx_Pg_free hc hE hu
  obtain ⟨A, B, C, D, E⟩ := hc
  have new : ∀ x, x = a_firstPage l → vp_nar .byte x.toInt8.toInt32 = x → ((a_firstPage l = -1 ∧ ∀ q, gx_U a_pageUsed q → ow q ≠ l) ∨ (∃ h, gx_U a_pageUsed h ∧ a_firstPage l = nI h ∧ ow h = l ∧ (∀ q, gx_U a_pageUsed q → ow q = l → rk q ≤ rk h) ∧ zs h = 4)) → wX_list_22 post (nI l) (nI e) x f_nodeSet f_edgeSet f_sortedCount f_keptCount f_which f_inOrder f_total f_depth f_begun f_assigned f_usedNodes f_edgeLinks a_labelOf a_valueOf a_fromOf a_toOf a_typeOf a_weightOf a_firstPage a_pageUsed a_pageNext a_pageSize a_pageEdge a_labelled a_sorted a_modeOf a_spotSet a_spotLabels a_spotLeast a_spotGreatest a_linkSet a_linkFrom a_linkTo a_linkTypes a_linkKind a_outgoing a_incoming a_allowed a_candidates a_behind a_before a_nodeFor a_levelSpot a_levelLeft a_edgeLink a_choiceLeft a_choice a_pickedEdge := by
    intro x hx hx2 hd
    refine Exists.intro (p0 + 1) (gx_newPage2 hx2 hp0 hfree (fun p hp48 hup => And.intro (vp_in_nI hl (by omega)) ?_) p0 0 (p0 + 1) (by omega) (by omega))
    rw [nI_clamp (n := l) (by omega), gx_byte4 (by omega)]
    refine nm_e (gx_list36 (s := 0) he hp48 (by omega) pk_us (hp _ _ _ _ _ ?_))
    have := gx_Pg_new hc0 hE hl hp48 hup hd he hm
    rw [hx]
    have e1 : upd (upd a_pageSize p 0) p (nI (0 + 1)) = upd a_pageSize p (nI 1) := by
      funext k
      unfold upd
      by_cases z : k = p <;> simp [z]
    rw [e1]
    exact this
  refine And.intro (vp_in_nI hl (by omega)) ?_
  rw [nI_clamp (n := l) (by omega)]
  refine nm_e ?_
  rcases D l hl with ⟨d1, d2⟩ | ⟨h, d1, d2, d3, d4⟩
  · exact br_t d1 (new _ rfl (by rw [d1]; exact gx_byteM1) (Or.inl ⟨d1, d2⟩))
  · obtain ⟨a1, a2, a3, a4⟩ := A h d1
    have hh := d1.1
    have hne : ¬ a_firstPage l = -1 := by
      rw [d2]
      intro z
      have : nI h < 0 := by rw [z]; decide
      exact absurd this (nI_pos (by omega))
    have hn := new _ rfl (by rw [d2]; exact gx_byte4 hh)
    refine br_f hne ?_
    rw [d2] at hn ⊢
    refine And.intro (vp_in_nI hh (by omega)) ?_
    rw [nI_clamp (n := h) (by omega), a2]
    refine pk_eq (zs h) 4 (fun z => hn (Or.inr ⟨h, d1, rfl, d3, d4, z⟩)) (fun z => gx_list36 (s := zs h) he hh (by omega) a2 (hp _ _ _ _ _ ?_))
    exact gx_Pg_old hc0 hE d1 d3 d4 (by omega) he hm
/-! unlist -/
end
def gx_pv (pe : Nat → Int32) (k0 : Nat) (x : Int32) (vis : Bool) : Nat → Int32 := fun k => if vis && decide (k = k0) then x else pe k
theorem gx_pv_f (pe : Nat → Int32) (k0 : Nat) (x : Int32) : gx_pv pe k0 x false = pe := by funext k; unfold gx_pv; simp
theorem gx_pv_t (pe : Nat → Int32) (k0 : Nat) (x : Int32) : gx_pv pe k0 x true = upd pe k0 x := by funext k; unfold gx_pv upd; simp
theorem gx_pv_u (pe : Nat → Int32) (k0 : Nat) (x : Int32) (v : Bool) : upd (gx_pv pe k0 x v) k0 x = gx_pv pe k0 x true := by
  funext k
  unfold gx_pv upd
  by_cases z : k = k0 <;> simp [z]
section
variable {f_nodeSet f_edgeSet f_sortedCount f_keptCount f_which f_inOrder f_total f_depth f_begun f_assigned f_usedNodes f_edgeLinks : Int32} {a_labelOf a_valueOf a_fromOf a_toOf a_typeOf a_weightOf a_firstPage a_pageUsed a_pageNext a_pageSize a_pageEdge a_labelled a_sorted a_modeOf a_spotSet a_spotLabels a_spotLeast a_spotGreatest a_linkSet a_linkFrom a_linkTo a_linkTypes a_linkKind a_outgoing a_incoming a_allowed a_candidates a_behind a_before a_nodeFor a_levelSpot a_levelLeft a_edgeLink a_choiceLeft a_choice a_pickedEdge : Nat → Int32}
theorem gx_unl38 {post : SX → Prop} {J29 : Int32 → (Nat → Int32) → (Nat → Int32) → (Nat → Int32) → (Nat → Int32) → (Nat → Int32) → (Nat → Int32) → (Nat → Int32) → (Nat → Int32) → (Nat → Int32) → (Nat → Int32) → (Nat → Int32) → (Nat → Int32) → (Nat → Int32) → (Nat → Int32) → (Nat → Int32) → (Nat → Int32) → (Nat → Int32) → (Nat → Int32) → (Nat → Int32) → (Nat → Int32) → (Nat → Int32) → (Nat → Int32) → (Nat → Int32) → (Nat → Int32) → (Nat → Int32) → (Nat → Int32) → (Nat → Int32) → (Nat → Int32) → (Nat → Int32) → (Nat → Int32) → (Nat → Int32) → (Nat → Int32) → (Nat → Int32) → (Nat → Int32) → (Nat → Int32) → (Nat → Int32) →  Prop} {x1 x3 : Int32} {mem : Nat → Nat → Bool} {ow zs en : Nat → Nat} {p e la p0 i0 l : Nat} (hE : gx_PE (gx_V a_pageUsed zs) mem ow en a_pageEdge) (hu : gx_U a_pageUsed p) (how : ow p = l) (hz : a_pageSize p = nI (zs p)) (hz4 : zs p ≤ 4) (he : e < 20) (hla : la < 20) (h0 : gx_V a_pageUsed zs p0 i0) (how0 : ow p0 = l) (hen0 : en (p0 * 4 + i0) = e) (hi04 : i0 < 4) (vis : Bool) (hvis : vis = true → p ≠ p0) :
    ∀ (d i n : Nat), i + d = zs p → d < n → J29 (a_pageNext p) a_labelOf a_valueOf a_fromOf a_toOf a_typeOf a_weightOf a_firstPage a_pageUsed a_pageNext a_pageSize (gx_pv a_pageEdge (p0 * 4 + i0) (nI la) (vis || decide (p = p0))) a_labelled a_sorted a_modeOf a_spotSet a_spotLabels a_spotLeast a_spotGreatest a_linkSet a_linkFrom a_linkTo a_linkTypes a_linkKind a_outgoing a_incoming a_allowed a_candidates a_behind a_before a_nodeFor a_levelSpot a_levelLeft a_edgeLink a_choiceLeft a_choice a_pickedEdge → wX_unlist_38 post J29 x1 (nI e) x3 (nI la) (nI p) f_nodeSet f_edgeSet f_sortedCount f_keptCount f_which f_inOrder f_total f_depth f_begun f_assigned f_usedNodes f_edgeLinks n (nI i) a_labelOf a_valueOf a_fromOf a_toOf a_typeOf a_weightOf a_firstPage a_pageUsed a_pageNext a_pageSize (gx_pv a_pageEdge (p0 * 4 + i0) (nI la) (vis || (decide (p = p0) && decide (i0 < i)))) a_labelled a_sorted a_modeOf a_spotSet a_spotLabels a_spotLeast a_spotGreatest a_linkSet a_linkFrom a_linkTo a_linkTypes a_linkKind a_outgoing a_incoming a_allowed a_candidates a_behind a_before a_nodeFor a_levelSpot a_levelLeft a_edgeLink a_choiceLeft a_choice a_pickedEdge := by
  obtain ⟨f, g, k⟩ := hE
  have hp48 := hu.1
  have hin : vp_in (nI p) 48 := vp_in_nI hp48 (by omega)
  intro d
  induction d with
  | zero =>
    intro i n hi hn hJ
    obtain ⟨n, rfl⟩ := gx_S n (by omega)
    refine And.intro hin ?_
    rw [nI_clamp (n := p) (by omega), hz]
    refine pk_le (zs p) i (fun _ => And.intro hin (nm_e ?_)) (fun h => by omega)
    have : (vis || (decide (p = p0) && decide (i0 < i))) = (vis || decide (p = p0)) := by
      by_cases z : p = p0
      · have hlt := h0.2
        rw [← z] at hlt
        rw [decide_eq_true z, decide_eq_true (show i0 < i by omega)]; rfl
      · rw [decide_eq_false z]; rfl
    rw [this]; exact hJ
  | succ d ih =>
    intro i n hi hn hJ
    obtain ⟨n, rfl⟩ := gx_S n (by omega)
    have hv : gx_V a_pageUsed zs p i := ⟨hu, by omega⟩
    obtain ⟨f1, f2, f3, f4⟩ := f p i hv
    refine And.intro hin ?_
    rw [nI_clamp (n := p) (by omega), hz, gx_ix4]
    refine pk_le (zs p) i (fun h => by omega) (fun _ => And.intro (vp_in_nI (by omega) (by omega)) ?_)
    rw [nI_clamp (n := p * 4 + i) (by omega)]
    by_cases z : p = p0 ∧ i = i0
    · obtain ⟨rfl, rfl⟩ := z
      have hvf : vis = false := by
        cases h : vis
        · rfl
        · exact absurd rfl (hvis h)
      have e1 : (vis || (decide (p = p) && decide (i < i))) = false := by rw [hvf, decide_eq_false (show ¬ i < i by omega)]; simp
      rw [e1]
      have e2 : gx_pv a_pageEdge (p * 4 + i) (nI la) false (p * 4 + i) = nI e := by rw [gx_pv_f, f2, hen0]
      rw [e2, gx_byte4 (by omega), gx_pv_u]
      refine br_t rfl (And.intro (vp_in_nI (by omega) (by omega)) (nm_e (nm_r (nI_1 i) ?_)))
      have := ih (i + 1) n (by omega) (by omega) hJ
      have e3 : (vis || (decide (p = p) && decide (i < i + 1))) = true := by rw [decide_eq_true (show i < i + 1 by omega)]; simp
      rw [e3] at this
      exact this
    · have hk : p * 4 + i ≠ p0 * 4 + i0 := by
        intro w
        exact z (by omega)
      have e2 : ∀ v, gx_pv a_pageEdge (p0 * 4 + i0) (nI la) v (p * 4 + i) = nI (en (p * 4 + i)) := by
        intro v
        unfold gx_pv
        rw [decide_eq_false hk, Bool.and_false]
        exact f2
      rw [e2]
      have hne : ¬ nI (en (p * 4 + i)) = nI e := by
        rw [nI_eq (by omega) (by omega)]
        intro w
        exact z (g p p0 i i0 hv h0 (by rw [how, how0]) (by rw [w, hen0]))
      refine br_f hne (nm_r (nI_1 i) ?_)
      have := ih (i + 1) n (by omega) (by omega) hJ
      have e3 : (decide (p = p0) && decide (i0 < i + 1)) = (decide (p = p0) && decide (i0 < i)) := by
        by_cases y : p = p0
        · have : i ≠ i0 := fun w => z ⟨y, w⟩
          rw [decide_eq_true y, Bool.true_and, Bool.true_and]
          by_cases x : i0 < i
          · rw [decide_eq_true x, decide_eq_true (by omega)]
          · rw [decide_eq_false x, decide_eq_false (by omega)]
        · rw [decide_eq_false y]; rfl
      rw [e3] at this
      exact this
theorem gx_unl29 {post : SX → Prop} {x1 : Int32} {mem : Nat → Nat → Bool} {ow rk zs en : Nat → Nat} {h e la p0 i0 l : Nat} (hc : gx_PC ow rk zs a_firstPage a_pageUsed a_pageNext a_pageSize) (hE : gx_PE (gx_V a_pageUsed zs) mem ow en a_pageEdge) (he : e < 20) (hla : la < 20) (h0 : gx_V a_pageUsed zs p0 i0) (how0 : ow p0 = l) (hen0 : en (p0 * 4 + i0) = e) (hi04 : i0 < 4)
    (hfin : ∀ n, 0 < n → wX_unlist_29 post x1 (nI e) (nI h) (nI la) f_nodeSet f_edgeSet f_sortedCount f_keptCount f_which f_inOrder f_total f_depth f_begun f_assigned f_usedNodes f_edgeLinks n (-1) a_labelOf a_valueOf a_fromOf a_toOf a_typeOf a_weightOf a_firstPage a_pageUsed a_pageNext a_pageSize (upd a_pageEdge (p0 * 4 + i0) (nI la)) a_labelled a_sorted a_modeOf a_spotSet a_spotLabels a_spotLeast a_spotGreatest a_linkSet a_linkFrom a_linkTo a_linkTypes a_linkKind a_outgoing a_incoming a_allowed a_candidates a_behind a_before a_nodeFor a_levelSpot a_levelLeft a_edgeLink a_choiceLeft a_choice a_pickedEdge) :
    ∀ (r p n : Nat), rk p = r → gx_U a_pageUsed p → ow p = l → r + 1 < n → wX_unlist_29 post x1 (nI e) (nI h) (nI la) f_nodeSet f_edgeSet f_sortedCount f_keptCount f_which f_inOrder f_total f_depth f_begun f_assigned f_usedNodes f_edgeLinks n (nI p) a_labelOf a_valueOf a_fromOf a_toOf a_typeOf a_weightOf a_firstPage a_pageUsed a_pageNext a_pageSize (gx_pv a_pageEdge (p0 * 4 + i0) (nI la) (decide (r < rk p0))) a_labelled a_sorted a_modeOf a_spotSet a_spotLabels a_spotLeast a_spotGreatest a_linkSet a_linkFrom a_linkTo a_linkTypes a_linkKind a_outgoing a_incoming a_allowed a_candidates a_behind a_before a_nodeFor a_levelSpot a_levelLeft a_edgeLink a_choiceLeft a_choice a_pickedEdge := by
  obtain ⟨A, B, C, D, E⟩ := hc
  intro r
  induction r with
  | zero =>
    intro p n hr hu how hn
    obtain ⟨n, rfl⟩ := gx_S n (by omega)
    obtain ⟨a1, a2, a3, a4⟩ := A p hu
    have hne : ¬ nI p = -1 := by
      intro z
      have : nI p < 0 := by rw [z]; decide
      exact absurd this (nI_pos (by have := hu.1; omega))
    have hJ : wX_unlist_29 post x1 (nI e) (nI h) (nI la) f_nodeSet f_edgeSet f_sortedCount f_keptCount f_which f_inOrder f_total f_depth f_begun f_assigned f_usedNodes f_edgeLinks n (a_pageNext p) a_labelOf a_valueOf a_fromOf a_toOf a_typeOf a_weightOf a_firstPage a_pageUsed a_pageNext a_pageSize (gx_pv a_pageEdge (p0 * 4 + i0) (nI la) (decide (0 < rk p0) || decide (p = p0))) a_labelled a_sorted a_modeOf a_spotSet a_spotLabels a_spotLeast a_spotGreatest a_linkSet a_linkFrom a_linkTo a_linkTypes a_linkKind a_outgoing a_incoming a_allowed a_candidates a_behind a_before a_nodeFor a_levelSpot a_levelLeft a_edgeLink a_choiceLeft a_choice a_pickedEdge := by
      rw [(B p hu).1 hr]
      have e4 : (decide (0 < rk p0) || decide (p = p0)) = true := by
        by_cases y : 0 < rk p0
        · rw [decide_eq_true y]; rfl
        · have : p = p0 := C p p0 hu h0.1 (by rw [how, how0]) (by omega)
          rw [decide_eq_true this, Bool.or_true]
      rw [e4, gx_pv_t]
      exact hfin n (by omega)
    refine br_f hne (Exists.intro 5 ?_)
    have e3 : decide (0 < rk p0) = (decide (0 < rk p0) || (decide (p = p0) && decide (i0 < 0))) := by
      rw [decide_eq_false (show ¬ i0 < 0 by omega)]; simp
    rw [e3]
    exact gx_unl38 (la := la) hE hu how a2 a4 he hla h0 how0 hen0 hi04 (decide (0 < rk p0)) (fun hv z => by rw [← z, hr] at hv; simp at hv) (zs p) 0 5 (by omega) (by omega) hJ
  | succ r ih =>
    intro p n hr hu how hn
    obtain ⟨n, rfl⟩ := gx_S n (by omega)
    obtain ⟨a1, a2, a3, a4⟩ := A p hu
    have hne : ¬ nI p = -1 := by
      intro z
      have : nI p < 0 := by rw [z]; decide
      exact absurd this (nI_pos (by have := hu.1; omega))
    have hJ : wX_unlist_29 post x1 (nI e) (nI h) (nI la) f_nodeSet f_edgeSet f_sortedCount f_keptCount f_which f_inOrder f_total f_depth f_begun f_assigned f_usedNodes f_edgeLinks n (a_pageNext p) a_labelOf a_valueOf a_fromOf a_toOf a_typeOf a_weightOf a_firstPage a_pageUsed a_pageNext a_pageSize (gx_pv a_pageEdge (p0 * 4 + i0) (nI la) (decide (r + 1 < rk p0) || decide (p = p0))) a_labelled a_sorted a_modeOf a_spotSet a_spotLabels a_spotLeast a_spotGreatest a_linkSet a_linkFrom a_linkTo a_linkTypes a_linkKind a_outgoing a_incoming a_allowed a_candidates a_behind a_before a_nodeFor a_levelSpot a_levelLeft a_edgeLink a_choiceLeft a_choice a_pickedEdge := by
      obtain ⟨q, q1, q2, q3, q4⟩ := (B p hu).2 r hr
      rw [q2]
      have e4 : (decide (r + 1 < rk p0) || decide (p = p0)) = decide (r < rk p0) := by
        by_cases y : r + 1 < rk p0
        · rw [decide_eq_true y, decide_eq_true (show r < rk p0 by omega)]; rfl
        · by_cases x : r < rk p0
          · have : p = p0 := C p p0 hu h0.1 (by rw [how, how0]) (by omega)
            rw [decide_eq_true this, decide_eq_true x, Bool.or_true]
          · have : p ≠ p0 := fun w => by rw [w] at hr; omega
            rw [decide_eq_false this, decide_eq_false y, decide_eq_false x]; rfl
      rw [e4]
      exact ih q n q4 q1 (by rw [q3, how]) (by omega)
    refine br_f hne (Exists.intro 5 ?_)
    have e3 : decide (r + 1 < rk p0) = (decide (r + 1 < rk p0) || (decide (p = p0) && decide (i0 < 0))) := by
      rw [decide_eq_false (show ¬ i0 < 0 by omega)]; simp
    rw [e3]
    exact gx_unl38 (la := la) hE hu how a2 a4 he hla h0 how0 hen0 hi04 (decide (r + 1 < rk p0)) (fun hv z => by rw [← z, hr] at hv; simp at hv) (zs p) 0 5 (by omega) (by omega) hJ
theorem gx_unlist {post : SX → Prop} {mem : Nat → Nat → Bool} {l e : Nat} (hl : l < 24) (hm : mem l e = true) (hP : gx_Pg mem a_firstPage a_pageUsed a_pageNext a_pageSize a_pageEdge)
    (hp : ∀ fp us nx sz pe, gx_Pg (gx_del mem l e) fp us nx sz pe → post (f_nodeSet, f_edgeSet, f_sortedCount, f_keptCount, f_which, f_inOrder, f_total, f_depth, f_begun, f_assigned, f_usedNodes, f_edgeLinks, a_labelOf, a_valueOf, a_fromOf, a_toOf, a_typeOf, a_weightOf, fp, us, nx, sz, pe, a_labelled, a_sorted, a_modeOf, a_spotSet, a_spotLabels, a_spotLeast, a_spotGreatest, a_linkSet, a_linkFrom, a_linkTo, a_linkTypes, a_linkKind, a_outgoing, a_incoming, a_allowed, a_candidates, a_behind, a_before, a_nodeFor, a_levelSpot, a_levelLeft, a_edgeLink, a_choiceLeft, a_choice, a_pickedEdge)) : wpX_unlist post (f_nodeSet, f_edgeSet, f_sortedCount, f_keptCount, f_which, f_inOrder, f_total, f_depth, f_begun, f_assigned, f_usedNodes, f_edgeLinks, a_labelOf, a_valueOf, a_fromOf, a_toOf, a_typeOf, a_weightOf, a_firstPage, a_pageUsed, a_pageNext, a_pageSize, a_pageEdge, a_labelled, a_sorted, a_modeOf, a_spotSet, a_spotLabels, a_spotLeast, a_spotGreatest, a_linkSet, a_linkFrom, a_linkTo, a_linkTypes, a_linkKind, a_outgoing, a_incoming, a_allowed, a_candidates, a_behind, a_before, a_nodeFor, a_levelSpot, a_levelLeft, a_edgeLink, a_choiceLeft, a_choice, a_pickedEdge) (nI l) (nI e) := by
  obtain ⟨ow, rk, zs, en, hc, hE⟩ := hP
  have hc0 := hc
  have hE0 := hE
  obtain ⟨A, B, C, D, E⟩ := hc
  obtain ⟨f, g, k⟩ := hE
  obtain ⟨p0, i0, v1, v2, v3⟩ := k l e hl hm
  have he : e < 20 := by rw [← v3]; exact (f p0 i0 v1).2.2.1
  have hi04 := (f p0 i0 v1).1
  refine And.intro (vp_in_nI hl (by omega)) ?_
  rw [nI_clamp (n := l) (by omega)]
  rcases D l hl with ⟨d1, d2⟩ | ⟨h, d1, d2, d3, d4⟩
  · exact absurd v2 (d2 p0 v1.1)
  · obtain ⟨a1, a2, a3, a4⟩ := A h d1
    have hh := d1.1
    obtain ⟨s, hs⟩ := gx_S (zs h) (by omega)
    have hin : vp_in (nI h) 48 := vp_in_nI hh (by omega)
    obtain ⟨f1, f2, f3, f4⟩ := f h s ⟨d1, by omega⟩
    rw [d2]
    refine nm_e (And.intro hin ?_)
    have ei : nI h * 4 + nI (zs h) - 1 = nI (h * 4 + s) := by
      rw [gx_ix4, hs, show h * 4 + (s + 1) = (h * 4 + s) + 1 from by omega, nI_pred]
    rw [nI_clamp (n := h) (by omega), a2, ei]
    refine And.intro (vp_in_nI (by omega) (by omega)) ?_
    rw [nI_clamp (n := h * 4 + s) (by omega), f2]
    have hrk := d4 p0 v1.1 v2
    refine nm_e (Exists.intro (rk h + 2) ?_)
    have e3 : decide (rk h < rk p0) = false := decide_eq_false (by omega)
    rw [← gx_pv_f a_pageEdge (p0 * 4 + i0) (nI (en (h * 4 + s))), ← e3]
    refine gx_unl29 (post := post) (x1 := nI l) (h := h) (la := en (h * 4 + s)) hc0 hE0 he f3 v1 v2 v3 hi04 ?_ (rk h) h (rk h + 2) rfl d1 d3 (by omega)
    · intro n hn
      obtain ⟨n, rfl⟩ := gx_S n hn
      refine br_t rfl (And.intro hin (And.intro hin ?_))
      rw [nI_clamp (n := h) (by omega), a2, hs, nI_pred, gx_byte4 (by omega)]
      refine nm_e (And.intro hin ?_)
      rw [pk_us]
      refine pk_eq s 0 (fun z => ?_) (fun z => ?_)
      · refine And.intro hin (And.intro (vp_in_nI hl (by omega)) ?_)
        rw [nI_clamp (n := l) (by omega), gx_bool0]
        subst z
        have hpn : vp_nar .byte (a_pageNext h) = a_pageNext h := by
          cases hr : rk h with
          | zero => rw [(B h d1).1 hr]; exact gx_vm1
          | succ r =>
            obtain ⟨q, q1, q2, q3, q4⟩ := (B h d1).2 r hr
            rw [q2, vp_nar_byte]
            have := gx_byte4 (j := q) q1.1
            rw [pk_vb] at this
            exact this
        rw [hpn]
        refine nm_e (And.intro hin (nm_e (hp _ _ _ _ _ ?_)))
        exact gx_Pg_remB hc0 hE0 d1 d3 d4 (by omega) v1 v2 v3
      · refine hp _ _ _ _ _ ?_
        exact gx_Pg_remA hc0 hE0 d1 d3 d4 hs (by omega) v1 v2 v3
end
end
section
/-! index, unindex -/
theorem gx_byteN {j : Nat} (h : j < 48) : vp_nar .byte (nI j) = nI j := by
  have := gx_byte4 h
  rw [pk_vb] at this
  rw [vp_nar_byte]; exact this
theorem gx_So_lt {th : Nat → Bool} {sc n : Nat} {so : Nat → Nat} {sorted val : Nat → Int32} (hS : gx_So th sc so sorted val) (hn : n < 12) (ht : th n = false) : sc ≤ 11 := by
  obtain ⟨s1, s2, s3, s4, s5⟩ := hS
  rcases Nat.lt_or_ge 11 sc with h | h
  · exfalso
    have hne : ∀ i, i < sc → so i ≠ n := fun i hi z => by have := (s2 i hi).2.2; rw [z, ht] at this; cases this
    refine gp_pig 11 (fun i => if n < so i then so i - 1 else so i) (fun i hi => ?_) (fun i j hi hj e => ?_)
    · have h1 := (s2 i (by omega)).2.1
      have h2 := hne i (by omega)
      try dsimp only
      split <;> omega
    · have h1 := hne i (by omega)
      have h2 := hne j (by omega)
      apply s3 i j (by omega) (by omega)
      try dsimp only at e
      split at e <;> split at e <;> omega
  · omega
section
variable {f_nodeSet f_edgeSet f_sortedCount f_keptCount f_which f_inOrder f_total f_depth f_begun f_assigned f_usedNodes f_edgeLinks : Int32} {a_labelOf a_valueOf a_fromOf a_toOf a_typeOf a_weightOf a_firstPage a_pageUsed a_pageNext a_pageSize a_pageEdge a_labelled a_sorted a_modeOf a_spotSet a_spotLabels a_spotLeast a_spotGreatest a_linkSet a_linkFrom a_linkTo a_linkTypes a_linkKind a_outgoing a_incoming a_allowed a_candidates a_behind a_before a_nodeFor a_levelSpot a_levelLeft a_edgeLink a_choiceLeft a_choice a_pickedEdge : Nat → Int32}
theorem gx_index22 {post : SX → Prop} {th : Nat → Bool} {sc n : Nat} {so : Nat → Nat} {srt : Nat → Int32} (hS : gx_So th sc so srt a_valueOf) (hn : n < 12) (ht : th n = false)
    (hp : ∀ sorted' so', gx_So (fun m => th m || decide (m = n)) (sc + 1) so' sorted' a_valueOf → post (f_nodeSet, f_edgeSet, nI (sc + 1), f_keptCount, f_which, f_inOrder, f_total, f_depth, f_begun, f_assigned, f_usedNodes, f_edgeLinks, a_labelOf, a_valueOf, a_fromOf, a_toOf, a_typeOf, a_weightOf, a_firstPage, a_pageUsed, a_pageNext, a_pageSize, a_pageEdge, a_labelled, sorted', a_modeOf, a_spotSet, a_spotLabels, a_spotLeast, a_spotGreatest, a_linkSet, a_linkFrom, a_linkTo, a_linkTypes, a_linkKind, a_outgoing, a_incoming, a_allowed, a_candidates, a_behind, a_before, a_nodeFor, a_levelSpot, a_levelLeft, a_edgeLink, a_choiceLeft, a_choice, a_pickedEdge)) :
    ∀ (i k : Nat) (cur : Nat → Int32), i ≤ sc → i < k → (∀ q, q < i → cur q = nI (so q)) → (∀ q, i < q → q ≤ sc → cur q = nI (so (q - 1))) → (∀ q, i ≤ q → q < sc → a_valueOf n ≤ a_valueOf (so q)) → wX_index_22 post (nI n) f_nodeSet f_edgeSet (nI sc) f_keptCount f_which f_inOrder f_total f_depth f_begun f_assigned f_usedNodes f_edgeLinks k (nI i) a_labelOf a_valueOf a_fromOf a_toOf a_typeOf a_weightOf a_firstPage a_pageUsed a_pageNext a_pageSize a_pageEdge a_labelled cur a_modeOf a_spotSet a_spotLabels a_spotLeast a_spotGreatest a_linkSet a_linkFrom a_linkTo a_linkTypes a_linkKind a_outgoing a_incoming a_allowed a_candidates a_behind a_before a_nodeFor a_levelSpot a_levelLeft a_edgeLink a_choiceLeft a_choice a_pickedEdge := by
  have hsc := gx_So_lt hS hn ht
  obtain ⟨s1, s2, s3, s4, s5⟩ := hS
  have hne : ∀ i, i < sc → so i ≠ n := fun i hi z => by have := (s2 i hi).2.2; rw [z, ht] at this; cases this
  have fin : ∀ (i : Nat) (cur : Nat → Int32), i ≤ sc → (∀ q, q < i → cur q = nI (so q)) → (∀ q, i < q → q ≤ sc → cur q = nI (so (q - 1))) → (∀ q, i ≤ q → q < sc → a_valueOf n ≤ a_valueOf (so q)) → (∀ q, q < i → a_valueOf (so q) ≤ a_valueOf n) → wX_index_68 post (nI n) (nI i) f_nodeSet f_edgeSet (nI sc) f_keptCount f_which f_inOrder f_total f_depth f_begun f_assigned f_usedNodes f_edgeLinks a_labelOf a_valueOf a_fromOf a_toOf a_typeOf a_weightOf a_firstPage a_pageUsed a_pageNext a_pageSize a_pageEdge a_labelled cur a_modeOf a_spotSet a_spotLabels a_spotLeast a_spotGreatest a_linkSet a_linkFrom a_linkTo a_linkTypes a_linkKind a_outgoing a_incoming a_allowed a_candidates a_behind a_before a_nodeFor a_levelSpot a_levelLeft a_edgeLink a_choiceLeft a_choice a_pickedEdge := by
    intro i cur hi h1 h2 h3 h4
    refine And.intro (vp_in_nI (by omega) (by omega)) ?_
    rw [nI_clamp (n := i) (by omega), gx_byte4 (by omega)]
    refine nm_e (nm_r (nI_1 sc) (hp _ (fun q => if q < i then so q else if q = i then n else so (q - 1)) ⟨by omega, fun q hq => ?_, fun a b ha hb e => ?_, fun m hm => ?_, fun a b hab hb => ?_⟩))
    · dsimp only
      by_cases z : q < i
      · rw [if_pos z, pk_un (by omega), h1 q z]
        obtain ⟨_, t2, t3⟩ := s2 q (by omega)
        exact ⟨rfl, t2, by rw [t3]; rfl⟩
      · rw [if_neg z]
        by_cases y : q = i
        · rw [if_pos y, y, pk_us]
          exact ⟨rfl, hn, by simp⟩
        · rw [if_neg y, pk_un y, h2 q (by omega) (by omega)]
          obtain ⟨_, t2, t3⟩ := s2 (q - 1) (by omega)
          exact ⟨rfl, t2, by rw [t3]; rfl⟩
    · dsimp only at e
      by_cases z1 : a < i
      · rw [if_pos z1] at e
        by_cases z2 : b < i
        · rw [if_pos z2] at e; exact s3 a b (by omega) (by omega) e
        · rw [if_neg z2] at e
          by_cases y2 : b = i
          · rw [if_pos y2] at e; exact absurd e (hne a (by omega))
          · rw [if_neg y2] at e
            have := s3 a (b - 1) (by omega) (by omega) e
            omega
      · rw [if_neg z1] at e
        by_cases y1 : a = i
        · rw [if_pos y1] at e
          by_cases z2 : b < i
          · rw [if_pos z2] at e; exact absurd e.symm (hne b (by omega))
          · rw [if_neg z2] at e
            by_cases y2 : b = i
            · omega
            · rw [if_neg y2] at e; exact absurd e.symm (hne (b - 1) (by omega))
        · rw [if_neg y1] at e
          by_cases z2 : b < i
          · rw [if_pos z2] at e
            have := s3 (a - 1) b (by omega) (by omega) e
            omega
          · rw [if_neg z2] at e
            by_cases y2 : b = i
            · rw [if_pos y2] at e; exact absurd e (hne (a - 1) (by omega))
            · rw [if_neg y2] at e
              have := s3 (a - 1) (b - 1) (by omega) (by omega) e
              omega
    · rw [Bool.or_eq_true, decide_eq_true_eq] at hm
      rcases hm with hm | hm
      · obtain ⟨q, q1, q2⟩ := s4 m hm
        by_cases z : q < i
        · exact ⟨q, by omega, by dsimp only; rw [if_pos z]; exact q2⟩
        · exact ⟨q + 1, by omega, by dsimp only; rw [if_neg (by omega), if_neg (by omega)]; exact q2⟩
      · exact ⟨i, by omega, by dsimp only; rw [if_neg (by omega), if_pos rfl]; exact hm.symm⟩
    · dsimp only
      by_cases z1 : a < i
      · rw [if_pos z1]
        by_cases z2 : b < i
        · rw [if_pos z2]; exact s5 a b hab (by omega)
        · rw [if_neg z2]
          by_cases y2 : b = i
          · rw [if_pos y2]; exact h4 a z1
          · rw [if_neg y2]; exact s5 a (b - 1) (by omega) (by omega)
      · rw [if_neg z1]
        by_cases y1 : a = i
        · rw [if_pos y1, if_neg (by omega)]
          by_cases y2 : b = i
          · rw [if_pos y2]; exact Int32.le_refl _
          · rw [if_neg y2]; exact h3 (b - 1) (by omega) (by omega)
        · rw [if_neg y1, if_neg (by omega), if_neg (by omega)]
          exact s5 (a - 1) (b - 1) (by omega) (by omega)
  intro i
  induction i with
  | zero =>
    intro k cur hi hk h1 h2 h3
    obtain ⟨k, rfl⟩ := gx_S k (by omega)
    exact pk_le 0 0 (fun _ => fin 0 cur hi h1 h2 h3 (fun q hq => by omega)) (fun h => by omega)
  | succ i ih =>
    intro k cur hi hk h1 h2 h3
    obtain ⟨k, rfl⟩ := gx_S k (by omega)
    obtain ⟨t1, t2, t3⟩ := s2 i (by omega)
    have hin : vp_in (nI i) 12 := vp_in_nI (by omega) (by omega)
    refine pk_le (i + 1) 0 (fun h => by omega) (fun _ => ?_)
    rw [nI_pred, nI_clamp (n := i) (by omega), h1 i (by omega)]
    refine And.intro hin (And.intro (vp_in_nI t2 (by omega)) (And.intro (vp_in_nI hn (by omega)) ?_))
    rw [nI_clamp (n := so i) (by omega), nI_clamp (n := n) (by omega)]
    refine br_c (fun z => fin (i + 1) cur hi h1 h2 h3 (fun q hq => ?_)) (fun z => And.intro hin (And.intro (vp_in_nI (by omega) (by omega)) ?_))
    · have := s5 q i (by omega) (by omega)
      exact Int32.le_trans this z
    · rw [nI_clamp (n := i + 1) (by omega), gx_byteN (by omega)]
      refine nm_e (nm_r (pk_m1 i) (ih k _ (by omega) (by omega) (fun q hq => ?_) (fun q hq1 hq2 => ?_) (fun q hq1 hq2 => ?_)))
      · rw [pk_un (by omega)]; exact h1 q (by omega)
      · by_cases y : q = i + 1
        · rw [y, pk_us]; rfl
        · rw [pk_un y]; exact h2 q (by omega) hq2
      · by_cases y : q = i
        · rw [y]
          rw [Int32.le_iff_toInt_le] at z ⊢
          omega
        · exact h3 q (by omega) hq2
theorem gx_index {post : SX → Prop} {th : Nat → Bool} {sc n lb : Nat} {so : Nat → Nat} (hS : gx_So th sc so a_sorted a_valueOf) (hn : n < 12) (ht : th n = false) (hlb : a_labelOf n = nI lb) (hlb4 : lb < 4)
    (hp : ∀ sorted' so', gx_So (fun m => th m || decide (m = n)) (sc + 1) so' sorted' a_valueOf → post (f_nodeSet, f_edgeSet, nI (sc + 1), f_keptCount, f_which, f_inOrder, f_total, f_depth, f_begun, f_assigned, f_usedNodes, f_edgeLinks, a_labelOf, a_valueOf, a_fromOf, a_toOf, a_typeOf, a_weightOf, a_firstPage, a_pageUsed, a_pageNext, a_pageSize, a_pageEdge, upd a_labelled lb (a_labelled lb ||| ((1 : Int32) <<< (nI n &&& 31))), sorted', a_modeOf, a_spotSet, a_spotLabels, a_spotLeast, a_spotGreatest, a_linkSet, a_linkFrom, a_linkTo, a_linkTypes, a_linkKind, a_outgoing, a_incoming, a_allowed, a_candidates, a_behind, a_before, a_nodeFor, a_levelSpot, a_levelLeft, a_edgeLink, a_choiceLeft, a_choice, a_pickedEdge)) : wpX_index post (f_nodeSet, f_edgeSet, nI sc, f_keptCount, f_which, f_inOrder, f_total, f_depth, f_begun, f_assigned, f_usedNodes, f_edgeLinks, a_labelOf, a_valueOf, a_fromOf, a_toOf, a_typeOf, a_weightOf, a_firstPage, a_pageUsed, a_pageNext, a_pageSize, a_pageEdge, a_labelled, a_sorted, a_modeOf, a_spotSet, a_spotLabels, a_spotLeast, a_spotGreatest, a_linkSet, a_linkFrom, a_linkTo, a_linkTypes, a_linkKind, a_outgoing, a_incoming, a_allowed, a_candidates, a_behind, a_before, a_nodeFor, a_levelSpot, a_levelLeft, a_edgeLink, a_choiceLeft, a_choice, a_pickedEdge) (nI n) := by
  have hS0 := hS
  refine And.intro (vp_in_nI hn (by omega)) ?_
  rw [nI_clamp (n := n) (by omega), hlb]
  refine And.intro (vp_in_nI hlb4 (by omega)) (And.intro (vp_in_nI hlb4 (by omega)) ?_)
  rw [nI_clamp (n := lb) (by omega)]
  refine nm_e (Exists.intro (sc + 1) (gx_index22 hS0 hn ht hp sc (sc + 1) a_sorted (Nat.le_refl _) (by omega) (fun q hq => (hS.2.1 q hq).1) (fun q h1 h2 => by omega) (fun q h1 h2 => by omega)))
theorem gx_unindex {post : SX → Prop} {th : Nat → Bool} {sc n lb : Nat} {so : Nat → Nat} (hS : gx_So th sc so a_sorted a_valueOf) (hn : n < 12) (ht : th n = true) (hlb : a_labelOf n = nI lb) (hlb4 : lb < 4)
    (hp : ∀ sorted' so', gx_So (fun m => th m && decide (m ≠ n)) (sc - 1) so' sorted' a_valueOf → post (f_nodeSet, f_edgeSet, nI (sc - 1), f_keptCount, f_which, f_inOrder, f_total, f_depth, f_begun, f_assigned, f_usedNodes, f_edgeLinks, a_labelOf, a_valueOf, a_fromOf, a_toOf, a_typeOf, a_weightOf, a_firstPage, a_pageUsed, a_pageNext, a_pageSize, a_pageEdge, upd a_labelled lb (a_labelled lb &&& (((1 : Int32) <<< (nI n &&& 31)) ^^^ (-1))), sorted', a_modeOf, a_spotSet, a_spotLabels, a_spotLeast, a_spotGreatest, a_linkSet, a_linkFrom, a_linkTo, a_linkTypes, a_linkKind, a_outgoing, a_incoming, a_allowed, a_candidates, a_behind, a_before, a_nodeFor, a_levelSpot, a_levelLeft, a_edgeLink, a_choiceLeft, a_choice, a_pickedEdge)) : wpX_unindex post (f_nodeSet, f_edgeSet, nI sc, f_keptCount, f_which, f_inOrder, f_total, f_depth, f_begun, f_assigned, f_usedNodes, f_edgeLinks, a_labelOf, a_valueOf, a_fromOf, a_toOf, a_typeOf, a_weightOf, a_firstPage, a_pageUsed, a_pageNext, a_pageSize, a_pageEdge, a_labelled, a_sorted, a_modeOf, a_spotSet, a_spotLabels, a_spotLeast, a_spotGreatest, a_linkSet, a_linkFrom, a_linkTo, a_linkTypes, a_linkKind, a_outgoing, a_incoming, a_allowed, a_candidates, a_behind, a_before, a_nodeFor, a_levelSpot, a_levelLeft, a_edgeLink, a_choiceLeft, a_choice, a_pickedEdge) (nI n) := by
  obtain ⟨s1, s2, s3, s4, s5⟩ := hS
  obtain ⟨q, hq, hqn⟩ := s4 n ht
  refine And.intro (vp_in_nI hn (by omega)) ?_
  rw [nI_clamp (n := n) (by omega), hlb]
  refine And.intro (vp_in_nI hlb4 (by omega)) (And.intro (vp_in_nI hlb4 (by omega)) ?_)
  rw [nI_clamp (n := lb) (by omega)]
  have loop : ∀ (lbd : Nat → Int32) (d t k : Nat) (cur : Nat → Int32), lbd = upd a_labelled lb (a_labelled lb &&& (((1 : Int32) <<< (nI n &&& 31)) ^^^ (-1))) → t + d = sc → d < k → (∀ i, i < t - (if q < t then 1 else 0) → cur i = nI (if i < q then so i else so (i + 1))) → (∀ i, t - (if q < t then 1 else 0) ≤ i → i < sc → cur i = nI (so i)) → wX_unindex_23 post (nI n) f_nodeSet f_edgeSet (nI sc) f_keptCount f_which f_inOrder f_total f_depth f_begun f_assigned f_usedNodes f_edgeLinks k (nI (t - (if q < t then 1 else 0))) (nI t) a_labelOf a_valueOf a_fromOf a_toOf a_typeOf a_weightOf a_firstPage a_pageUsed a_pageNext a_pageSize a_pageEdge lbd cur a_modeOf a_spotSet a_spotLabels a_spotLeast a_spotGreatest a_linkSet a_linkFrom a_linkTo a_linkTypes a_linkKind a_outgoing a_incoming a_allowed a_candidates a_behind a_before a_nodeFor a_levelSpot a_levelLeft a_edgeLink a_choiceLeft a_choice a_pickedEdge := by
    intro lbd d
    induction d with
    | zero =>
      intro t k cur hl ht' hk h1 h2
      obtain ⟨k, rfl⟩ := gx_S k (by omega)
      refine pk_le sc t (fun _ => ?_) (fun h => by omega)
      have e1 : t - (if q < t then 1 else 0) = sc - 1 := by rw [if_pos (by omega)]; omega
      rw [e1] at h1 ⊢
      rw [hl]
      refine hp cur (fun i => if i < q then so i else so (i + 1)) ⟨by omega, fun i hi => ⟨h1 i hi, ?_⟩, fun a b ha hb e => ?_, fun m hm => ?_, fun a b hab hb => ?_⟩
      · have key : ∀ x, x < sc → x ≠ q → so x < 12 ∧ (th (so x) && decide (so x ≠ n)) = true := by
          intro x hx hxq
          obtain ⟨_, x2, x3⟩ := s2 x hx
          refine ⟨x2, ?_⟩
          have : so x ≠ n := fun z => hxq (s3 x q hx hq (by rw [z, hqn]))
          rw [x3, decide_eq_true this]; rfl
        dsimp only
        by_cases z : i < q
        · rw [if_pos z]; exact key i (by omega) (by omega)
        · rw [if_neg z]; exact key (i + 1) (by omega) (by omega)
      · dsimp only at e
        by_cases z1 : a < q
        · rw [if_pos z1] at e
          by_cases z2 : b < q
          · rw [if_pos z2] at e; exact s3 a b (by omega) (by omega) e
          · rw [if_neg z2] at e; have := s3 a (b + 1) (by omega) (by omega) e; omega
        · rw [if_neg z1] at e
          by_cases z2 : b < q
          · rw [if_pos z2] at e; have := s3 (a + 1) b (by omega) (by omega) e; omega
          · rw [if_neg z2] at e; have := s3 (a + 1) (b + 1) (by omega) (by omega) e; omega
      · rw [Bool.and_eq_true, decide_eq_true_eq] at hm
        obtain ⟨i, i1, i2⟩ := s4 m hm.1
        have : i ≠ q := fun z => hm.2 (by rw [← i2, z, hqn])
        by_cases z : i < q
        · exact ⟨i, by omega, by dsimp only; rw [if_pos z]; exact i2⟩
        · exact ⟨i - 1, by omega, by dsimp only; rw [if_neg (by omega), show i - 1 + 1 = i from by omega]; exact i2⟩
      · dsimp only
        by_cases z1 : a < q
        · rw [if_pos z1]
          by_cases z2 : b < q
          · rw [if_pos z2]; exact s5 a b hab (by omega)
          · rw [if_neg z2]; exact s5 a (b + 1) (by omega) (by omega)
        · rw [if_neg z1, if_neg (by omega)]; exact s5 (a + 1) (b + 1) (by omega) (by omega)
    | succ d ih =>
      intro t k cur hl ht' hk h1 h2
      obtain ⟨k, rfl⟩ := gx_S k (by omega)
      obtain ⟨t1, t2, t3⟩ := s2 t (by omega)
      have hin : vp_in (nI t) 12 := vp_in_nI (by omega) (by omega)
      have hkt : t - (if q < t then 1 else 0) ≤ t := by split <;> omega
      refine pk_le sc t (fun h => by omega) (fun _ => And.intro hin ?_)
      rw [nI_clamp (n := t) (by omega), h2 t hkt (by omega)]
      refine pk_eq (so t) n (fun e => ?_) (fun e => ?_)
      · have htq : t = q := s3 t q (by omega) hq (by rw [e, hqn])
        subst htq
        have e1 : t - (if t < t then 1 else 0) = t := by rw [if_neg (by omega)]; omega
        have e2 : t + 1 - (if t < t + 1 then 1 else 0) = t := by rw [if_pos (by omega)]; omega
        rw [e1] at h1 h2 ⊢
        have := ih (t + 1) k cur hl (by omega) (by omega)
        rw [e2] at this
        exact nm_r (nI_1 t) (this h1 h2)
      · have htq : t ≠ q := fun z => e (by rw [z, hqn])
        have e2 : t + 1 - (if q < t + 1 then 1 else 0) = (t - (if q < t then 1 else 0)) + 1 := by
          by_cases z : q < t
          · rw [if_pos z, if_pos (by omega)]; omega
          · rw [if_neg z, if_neg (by omega)]; omega
        refine And.intro hin (And.intro (vp_in_nI (by omega) (by omega)) ?_)
        rw [nI_clamp (n := t - (if q < t then 1 else 0)) (by omega), gx_byteN (by omega)]
        have := ih (t + 1) k (upd cur (t - (if q < t then 1 else 0)) (nI (so t))) hl (by omega) (by omega)
        rw [e2] at this
        refine nm_e (nm_r (nI_1 _) (nm_r (nI_1 t) (this (fun i hi => ?_) (fun i hi1 hi2 => ?_))))
        · by_cases z : i = t - (if q < t then 1 else 0)
          · rw [z, pk_us]
            by_cases y : q < t
            · rw [if_pos y, if_neg (by omega), show t - 1 + 1 = t from by omega]
            · rw [if_neg y, if_pos (by omega)]; rfl
          · rw [pk_un z]; exact h1 i (by omega)
        · rw [pk_un (by omega)]; exact h2 i (by omega) hi2
  have := loop _ sc 0 (sc + 1) a_sorted rfl (by omega) (by omega) (fun i hi => by simp at hi) (fun i _ hi => (s2 i hi).1)
  exact nm_e (Exists.intro (sc + 1) this)
end
end
section
/-! prepare as a whole; what a search then stands on -/
def gx_PT (w mode : Nat) (sp lk kd : Nat → Bool) (la lb : Nat → Nat) (tys labs lst grt : Nat → Int32) (mo ss sb sl sg ls lf lt lty lkd : Nat → Int32) : Prop :=
  mo w = nI mode ∧ ss w = gb_mk sp ∧ ls w = gb_mk lk ∧ (∀ i, i < 4 → sp i = true → sb (w * 4 + i) = labs i ∧ sl (w * 4 + i) = lst i ∧ sg (w * 4 + i) = grt i) ∧
  (∀ j, j < 4 → lk j = true → lf (w * 4 + j) = nI (la j) ∧ lt (w * 4 + j) = nI (lb j) ∧ lty (w * 4 + j) = tys j ∧ lkd (w * 4 + j) = if kd j then 1 else 0)
/-- what is known of a pattern by itself -/
def gx_P0 (mode : Nat) (sp lk : Nat → Bool) (la lb : Nat → Nat) : Prop := mode < 4 ∧ (∀ i, 4 ≤ i → sp i = false ∧ lk i = false) ∧ (∀ j, j < 4 → lk j = true → la j < 4 ∧ lb j < 4 ∧ sp (la j) = true ∧ sp (lb j) = true)
/-- which edge is on which list -/
def gx_mem (eth : Nat → Bool) (fr to : Nat → Nat) (l e : Nat) : Bool := decide (e < 20) && eth e && (if l % 2 = 0 then decide (fr e = l / 2) else decide (to e = l / 2))
theorem gx_mem_0 (eth : Nat → Bool) (fr to : Nat → Nat) (n e : Nat) : gx_mem eth fr to (2 * n) e = (decide (e < 20) && eth e && decide (fr e = n)) := by
  unfold gx_mem
  rw [if_pos (by omega), show 2 * n / 2 = n from by omega]
theorem gx_mem_1 (eth : Nat → Bool) (fr to : Nat → Nat) (n e : Nat) : gx_mem eth fr to (2 * n + 1) e = (decide (e < 20) && eth e && decide (to e = n)) := by
  unfold gx_mem
  rw [if_neg (by omega), show (2 * n + 1) / 2 = n from by omega]
/-- the graph's part of a state of the component -/
def gx_Gr (th eth : Nat → Bool) (lab wh fr to : Nat → Nat) (sc : Nat) (so : Nat → Nat) (ns es : Int32) (lbo vlo fro too tyo wto fp us nx sz pe lbd srt : Nat → Int32) : Prop :=
  ns = gb_mk th ∧ (∀ n, th n = true → n < 12) ∧ es = gb_mk eth ∧ (∀ e, eth e = true → e < 20) ∧
  gx_Nm lbo lab 12 4 ∧ gx_Nm fro fr 20 12 ∧ gx_Nm too to 20 12 ∧ (∀ e, e < 20 → tyo e = nI (wh e % 3) ∧ wto e = nI (wh e / 3)) ∧ (∀ e, wh e ≤ 62) ∧
  gx_Pg (gx_mem eth fr to) fp us nx sz pe ∧ (∀ t, t < 4 → lbd t = gb_mk (fun m => th m && decide (lab m = t))) ∧ gx_So th sc so srt vlo
theorem gx_out_of {eth : Nat → Bool} {fr to : Nat → Nat} {out inc : Nat → Int32} (h : ∀ n, n < 12 → out n = gb_mk (gx_mem eth fr to (2 * n)) ∧ inc n = gb_mk (gx_mem eth fr to (2 * n + 1))) : gx_Out eth fr out ∧ gx_Out eth to inc := by
  constructor
  · intro n hn
    rw [(h n hn).1]
    exact gb_mk_e (fun e _ => gx_mem_0 _ _ _ _ _)
  · intro n hn
    rw [(h n hn).2]
    exact gb_mk_e (fun e _ => gx_mem_1 _ _ _ _ _)
theorem gx_cand_eq {w : Nat} {sp th : Nat → Bool} {lab : Nat → Nat} {labs lst grt lbd val ss sl sg sb : Nat → Int32} (hss : ss w = gb_mk sp) (hth : ∀ n, th n = true → n < 12) (hlab : ∀ n, n < 12 → lab n < 4) (hlbd : ∀ t, t < 4 → lbd t = gb_mk (fun m => th m && decide (lab m = t))) (hsp : ∀ i, i < 4 → sp i = true → sb (w * 4 + i) = labs i ∧ sl (w * 4 + i) = lst i ∧ sg (w * 4 + i) = grt i) {i m : Nat} (hi : i < 4) (hm : m < 32) : gx_cand w th lbd val ss sl sg sb i m = gp_cd sp th labs lst grt val lab i m := by
  unfold gx_cand gp_cd
  rw [hss, gb_mk_l _ (by omega)]
  cases hs : sp i
  · rfl
  · obtain ⟨h1, h2, h3⟩ := hsp i hi hs
    rw [h1, h2, h3, Bool.true_and, Bool.true_and]
    cases ht : th m
    · simp
    · have h12 := hth m ht
      have h4 := hlab m h12
      have e : gb_an (fun t => bt (labs i) t && bt (lbd t) m) 0 4 = bt (labs i) (lab m) := by
        apply gb_bool
        rw [gb_an_iff]
        constructor
        · rintro ⟨t, _, t2, t3⟩
          rw [Bool.and_eq_true, hlbd t (by omega), gb_mk_l _ hm, ht, Bool.true_and, decide_eq_true_eq] at t3
          rw [t3.2]; exact t3.1
        · intro h
          refine ⟨lab m, by omega, by omega, ?_⟩
          rw [h, hlbd _ h4, gb_mk_l _ hm, ht]; simp
      rw [e, decide_eq_true h12]
      simp [Bool.and_assoc]
/-- from what prepare and spread leave to what the search needs -/
theorem gx_ctx {w mode : Nat} {sp lk kd : Nat → Bool} {la lb : Nat → Nat} {tys labs lst grt : Nat → Int32} {mo ss sb sl sg ls lf lt lty lkd : Nat → Int32} {al : Nat → Nat → Bool} {eth th : Nat → Bool} {fr to lab : Nat → Nat} {ns : Int32} {out inc alw elk cand bh bf val : Nat → Int32} (hw : w < 2) (hP0 : gx_P0 mode sp lk la lb) (hPT : gx_PT w mode sp lk kd la lb tys labs lst grt mo ss sb sl sg ls lf lt lty lkd)
    (hns : ns = gb_mk th) (hth : ∀ n, th n = true → n < 12) (hf : ∀ e, e < 20 → fr e < 12) (ho : gx_Out eth fr out) (hi : gx_Out eth to inc) (hal : ∀ j, j < 4 → alw j = gb_mk (al j)) (hal2 : ∀ j e, al j e = true → e < 20 ∧ eth e = true)
    (hcand : ∀ i, i < 4 → cand i = gb_mk (gp_cd sp th labs lst grt val lab i)) (helk : ∀ (k x : Nat), (gx_ll w ls lkd 4)[k]? = some x → elk k = nI x)
    (hb : ∀ j s, j < 4 → s < 12 → bh (j * 12 + s) = gx_BH w ns ls lkd alw eth fr to j s ∧ bf (j * 12 + s) = gb_mk (fun m => decide (m < 12) && bt (gx_BH w ns ls lkd alw eth fr to j m) s)) :
    gx_SC w sp lk la lb (gp_cd sp th labs lst grt val lab) (gp_cn al kd fr to) (decide (mode % 2 = 1)) ns mo ss ls lf lt cand bh bf ∧ ((mo w &&& 2) = 0 ↔ decide (2 ≤ mode) = false) ∧ gx_E0 w sp (gb_fl (fun j => lk j && !(kd j)) 0 4) la lb al eth fr to lf lt out inc alw elk ∧ (gb_bl (ss w)).length = (gp_us sp (fun _ => 50)).length ∧ (gx_ll w ls lkd 4) = gb_fl (fun j => lk j && !(kd j)) 0 4 := by
  obtain ⟨p1, p2, p3, p4, p5⟩ := hPT
  obtain ⟨z1, z2, z3⟩ := hP0
  have hsp : ∀ i, i < 4 → bt (ss w) i = sp i := fun i hi => by rw [p2, gb_mk_l _ (by omega)]
  have hlk : ∀ j, j < 4 → bt (ls w) j = lk j := fun j hj => by rw [p3, gb_mk_l _ (by omega)]
  have hll : gx_ll w ls lkd 4 = gb_fl (fun j => lk j && !(kd j)) 0 4 := by
    unfold gx_ll
    apply gb_fl_c
    intro j _ hj
    rw [hlk j (by omega)]
    cases h : lk j
    · rfl
    · rw [(p5 j (by omega) h).2.2.2]
      cases kd j <;> rfl
  have hmo : ∀ m, m < 4 → (((nI m &&& 1) = 0 ↔ decide (m % 2 = 1) = false) ∧ ((nI m &&& 2) = 0 ↔ decide (2 ≤ m) = false)) := by decide +kernel
  have hBH : ∀ j n m, j < 4 → lk j = true → n < 12 → bt ns n = true → m < 32 → bt (gx_BH w ns ls lkd alw eth fr to j n) m = gp_cn al kd fr to j n m := by
    intro j n m hj hl hn hns2 hm
    unfold gx_BH gp_cn
    rw [hlk j hj, hl, hns2]
    simp only [Bool.and_self, if_true]
    rw [gb_mk_l _ hm, (p5 j hj hl).2.2.2, hal j hj]
    have e1 : (if (if kd j then (1 : Int32) else 0) = 1 then 3 else 1) = (if kd j then 3 else 1) := by cases kd j <;> rfl
    rw [e1]
    refine gp_rc_c (fun e he => ?_) hf _ (fun q _ => rfl) m
    rw [gb_mk_l _ (by omega)]
    cases ha : al j e
    · simp
    · rw [(hal2 j e ha).2]; rfl
  refine ⟨⟨hw, hsp, hlk, by rw [p1]; exact (hmo mode z1).1, fun j hj hl => ?_, hcand, fun i n h => ?_, fun j n m hj hl hn hns2 hm => ?_, fun j m n hj hl hm hn => ?_⟩, by rw [p1]; exact (hmo mode z1).2, ⟨hw, gb_fl_len _ _ _, ho, hi, hal2, fun k x hk => ?_⟩, ?_, hll⟩
  · obtain ⟨a1, a2, _⟩ := p5 j hj hl
    obtain ⟨b1, b2, _⟩ := z3 j hj hl
    exact ⟨a1, b1, a2, b2⟩
  · unfold gp_cd at h
    simp only [Bool.and_eq_true, decide_eq_true_eq] at h
    have h1 := h.2.1.1.1.1
    have h2 := h.2.1.1.1.2
    exact ⟨h1, by rw [hns, gb_mk_l _ (by omega)]; exact h2⟩
  · rw [(hb j n hj hn).1]
    exact hBH j n m hj hl hn hns2 hm
  · rw [(hb j m hj hm).2, gb_mk_l _ hn]
    by_cases h12 : n < 12
    · cases hns2 : bt ns n
      · have : gx_BH w ns ls lkd alw eth fr to j n = 0 := by
          unfold gx_BH
          rw [hns2]; simp
        rw [this, b_0]; simp
      · rw [hBH j n m hj hl h12 hns2 (by omega)]; simp
    · rw [decide_eq_false h12]; rfl
  · have hmem : x ∈ gb_fl (fun j => lk j && !(kd j)) 0 4 := List.mem_iff_getElem?.mpr ⟨k, hk⟩
    have hx := gb_fl_m.mp hmem
    have hl : lk x = true := by
      have := hx.2.2
      rw [Bool.and_eq_true] at this; exact this.1
    obtain ⟨a1, a2, _⟩ := p5 x (by omega) hl
    obtain ⟨b1, b2, b3, b4⟩ := z3 x (by omega) hl
    exact ⟨helk k x (by rw [hll]; exact hk), by omega, a1, b1, a2, b2, b3, b4, hal x (by omega)⟩
  · rw [p2, gb_bl_mk (d := 4) (by omega) (fun i h1 _ => (z2 i h1).1)]
    unfold gp_us
    rw [gb_fl_c (q := fun i => sp i && decide ((fun _ : Nat => 50) i = 50))]
    intro n _ _
    simp
section
variable {f_nodeSet f_edgeSet f_sortedCount f_keptCount f_which f_inOrder f_total f_depth f_begun f_assigned f_usedNodes f_edgeLinks : Int32} {a_labelOf a_valueOf a_fromOf a_toOf a_typeOf a_weightOf a_firstPage a_pageUsed a_pageNext a_pageSize a_pageEdge a_labelled a_sorted a_modeOf a_spotSet a_spotLabels a_spotLeast a_spotGreatest a_linkSet a_linkFrom a_linkTo a_linkTypes a_linkKind a_outgoing a_incoming a_allowed a_candidates a_behind a_before a_nodeFor a_levelSpot a_levelLeft a_edgeLink a_choiceLeft a_choice a_pickedEdge : Nat → Int32}
variable {w mode sc : Nat} {sp lk kd : Nat → Bool} {la lb so : Nat → Nat} {tys labs lst grt : Nat → Int32} {th eth : Nat → Bool} {lab wh fr to : Nat → Nat}
/-- what stands in the arrays of a search behind prepare -/
def gx_Ready (w : Nat) (th eth : Nat → Bool) (sp : Nat → Bool) (labs lst grt val : Nat → Int32) (lab fr to : Nat → Nat) (al : Nat → Nat → Bool) (ls lkd out inc alw elk cand : Nat → Int32) (q : Nat) : Prop :=
  gx_Out eth fr out ∧ gx_Out eth to inc ∧ (∀ j, j < 4 → alw j = gb_mk (al j)) ∧ q = (gx_ll w ls lkd 4).length ∧ (∀ (k x : Nat), (gx_ll w ls lkd 4)[k]? = some x → elk k = nI x) ∧ (∀ i, i < 4 → cand i = gb_mk (gp_cd sp th labs lst grt val lab i))
theorem gx_prepare {post : SX → Prop} (hw : w < 2) (hP0 : gx_P0 mode sp lk la lb) (hPT : gx_PT w mode sp lk kd la lb tys labs lst grt a_modeOf a_spotSet a_spotLabels a_spotLeast a_spotGreatest a_linkSet a_linkFrom a_linkTo a_linkTypes a_linkKind)
    (hG : gx_Gr th eth lab wh fr to sc so f_nodeSet f_edgeSet a_labelOf a_valueOf a_fromOf a_toOf a_typeOf a_weightOf a_firstPage a_pageUsed a_pageNext a_pageSize a_pageEdge a_labelled a_sorted)
    (hp : ∀ q out inc alw elk cand bh bf, gx_Ready w th eth sp labs lst grt a_valueOf lab fr to (gp_al lk eth tys wh) a_linkSet a_linkKind out inc alw elk cand q →
      (∀ j s, j < 4 → s < 12 → bh (j * 12 + s) = gx_BH w f_nodeSet a_linkSet a_linkKind alw eth fr to j s ∧ bf (j * 12 + s) = gb_mk (fun m => decide (m < 12) && bt (gx_BH w f_nodeSet a_linkSet a_linkKind alw eth fr to j m) s)) →
      post (f_nodeSet, f_edgeSet, nI sc, f_keptCount, nI w, 0, nI (gb_bl (a_spotSet w)).length, f_depth, 0, f_assigned, f_usedNodes, nI q, a_labelOf, a_valueOf, a_fromOf, a_toOf, a_typeOf, a_weightOf, a_firstPage, a_pageUsed, a_pageNext, a_pageSize, a_pageEdge, a_labelled, a_sorted, a_modeOf, a_spotSet, a_spotLabels, a_spotLeast, a_spotGreatest, a_linkSet, a_linkFrom, a_linkTo, a_linkTypes, a_linkKind, out, inc, alw, cand, bh, bf, a_nodeFor, a_levelSpot, a_levelLeft, elk, a_choiceLeft, a_choice, a_pickedEdge)) :
    wpX_prepare post (f_nodeSet, f_edgeSet, nI sc, f_keptCount, f_which, f_inOrder, f_total, f_depth, f_begun, f_assigned, f_usedNodes, f_edgeLinks, a_labelOf, a_valueOf, a_fromOf, a_toOf, a_typeOf, a_weightOf, a_firstPage, a_pageUsed, a_pageNext, a_pageSize, a_pageEdge, a_labelled, a_sorted, a_modeOf, a_spotSet, a_spotLabels, a_spotLeast, a_spotGreatest, a_linkSet, a_linkFrom, a_linkTo, a_linkTypes, a_linkKind, a_outgoing, a_incoming, a_allowed, a_candidates, a_behind, a_before, a_nodeFor, a_levelSpot, a_levelLeft, a_edgeLink, a_choiceLeft, a_choice, a_pickedEdge) (nI w) := by
  obtain ⟨g1, g2, g3, g4, g5, g6, g7, g8, g9, g10, g11, g12⟩ := hG
  obtain ⟨p1, p2, p3, p4, p5⟩ := hPT
  unfold wpX_prepare
  refine gx_readLists g10 (fun out inc hoi => ?_)
  obtain ⟨ho, hi⟩ := gx_out_of hoi
  refine Exists.intro 5 (gx_pr21 (ty := fun e => wh e % 3) hw g12 (fun e he => ⟨(g8 e he).1, by omega⟩) (fun q alw elk cand hPr => ?_) 4 0 0 _ _ 5 rfl (by omega) (fun i hi => by omega) rfl (fun k x hk => by simp [gx_ll, gb_fl] at hk))
  refine gx_spread hw ho g6 g7 (fun bh bf hb => hp q out inc alw elk cand bh bf ⟨ho, hi, fun j hj => ?_, hPr.2.1, hPr.2.2.1, fun i hi => ?_⟩ hb)
  · rw [hPr.1 j hj, p3, gb_mk_l _ (by omega)]
    cases hl : lk j
    · rw [← gb_mk_0]
      apply gb_mk_e
      intro e _
      unfold gp_al
      rw [hl]; simp
    · simp only [if_true]
      apply gb_mk_e
      intro e he
      unfold gp_al
      rw [hl, (p5 j hj hl).2.2.1, g3, gb_mk_l _ he]; simp
  · rw [hPr.2.2.2 i hi]
    exact gb_mk_e (fun m hm => gx_cand_eq p2 g2 (fun n hn => (g5 n hn).2) g11 p4 hi hm)
end
end
section
/-! counting, the kept number -/
/-- how many matches there are with given edges for each link -/
def gp_M (mode : Nat) (sp lk kd : Nat → Bool) (la lb : Nat → Nat) (cd : Nat → Nat → Bool) (al : Nat → Nat → Bool) (fr to : Nat → Nat) : Nat :=
  (gp_ML sp lk kd la lb cd (gp_cn al kd fr to) (decide (mode % 2 = 1)) (decide (2 ≤ mode)) al fr to).length
theorem gp_cn_0 {al : Nat → Nat → Bool} {kd : Nat → Bool} {fr to : Nat → Nat} {j n m : Nat} (hk : kd j = false) (h : gp_cn al kd fr to j n m = false) : ∀ e, e < 20 → al j e = true → fr e = n → to e = m → False := by
  intro e he ha hf ht
  unfold gp_cn at h
  rw [hk] at h
  have h2 : (gp_stp (al j) fr to (fun q => decide (q = n)) m || false) = false := h
  rw [Bool.or_false] at h2
  have : gp_stp (al j) fr to (fun q => decide (q = n)) m = true := by
    unfold gp_stp
    rw [gb_an_iff]
    exact ⟨e, by omega, by omega, by simp [ha, hf, ht]⟩
  rw [this] at h2; cases h2
section
variable {f_nodeSet f_edgeSet f_sortedCount f_keptCount f_which f_inOrder f_total f_depth f_begun f_assigned f_usedNodes f_edgeLinks : Int32} {a_labelOf a_valueOf a_fromOf a_toOf a_typeOf a_weightOf a_firstPage a_pageUsed a_pageNext a_pageSize a_pageEdge a_labelled a_sorted a_modeOf a_spotSet a_spotLabels a_spotLeast a_spotGreatest a_linkSet a_linkFrom a_linkTo a_linkTypes a_linkKind a_outgoing a_incoming a_allowed a_candidates a_behind a_before a_nodeFor a_levelSpot a_levelLeft a_edgeLink a_choiceLeft a_choice a_pickedEdge : Nat → Int32}
variable {w mode sc q : Nat} {sp lk kd : Nat → Bool} {la lb so : Nat → Nat} {tys labs lst grt : Nat → Int32} {th eth : Nat → Bool} {lab wh fr to : Nat → Nat} {al : Nat → Nat → Bool}
theorem gx_cntR {post : Int32 → SX → Prop} (hw : w < 2) (hP0 : gx_P0 mode sp lk la lb) (hPT : gx_PT w mode sp lk kd la lb tys labs lst grt a_modeOf a_spotSet a_spotLabels a_spotLeast a_spotGreatest a_linkSet a_linkFrom a_linkTo a_linkTypes a_linkKind)
    (hns : f_nodeSet = gb_mk th) (hth : ∀ n, th n = true → n < 12) (hf : ∀ e, e < 20 → fr e < 12) (hal2 : ∀ j e, al j e = true → e < 20 ∧ eth e = true)
    (hR : gx_Ready w th eth sp labs lst grt a_valueOf lab fr to al a_linkSet a_linkKind a_outgoing a_incoming a_allowed a_edgeLink a_candidates q)
    (hb : ∀ j s, j < 4 → s < 12 → a_behind (j * 12 + s) = gx_BH w f_nodeSet a_linkSet a_linkKind a_allowed eth fr to j s ∧ a_before (j * 12 + s) = gb_mk (fun m => decide (m < 12) && bt (gx_BH w f_nodeSet a_linkSet a_linkKind a_allowed eth fr to j m) s))
    (hp : ∀ (q0 q1 q2 q3 q4 q5 q6 q7 : Int32) (q8 q9 q10 q11 q12 q13 q14 q15 q16 q17 q18 q19 : Nat → Int32), post (nI (gp_M mode sp lk kd la lb (gp_cd sp th labs lst grt a_valueOf lab) al fr to)) (f_nodeSet, f_edgeSet, f_sortedCount, f_keptCount, q0, q1, q2, q3, q4, q5, q6, q7, a_labelOf, a_valueOf, a_fromOf, a_toOf, a_typeOf, a_weightOf, a_firstPage, a_pageUsed, a_pageNext, a_pageSize, a_pageEdge, a_labelled, a_sorted, a_modeOf, a_spotSet, a_spotLabels, a_spotLeast, a_spotGreatest, a_linkSet, a_linkFrom, a_linkTo, a_linkTypes, a_linkKind, q8, q9, q10, q11, q12, q13, q14, q15, q16, q17, q18, q19, a_pickedEdge)) :
    wpX_countAll post (f_nodeSet, f_edgeSet, f_sortedCount, f_keptCount, nI w, 0, nI (gb_bl (a_spotSet w)).length, f_depth, 0, f_assigned, f_usedNodes, nI q, a_labelOf, a_valueOf, a_fromOf, a_toOf, a_typeOf, a_weightOf, a_firstPage, a_pageUsed, a_pageNext, a_pageSize, a_pageEdge, a_labelled, a_sorted, a_modeOf, a_spotSet, a_spotLabels, a_spotLeast, a_spotGreatest, a_linkSet, a_linkFrom, a_linkTo, a_linkTypes, a_linkKind, a_outgoing, a_incoming, a_allowed, a_candidates, a_behind, a_before, a_nodeFor, a_levelSpot, a_levelLeft, a_edgeLink, a_choiceLeft, a_choice, a_pickedEdge) := by
  obtain ⟨r1, r2, r3, r4, r5, r6⟩ := hR
  obtain ⟨c1, c2, c3, c4, c5⟩ := gx_ctx hw hP0 hPT hns hth hf r1 r2 r3 hal2 r6 r5 hb
  rw [r4, c4, c5]
  refine gx_countAll (io := false) rfl ⟨fun _ => rfl, fun _ => rfl⟩ c1 c2 (gb_fl_nd _ _ _) c3 (fun dp bg asg us nf lsp llf chl ch => ?_)
  rw [gp_ps_lp, gp_count (kd := kd) false (fun j hj hl => ⟨(hP0.2.2 j hj hl).1, (hP0.2.2 j hj hl).2.1⟩) (fun j n m hj hl hk h => gp_cn_0 hk h)]
  exact hp _ _ _ _ _ _ _ _ _ _ _ _ _ _ _ _ _ _ _ _
theorem gp_al_2 (j e : Nat) (h : gp_al lk eth tys wh j e = true) : e < 20 ∧ eth e = true := by
  unfold gp_al at h
  simp only [Bool.and_eq_true, decide_eq_true_eq] at h
  exact ⟨h.1.1.1, h.1.2⟩
theorem gx_count {post : Int32 → SX → Prop} (hP0 : gx_P0 mode sp lk la lb) (hPT : gx_PT 0 mode sp lk kd la lb tys labs lst grt a_modeOf a_spotSet a_spotLabels a_spotLeast a_spotGreatest a_linkSet a_linkFrom a_linkTo a_linkTypes a_linkKind)
    (hG : gx_Gr th eth lab wh fr to sc so f_nodeSet f_edgeSet a_labelOf a_valueOf a_fromOf a_toOf a_typeOf a_weightOf a_firstPage a_pageUsed a_pageNext a_pageSize a_pageEdge a_labelled a_sorted)
    (hp : ∀ (q0 q1 q2 q3 q4 q5 q6 q7 : Int32) (q8 q9 q10 q11 q12 q13 q14 q15 q16 q17 q18 q19 : Nat → Int32), post (nI (gp_M mode sp lk kd la lb (gp_cd sp th labs lst grt a_valueOf lab) (gp_al lk eth tys wh) fr to)) (f_nodeSet, f_edgeSet, nI sc, f_keptCount, q0, q1, q2, q3, q4, q5, q6, q7, a_labelOf, a_valueOf, a_fromOf, a_toOf, a_typeOf, a_weightOf, a_firstPage, a_pageUsed, a_pageNext, a_pageSize, a_pageEdge, a_labelled, a_sorted, a_modeOf, a_spotSet, a_spotLabels, a_spotLeast, a_spotGreatest, a_linkSet, a_linkFrom, a_linkTo, a_linkTypes, a_linkKind, q8, q9, q10, q11, q12, q13, q14, q15, q16, q17, q18, q19, a_pickedEdge)) :
    wpX_count post (f_nodeSet, f_edgeSet, nI sc, f_keptCount, f_which, f_inOrder, f_total, f_depth, f_begun, f_assigned, f_usedNodes, f_edgeLinks, a_labelOf, a_valueOf, a_fromOf, a_toOf, a_typeOf, a_weightOf, a_firstPage, a_pageUsed, a_pageNext, a_pageSize, a_pageEdge, a_labelled, a_sorted, a_modeOf, a_spotSet, a_spotLabels, a_spotLeast, a_spotGreatest, a_linkSet, a_linkFrom, a_linkTo, a_linkTypes, a_linkKind, a_outgoing, a_incoming, a_allowed, a_candidates, a_behind, a_before, a_nodeFor, a_levelSpot, a_levelLeft, a_edgeLink, a_choiceLeft, a_choice, a_pickedEdge) := by
  unfold wpX_count
  refine gx_prepare (w := 0) (by omega) hP0 hPT hG (fun q out inc alw elk cand bh bf hR hb => ?_)
  exact gx_cntR (w := 0) (by omega) hP0 hPT hG.1 hG.2.1 (fun e he => (hG.2.2.2.2.2.1 e he).2) gp_al_2 hR hb (fun q0 q1 q2 q3 q4 q5 q6 q7 q8 q9 q10 q11 q12 q13 q14 q15 q16 q17 q18 q19 => hp q0 q1 q2 q3 q4 q5 q6 q7 q8 q9 q10 q11 q12 q13 q14 q15 q16 q17 q18 q19)
theorem gx_recount {post : SX → Prop} (hP0 : gx_P0 mode sp lk la lb) (hPT : gx_PT 1 mode sp lk kd la lb tys labs lst grt a_modeOf a_spotSet a_spotLabels a_spotLeast a_spotGreatest a_linkSet a_linkFrom a_linkTo a_linkTypes a_linkKind)
    (hG : gx_Gr th eth lab wh fr to sc so f_nodeSet f_edgeSet a_labelOf a_valueOf a_fromOf a_toOf a_typeOf a_weightOf a_firstPage a_pageUsed a_pageNext a_pageSize a_pageEdge a_labelled a_sorted)
    (hp : ∀ (q0 q1 q2 q3 q4 q5 q6 q7 : Int32) (q8 q9 q10 q11 q12 q13 q14 q15 q16 q17 q18 q19 : Nat → Int32), post (f_nodeSet, f_edgeSet, nI sc, nI (gp_M mode sp lk kd la lb (gp_cd sp th labs lst grt a_valueOf lab) (gp_al lk eth tys wh) fr to), q0, q1, q2, q3, q4, q5, q6, q7, a_labelOf, a_valueOf, a_fromOf, a_toOf, a_typeOf, a_weightOf, a_firstPage, a_pageUsed, a_pageNext, a_pageSize, a_pageEdge, a_labelled, a_sorted, a_modeOf, a_spotSet, a_spotLabels, a_spotLeast, a_spotGreatest, a_linkSet, a_linkFrom, a_linkTo, a_linkTypes, a_linkKind, q8, q9, q10, q11, q12, q13, q14, q15, q16, q17, q18, q19, a_pickedEdge)) :
    wpX_recount post (f_nodeSet, f_edgeSet, nI sc, f_keptCount, f_which, f_inOrder, f_total, f_depth, f_begun, f_assigned, f_usedNodes, f_edgeLinks, a_labelOf, a_valueOf, a_fromOf, a_toOf, a_typeOf, a_weightOf, a_firstPage, a_pageUsed, a_pageNext, a_pageSize, a_pageEdge, a_labelled, a_sorted, a_modeOf, a_spotSet, a_spotLabels, a_spotLeast, a_spotGreatest, a_linkSet, a_linkFrom, a_linkTo, a_linkTypes, a_linkKind, a_outgoing, a_incoming, a_allowed, a_candidates, a_behind, a_before, a_nodeFor, a_levelSpot, a_levelLeft, a_edgeLink, a_choiceLeft, a_choice, a_pickedEdge) := by
  unfold wpX_recount
  refine gx_prepare (w := 1) (by omega) hP0 hPT hG (fun q out inc alw elk cand bh bf hR hb => ?_)
  exact gx_cntR (w := 1) (by omega) hP0 hPT hG.1 hG.2.1 (fun e he => (hG.2.2.2.2.2.1 e he).2) gp_al_2 hR hb (fun q0 q1 q2 q3 q4 q5 q6 q7 q8 q9 q10 q11 q12 q13 q14 q15 q16 q17 q18 q19 => hp q0 q1 q2 q3 q4 q5 q6 q7 q8 q9 q10 q11 q12 q13 q14 q15 q16 q17 q18 q19)
theorem gx_hasWays4 {post : Int32 → Prop} (hlk : a_linkSet 1 = gb_mk lk) (hkd : ∀ j, j < 4 → lk j = true → a_linkKind (1 * 4 + j) = if kd j then 1 else 0) : ∀ (d j : Nat) (b : Bool) (n : Nat), j + d = 4 → d < n → ((b || gb_an (fun j => lk j && kd j) j d) = true → post 1) → ((b || gb_an (fun j => lk j && kd j) j d) = false → post 0) → wX_hasWays_4 post f_nodeSet f_edgeSet f_sortedCount f_keptCount f_which f_inOrder f_total f_depth f_begun f_assigned f_usedNodes f_edgeLinks a_labelOf a_valueOf a_fromOf a_toOf a_typeOf a_weightOf a_firstPage a_pageUsed a_pageNext a_pageSize a_pageEdge a_labelled a_sorted a_modeOf a_spotSet a_spotLabels a_spotLeast a_spotGreatest a_linkSet a_linkFrom a_linkTo a_linkTypes a_linkKind a_outgoing a_incoming a_allowed a_candidates a_behind a_before a_nodeFor a_levelSpot a_levelLeft a_edgeLink a_choiceLeft a_choice a_pickedEdge n (if b then 1 else 0) (nI j) := by
  intro d
  induction d with
  | zero =>
    intro j b n hj hn h1 h0
    obtain ⟨n, rfl⟩ := gx_S n (by omega)
    refine pk_le 4 j (fun _ => ?_) (fun h => by omega)
    cases b
    · exact And.intro rfl (h0 rfl)
    · exact And.intro rfl (h1 rfl)
  | succ d ih =>
    intro j b n hj hn h1 h0
    obtain ⟨n, rfl⟩ := gx_S n (by omega)
    refine pk_le 4 j (fun h => by omega) (fun _ => ?_)
    cases b
    · refine br_t rfl (gx_isLinkB (p := 1) (by omega) (by omega) (fun z => ?_) (fun z => ?_))
      · rw [hlk, gb_mk_l _ (by omega)] at z
        refine nm_r (nI_1 j) (ih (j + 1) false n (by omega) (by omega) (fun h => h1 ?_) (fun h => h0 ?_))
        · show (false || ((lk j && kd j) || _)) = true
          rw [z]; simpa using h
        · show (false || ((lk j && kd j) || _)) = false
          rw [z]; simpa using h
      · rw [hlk, gb_mk_l _ (by omega)] at z
        rw [show (4 : Int32) + nI j = nI (1 * 4 + j) from nI_add 4 j]
        refine And.intro (vp_in_nI (by omega) (by omega)) ?_
        rw [nI_clamp (n := 1 * 4 + j) (by omega), hkd j (by omega) z]
        refine br_c (fun y => ?_) (fun y => ?_)
        · have hk : kd j = true := by
            cases h : kd j
            · rw [h] at y; exact absurd y (by decide)
            · rfl
          refine nm_r (nI_1 j) (ih (j + 1) true n (by omega) (by omega) (fun _ => h1 ?_) (fun h => by simp at h))
          show (false || ((lk j && kd j) || _)) = true
          rw [z, hk]; simp
        · have hk : kd j = false := by
            cases h : kd j
            · rfl
            · rw [h] at y; exact absurd rfl y
          refine nm_r (nI_1 j) (ih (j + 1) false n (by omega) (by omega) (fun h => h1 ?_) (fun h => h0 ?_))
          · show (false || ((lk j && kd j) || _)) = true
            rw [z, hk]; simpa using h
          · show (false || ((lk j && kd j) || _)) = false
            rw [z, hk]; simpa using h
    · exact br_f (by decide) (nm_r (nI_1 j) (ih (j + 1) true n (by omega) (by omega) (fun _ => h1 rfl) (fun h => by simp at h)))
theorem gx_hasWays {post : Int32 → Prop} (hlk : a_linkSet 1 = gb_mk lk) (hkd : ∀ j, j < 4 → lk j = true → a_linkKind (1 * 4 + j) = if kd j then 1 else 0) (h1 : (∃ j, j < 4 ∧ lk j = true ∧ kd j = true) → post 1) (h0 : (∀ j, j < 4 → lk j = true → kd j = false) → post 0) : wpX_hasWays post (f_nodeSet, f_edgeSet, f_sortedCount, f_keptCount, f_which, f_inOrder, f_total, f_depth, f_begun, f_assigned, f_usedNodes, f_edgeLinks, a_labelOf, a_valueOf, a_fromOf, a_toOf, a_typeOf, a_weightOf, a_firstPage, a_pageUsed, a_pageNext, a_pageSize, a_pageEdge, a_labelled, a_sorted, a_modeOf, a_spotSet, a_spotLabels, a_spotLeast, a_spotGreatest, a_linkSet, a_linkFrom, a_linkTo, a_linkTypes, a_linkKind, a_outgoing, a_incoming, a_allowed, a_candidates, a_behind, a_before, a_nodeFor, a_levelSpot, a_levelLeft, a_edgeLink, a_choiceLeft, a_choice, a_pickedEdge) := by
  refine Exists.intro 5 (gx_hasWays4 hlk hkd 4 0 false 5 rfl (by omega) (fun h => h1 ?_) (fun h => h0 (fun j hj hl => ?_)))
  · rw [Bool.false_or, gb_an_iff] at h
    obtain ⟨j, _, j2, j3⟩ := h
    rw [Bool.and_eq_true] at j3
    exact ⟨j, by omega, j3.1, j3.2⟩
  · cases hk : kd j
    · rfl
    · rw [Bool.false_or, ← Bool.not_eq_true, gb_an_iff] at h
      exact absurd ⟨j, by omega, by omega, by rw [hl, hk]; rfl⟩ h
end
/-! the telescope: al t is 'without e at the links below t', al' t 'at t only e' -/
def gp_aw (al : Nat → Nat → Bool) (e0 t : Nat) (j e : Nat) : Bool := al j e && (!(decide (j < t)) || decide (e ≠ e0))
def gp_ao (al : Nat → Nat → Bool) (e0 t : Nat) (j e : Nat) : Bool := al j e && (if j < t then decide (e ≠ e0) else if j = t then decide (e = e0) else true)
def gp_D (c : Nat → Nat) (lk : Nat → Bool) : Nat → Nat
  | 0 => 0
  | t + 1 => gp_D c lk t + (if lk t then c t else 0)
section
variable {mode : Nat} {sp lk kd : Nat → Bool} {la lb : Nat → Nat} {cd : Nat → Nat → Bool} {fr to : Nat → Nat}
/-- without links of kind 1 the nodes' part of the matches doesn't depend on the edges -/
theorem gp_M_eq (hk : ∀ j, j < 4 → lk j = true → kd j = false) (al : Nat → Nat → Bool) : gp_M mode sp lk kd la lb cd al fr to = gp_fs (fun a b : Nat => a + b) 0 (fun g => (gp_Y (gp_ef al fr to (decide (2 ≤ mode)) la lb) (gp_lp lk kd) g).length) (gp_Y (gp_ft cd (decide (mode % 2 = 1)) (fun _ => false) la lb (fun _ _ _ => true)) (gp_us sp (fun _ => 50)) (fun _ => 50)) := by
  unfold gp_M
  rw [gp_ML_eq0, gp_len_fm]
  congr 1
  apply gp_Y_c
  intro p _ g n _
  unfold gp_ft
  congr 1
  apply gb_al_c
  intro j _ hj
  have h1 : (lk j && kd j) = false := by
    cases hl : lk j
    · rfl
    · rw [hk j (by omega) hl]; rfl
  unfold gp_lo
  dsimp only
  rw [h1]; simp
theorem gp_tele (hk : ∀ j, j < 4 → lk j = true → kd j = false) (al : Nat → Nat → Bool) (e0 t : Nat) (ht : t < 4) : gp_M mode sp lk kd la lb cd (gp_aw al e0 t) fr to = gp_M mode sp lk kd la lb cd (gp_aw al e0 (t + 1)) fr to + (if lk t then gp_M mode sp lk kd la lb cd (gp_ao al e0 t) fr to else 0) := by
  have h4 : ∀ p, p ∈ gp_lp lk kd → 4 ≤ p := fun p hp => by obtain ⟨j, rfl, _⟩ := gp_lp_m.mp hp; omega
  rw [gp_M_eq hk, gp_M_eq hk, gp_M_eq hk]
  cases hl : lk t
  · simp only [Bool.false_eq_true, if_false, Nat.add_zero]
    apply gp_fs_c
    intro g _
    rw [gp_ef_al (al := gp_aw al e0 t) (al' := gp_aw al e0 (t + 1)) _ g (fun p hp e _ => ?_) h4]
    obtain ⟨j, rfl, hj, hlj, _⟩ := gp_lp_m.mp hp
    have hne : j ≠ t := fun z => by rw [z, hl] at hlj; cases hlj
    rw [show 4 + j - 4 = j from by omega]
    unfold gp_aw
    by_cases z : j < t
    · rw [decide_eq_true z, decide_eq_true (show j < t + 1 by omega)]
    · rw [decide_eq_false z, decide_eq_false (show ¬ j < t + 1 by omega)]
  · simp only [if_true]
    refine Eq.trans ?_ (gp_fs_op gp_cmN _ _ _)
    apply gp_fs_c
    intro g _
    refine gp_add (t := t) (fun j e hj => ?_) (fun j e hj => ?_) (fun e => ?_) (fun e => ?_) _ g (gp_lp_nd _ _) h4 (gp_lp_m.mpr ⟨t, rfl, ht, hl, hk t ht hl⟩)
    · unfold gp_aw
      by_cases z : j < t
      · rw [decide_eq_true z, decide_eq_true (show j < t + 1 by omega)]
      · rw [decide_eq_false z, decide_eq_false (show ¬ j < t + 1 by omega)]
    · unfold gp_aw gp_ao
      by_cases z : j < t
      · rw [if_pos z, decide_eq_true z]; simp
      · rw [if_neg z, if_neg hj, decide_eq_false z]; simp
    · unfold gp_aw gp_ao
      rw [if_neg (by omega), if_pos rfl, decide_eq_false (show ¬ t < t by omega), decide_eq_true (show t < t + 1 by omega)]
      by_cases z : e = e0
      · simp [z]
      · simp [z]
    · unfold gp_aw gp_ao
      rw [if_neg (by omega), if_pos rfl, decide_eq_true (show t < t + 1 by omega)]
      by_cases z : e = e0
      · simp [z]
      · simp [z]
theorem gp_tele4 (hk : ∀ j, j < 4 → lk j = true → kd j = false) (al : Nat → Nat → Bool) (e0 : Nat) : ∀ t, t ≤ 4 → gp_M mode sp lk kd la lb cd (gp_aw al e0 0) fr to = gp_M mode sp lk kd la lb cd (gp_aw al e0 t) fr to + gp_D (fun t => gp_M mode sp lk kd la lb cd (gp_ao al e0 t) fr to) lk t
  | 0, _ => rfl
  | t + 1, h => by
    rw [gp_tele4 hk al e0 t (by omega), gp_tele hk al e0 t (by omega)]
    show _ = _ + (gp_D _ lk t + (if lk t then gp_M mode sp lk kd la lb cd (gp_ao al e0 t) fr to else 0))
    omega
theorem gp_aw0 (al : Nat → Nat → Bool) (e0 : Nat) : gp_aw al e0 0 = al := by
  funext j e
  unfold gp_aw
  simp
end
end
section
/-! followEdge -/
section
variable {f_nodeSet f_edgeSet f_sortedCount f_keptCount f_which f_inOrder f_total f_depth f_begun f_assigned f_usedNodes f_edgeLinks : Int32} {a_labelOf a_valueOf a_fromOf a_toOf a_typeOf a_weightOf a_firstPage a_pageUsed a_pageNext a_pageSize a_pageEdge a_labelled a_sorted a_modeOf a_spotSet a_spotLabels a_spotLeast a_spotGreatest a_linkSet a_linkFrom a_linkTo a_linkTypes a_linkKind a_outgoing a_incoming a_allowed a_candidates a_behind a_before a_nodeFor a_levelSpot a_levelLeft a_edgeLink a_choiceLeft a_choice a_pickedEdge : Nat → Int32}
variable {mode sc q : Nat} {sp lk kd : Nat → Bool} {la lb so : Nat → Nat} {tys labs lst grt : Nat → Int32} {th eth : Nat → Bool} {lab wh fr to : Nat → Nat} {al : Nat → Nat → Bool}
theorem gx_fe36 {post : SX → Prop} {J14 : Int32 → Int32 → Int32 → Int32 → Int32 → Int32 → Int32 → Int32 → Int32 → Int32 → Int32 → Int32 → Int32 →  (Nat → Int32) → (Nat → Int32) → (Nat → Int32) → (Nat → Int32) → (Nat → Int32) → (Nat → Int32) → (Nat → Int32) → (Nat → Int32) → (Nat → Int32) → (Nat → Int32) → (Nat → Int32) → (Nat → Int32) → (Nat → Int32) → (Nat → Int32) → (Nat → Int32) → (Nat → Int32) → (Nat → Int32) → (Nat → Int32) → (Nat → Int32) → (Nat → Int32) → (Nat → Int32) → (Nat → Int32) → (Nat → Int32) → (Nat → Int32) → (Nat → Int32) → (Nat → Int32) → (Nat → Int32) → (Nat → Int32) → (Nat → Int32) → (Nat → Int32) → (Nat → Int32) → (Nat → Int32) → (Nat → Int32) → (Nat → Int32) → (Nat → Int32) → (Nat → Int32) →  Prop} {x2 : Int32} {e0 t : Nat} (he0 : e0 < 20) (ht : t < 4) (hP0 : gx_P0 mode sp lk la lb) (hPT : gx_PT 1 mode sp lk kd la lb tys labs lst grt a_modeOf a_spotSet a_spotLabels a_spotLeast a_spotGreatest a_linkSet a_linkFrom a_linkTo a_linkTypes a_linkKind)
    (hns : f_nodeSet = gb_mk th) (hth : ∀ n, th n = true → n < 12) (hf : gx_Nm a_fromOf fr 20 12) (hto : gx_Nm a_toOf to 20 12) (hal2 : ∀ j e, al j e = true → e < 20 ∧ eth e = true)
    (ho : gx_Out eth fr a_outgoing) (hi : gx_Out eth to a_incoming) (hq : q = (gx_ll 1 a_linkSet a_linkKind 4).length) (helk : ∀ (k x : Nat), (gx_ll 1 a_linkSet a_linkKind 4)[k]? = some x → a_edgeLink k = nI x) (hcand : ∀ i, i < 4 → a_candidates i = gb_mk (gp_cd sp th labs lst grt a_valueOf lab i))
    (hJ : ∀ (q0 q1 q2 q3 q4 q5 q6 q7 : Int32) (q8 q9 q10 q11 q12 q13 q14 q15 q16 q17 q18 q19 : Nat → Int32), J14 (nI (t + 1)) f_nodeSet f_edgeSet f_sortedCount (f_keptCount + x2 * nI (gp_M mode sp lk kd la lb (gp_cd sp th labs lst grt a_valueOf lab) (gp_ao al e0 t) fr to)) q0 q1 q2 q3 q4 q5 q6 q7 a_labelOf a_valueOf a_fromOf a_toOf a_typeOf a_weightOf a_firstPage a_pageUsed a_pageNext a_pageSize a_pageEdge a_labelled a_sorted a_modeOf a_spotSet a_spotLabels a_spotLeast a_spotGreatest a_linkSet a_linkFrom a_linkTo a_linkTypes a_linkKind q8 q9 q10 q11 q12 q13 q14 q15 q16 q17 q18 q19 a_pickedEdge) :
    ∀ (d i n : Nat) (alw : Nat → Int32), i + d = t → d < n → (∀ j, j < 4 → alw j = gb_mk (gp_aw al e0 i j)) → wX_followEdge_36 post J14 (nI e0) x2 (nI t) f_nodeSet f_edgeSet f_sortedCount f_keptCount (nI 1) 0 f_total f_depth f_begun f_assigned f_usedNodes (nI q) n (nI i) a_labelOf a_valueOf a_fromOf a_toOf a_typeOf a_weightOf a_firstPage a_pageUsed a_pageNext a_pageSize a_pageEdge a_labelled a_sorted a_modeOf a_spotSet a_spotLabels a_spotLeast a_spotGreatest a_linkSet a_linkFrom a_linkTo a_linkTypes a_linkKind a_outgoing a_incoming alw a_candidates a_behind a_before a_nodeFor a_levelSpot a_levelLeft a_edgeLink a_choiceLeft a_choice a_pickedEdge := by
  intro d
  induction d with
  | zero =>
    intro i n alw hid hn halw
    obtain ⟨n, rfl⟩ := gx_S n (by omega)
    have : i = t := by omega
    subst this
    have hin : vp_in (nI i) 4 := vp_in_nI ht (by omega)
    refine pk_le i i (fun _ => And.intro hin (And.intro hin ?_)) (fun h => by omega)
    rw [nI_clamp (n := i) (by omega)]
    have hal' : ∀ j, j < 4 → upd alw i (alw i &&& ((1 : Int32) <<< (nI e0 &&& 31))) j = gb_mk (gp_ao al e0 i j) := by
      intro j hj
      by_cases z : j = i
      · subst z
        rw [pk_us, halw j hj]
        apply gb_mk_of
        intro m hm
        rw [b_and, gb_mk_l _ hm, gb_one (by omega)]
        unfold gp_aw gp_ao
        rw [decide_eq_false (show ¬ j < j by omega), if_neg (show ¬ j < j by omega), if_pos rfl]; simp
      · rw [pk_un z, halw j hj]
        apply gb_mk_e
        intro m _
        unfold gp_aw gp_ao
        by_cases y : j < i
        · rw [decide_eq_true y, if_pos y]; simp
        · rw [decide_eq_false y, if_neg y, if_neg z]; simp
    refine nm_e (gx_spread (w := 1) (by omega) ho hf hto (fun bh bf hb => ?_))
    refine gx_cntR (w := 1) (al := gp_ao al e0 i) (by omega) hP0 hPT hns hth (fun e he => (hf e he).2) (fun j e h => hal2 j e (by unfold gp_ao at h; rw [Bool.and_eq_true] at h; exact h.1)) ⟨ho, hi, hal', hq, helk, hcand⟩ hb (fun q0 q1 q2 q3 q4 q5 q6 q7 q8 q9 q10 q11 q12 q13 q14 q15 q16 q17 q18 q19 => nm_e (nm_r (nI_1 i) (hJ q0 q1 q2 q3 q4 q5 q6 q7 q8 q9 q10 q11 q12 q13 q14 q15 q16 q17 q18 q19)))
  | succ d ih =>
    intro i n alw hid hn halw
    obtain ⟨n, rfl⟩ := gx_S n (by omega)
    have hin : vp_in (nI i) 4 := vp_in_nI (by omega) (by omega)
    refine pk_le t i (fun h => by omega) (fun _ => And.intro hin (And.intro hin ?_))
    rw [nI_clamp (n := i) (by omega)]
    refine nm_e (nm_r (nI_1 i) (ih (i + 1) n _ (by omega) (by omega) (fun j hj => ?_)))
    by_cases z : j = i
    · subst z
      rw [pk_us, halw j hj]
      apply gb_mk_of
      intro m hm
      rw [b_and, gb_mk_l _ hm, gb_not hm, gb_one (by omega)]
      unfold gp_aw
      rw [decide_eq_false (show ¬ j < j by omega), decide_eq_true (show j < j + 1 by omega)]
      by_cases y : m = e0 <;> simp [y]
    · rw [pk_un z, halw j hj]
      apply gb_mk_e
      intro m _
      unfold gp_aw
      by_cases y : j < i
      · rw [decide_eq_true y, decide_eq_true (show j < i + 1 by omega)]
      · rw [decide_eq_false y, decide_eq_false (show ¬ j < i + 1 by omega)]
theorem gx_fe14 {post : SX → Prop} {x2 k0 : Int32} {e0 : Nat} (he0 : e0 < 20) (hP0 : gx_P0 mode sp lk la lb) (hPT : gx_PT 1 mode sp lk kd la lb tys labs lst grt a_modeOf a_spotSet a_spotLabels a_spotLeast a_spotGreatest a_linkSet a_linkFrom a_linkTo a_linkTypes a_linkKind)
    (hG : gx_Gr th eth lab wh fr to sc so f_nodeSet f_edgeSet a_labelOf a_valueOf a_fromOf a_toOf a_typeOf a_weightOf a_firstPage a_pageUsed a_pageNext a_pageSize a_pageEdge a_labelled a_sorted)
    (hp : ∀ (q0 q1 q2 q3 q4 q5 q6 q7 : Int32) (q8 q9 q10 q11 q12 q13 q14 q15 q16 q17 q18 q19 : Nat → Int32), post (f_nodeSet, f_edgeSet, nI sc, k0 + x2 * nI (gp_D (fun t => gp_M mode sp lk kd la lb (gp_cd sp th labs lst grt a_valueOf lab) (gp_ao (gp_al lk eth tys wh) e0 t) fr to) lk 4), q0, q1, q2, q3, q4, q5, q6, q7, a_labelOf, a_valueOf, a_fromOf, a_toOf, a_typeOf, a_weightOf, a_firstPage, a_pageUsed, a_pageNext, a_pageSize, a_pageEdge, a_labelled, a_sorted, a_modeOf, a_spotSet, a_spotLabels, a_spotLeast, a_spotGreatest, a_linkSet, a_linkFrom, a_linkTo, a_linkTypes, a_linkKind, q8, q9, q10, q11, q12, q13, q14, q15, q16, q17, q18, q19, a_pickedEdge)) :
    ∀ (d t n : Nat) (kk : Int32) (q0 q1 q2 q3 q4 q5 q6 q7 : Int32) (q8 q9 q10 q11 q12 q13 q14 q15 q16 q17 q18 q19 : Nat → Int32), t + d = 4 → d < n → kk = k0 + x2 * nI (gp_D (fun t => gp_M mode sp lk kd la lb (gp_cd sp th labs lst grt a_valueOf lab) (gp_ao (gp_al lk eth tys wh) e0 t) fr to) lk t) → wX_followEdge_14 post (nI e0) x2 n (nI t) f_nodeSet f_edgeSet (nI sc) kk q0 q1 q2 q3 q4 q5 q6 q7 a_labelOf a_valueOf a_fromOf a_toOf a_typeOf a_weightOf a_firstPage a_pageUsed a_pageNext a_pageSize a_pageEdge a_labelled a_sorted a_modeOf a_spotSet a_spotLabels a_spotLeast a_spotGreatest a_linkSet a_linkFrom a_linkTo a_linkTypes a_linkKind q8 q9 q10 q11 q12 q13 q14 q15 q16 q17 q18 q19 a_pickedEdge := by
  intro d
  induction d with
  | zero =>
    intro t n kk q0 q1 q2 q3 q4 q5 q6 q7 q8 q9 q10 q11 q12 q13 q14 q15 q16 q17 q18 q19 htd hn hkk
    obtain ⟨n, rfl⟩ := gx_S n (by omega)
    have : t = 4 := by omega
    subst this
    subst hkk
    exact pk_le 4 4 (fun _ => hp q0 q1 q2 q3 q4 q5 q6 q7 q8 q9 q10 q11 q12 q13 q14 q15 q16 q17 q18 q19) (fun h => by omega)
  | succ d ih =>
    intro t n kk q0 q1 q2 q3 q4 q5 q6 q7 q8 q9 q10 q11 q12 q13 q14 q15 q16 q17 q18 q19 htd hn hkk
    obtain ⟨n, rfl⟩ := gx_S n (by omega)
    have hlk : bt (a_linkSet 1) t = lk t := by rw [hPT.2.2.1, gb_mk_l _ (by omega)]
    refine pk_le 4 t (fun h => by omega) (fun _ => gx_isLinkB (p := 1) (by omega) (by omega) (fun z => nm_r (nI_1 t) (ih (t + 1) n kk _ _ _ _ _ _ _ _ _ _ _ _ _ _ _ _ _ _ _ _ (by omega) (by omega) ?_)) (fun z => ?_))
    · rw [hlk] at z
      rw [hkk]
      show _ = k0 + x2 * nI (gp_D _ lk t + (if lk t then _ else 0))
      rw [z]; rfl
    · rw [hlk] at z
      refine gx_prepare (w := 1) (by omega) hP0 hPT hG (fun q out inc alw elk cand bh bf hR hb => ?_)
      obtain ⟨r1, r2, r3, r4, r5, r6⟩ := hR
      refine Exists.intro (t + 1) (gx_fe36 (e0 := e0) he0 (by omega) hP0 hPT hG.1 hG.2.1 hG.2.2.2.2.2.1 hG.2.2.2.2.2.2.1 gp_al_2 r1 r2 r4 r5 r6 (fun q0 q1 q2 q3 q4 q5 q6 q7 q8 q9 q10 q11 q12 q13 q14 q15 q16 q17 q18 q19 => ih (t + 1) n _ _ _ _ _ _ _ _ _ _ _ _ _ _ _ _ _ _ _ _ _ (by omega) (by omega) ?_) t 0 (t + 1) alw (by omega) (by omega) (fun j hj => by rw [gp_aw0]; exact r3 j hj))
      rw [hkk]
      show _ = k0 + x2 * nI (gp_D _ lk t + (if lk t then gp_M mode sp lk kd la lb (gp_cd sp th labs lst grt a_valueOf lab) (gp_ao (gp_al lk eth tys wh) e0 t) fr to else 0))
      rw [z, ← nI_add, Int32.mul_add, Int32.add_assoc]; rfl
theorem gx_followEdge {post : SX → Prop} {x2 : Int32} {e0 : Nat} (he0 : e0 < 20) (hP0 : gx_P0 mode sp lk la lb) (hPT : gx_PT 1 mode sp lk kd la lb tys labs lst grt a_modeOf a_spotSet a_spotLabels a_spotLeast a_spotGreatest a_linkSet a_linkFrom a_linkTo a_linkTypes a_linkKind)
    (hG : gx_Gr th eth lab wh fr to sc so f_nodeSet f_edgeSet a_labelOf a_valueOf a_fromOf a_toOf a_typeOf a_weightOf a_firstPage a_pageUsed a_pageNext a_pageSize a_pageEdge a_labelled a_sorted)
    (h1 : (∃ j, j < 4 ∧ lk j = true ∧ kd j = true) → ∀ (q0 q1 q2 q3 q4 q5 q6 q7 : Int32) (q8 q9 q10 q11 q12 q13 q14 q15 q16 q17 q18 q19 : Nat → Int32), post (f_nodeSet, f_edgeSet, nI sc, nI (gp_M mode sp lk kd la lb (gp_cd sp th labs lst grt a_valueOf lab) (gp_al lk eth tys wh) fr to), q0, q1, q2, q3, q4, q5, q6, q7, a_labelOf, a_valueOf, a_fromOf, a_toOf, a_typeOf, a_weightOf, a_firstPage, a_pageUsed, a_pageNext, a_pageSize, a_pageEdge, a_labelled, a_sorted, a_modeOf, a_spotSet, a_spotLabels, a_spotLeast, a_spotGreatest, a_linkSet, a_linkFrom, a_linkTo, a_linkTypes, a_linkKind, q8, q9, q10, q11, q12, q13, q14, q15, q16, q17, q18, q19, a_pickedEdge))
    (h0 : (∀ j, j < 4 → lk j = true → kd j = false) → ∀ (q0 q1 q2 q3 q4 q5 q6 q7 : Int32) (q8 q9 q10 q11 q12 q13 q14 q15 q16 q17 q18 q19 : Nat → Int32), post (f_nodeSet, f_edgeSet, nI sc, f_keptCount + x2 * nI (gp_D (fun t => gp_M mode sp lk kd la lb (gp_cd sp th labs lst grt a_valueOf lab) (gp_ao (gp_al lk eth tys wh) e0 t) fr to) lk 4), q0, q1, q2, q3, q4, q5, q6, q7, a_labelOf, a_valueOf, a_fromOf, a_toOf, a_typeOf, a_weightOf, a_firstPage, a_pageUsed, a_pageNext, a_pageSize, a_pageEdge, a_labelled, a_sorted, a_modeOf, a_spotSet, a_spotLabels, a_spotLeast, a_spotGreatest, a_linkSet, a_linkFrom, a_linkTo, a_linkTypes, a_linkKind, q8, q9, q10, q11, q12, q13, q14, q15, q16, q17, q18, q19, a_pickedEdge)) :
    wpX_followEdge post (f_nodeSet, f_edgeSet, nI sc, f_keptCount, f_which, f_inOrder, f_total, f_depth, f_begun, f_assigned, f_usedNodes, f_edgeLinks, a_labelOf, a_valueOf, a_fromOf, a_toOf, a_typeOf, a_weightOf, a_firstPage, a_pageUsed, a_pageNext, a_pageSize, a_pageEdge, a_labelled, a_sorted, a_modeOf, a_spotSet, a_spotLabels, a_spotLeast, a_spotGreatest, a_linkSet, a_linkFrom, a_linkTo, a_linkTypes, a_linkKind, a_outgoing, a_incoming, a_allowed, a_candidates, a_behind, a_before, a_nodeFor, a_levelSpot, a_levelLeft, a_edgeLink, a_choiceLeft, a_choice, a_pickedEdge) (nI e0) x2 := by
  unfold wpX_followEdge
  refine gx_hasWays (lk := lk) (kd := kd) hPT.2.2.1 (fun j hj hl => (hPT.2.2.2.2 j hj hl).2.2.2) (fun hex => br_f (by decide) (gx_recount hP0 hPT hG (fun q0 q1 q2 q3 q4 q5 q6 q7 q8 q9 q10 q11 q12 q13 q14 q15 q16 q17 q18 q19 => h1 hex q0 q1 q2 q3 q4 q5 q6 q7 q8 q9 q10 q11 q12 q13 q14 q15 q16 q17 q18 q19))) (fun hno => br_t rfl (Exists.intro 5 ?_))
  refine gx_fe14 (k0 := f_keptCount) he0 hP0 hPT hG (fun q0 q1 q2 q3 q4 q5 q6 q7 q8 q9 q10 q11 q12 q13 q14 q15 q16 q17 q18 q19 => h0 hno q0 q1 q2 q3 q4 q5 q6 q7 q8 q9 q10 q11 q12 q13 q14 q15 q16 q17 q18 q19) 4 0 5 _ _ _ _ _ _ _ _ _ _ _ _ _ _ _ _ _ _ _ _ _ rfl (by omega) ?_
  show f_keptCount = f_keptCount + x2 * nI 0
  rw [nI_0, Int32.mul_zero, Int32.add_zero]
end
end
section
/-! the relation -/
/-- the two graphs are one -/
def gr_G (th eth : Nat → Bool) (lab wh fr to : Nat → Nat) (sc : Nat) (so : Nat → Nat) (f_nodeSet f_edgeSet f_sortedCount : Int32) (a_labelOf a_valueOf a_fromOf a_toOf a_typeOf a_weightOf a_firstPage a_pageUsed a_pageNext a_pageSize a_pageEdge a_labelled a_sorted a_nodeThere a_labels a_values a_edgeThere a_froms a_tos a_whats : Nat → Int32) : Prop :=
  f_sortedCount = nI sc ∧ gx_Gr th eth lab wh fr to sc so f_nodeSet f_edgeSet a_labelOf a_valueOf a_fromOf a_toOf a_typeOf a_weightOf a_firstPage a_pageUsed a_pageNext a_pageSize a_pageEdge a_labelled a_sorted ∧
  a_labelOf = a_labels ∧ a_valueOf = a_values ∧ a_fromOf = a_froms ∧ a_toOf = a_tos ∧ gy_Nz a_nodeThere th 12 ∧ gy_Nz a_edgeThere eth 20 ∧ gx_Nm a_whats wh 20 63
/-- the two patterns of one number are one -/
def gr_P (w mode : Nat) (sp lk kd : Nat → Bool) (la lb : Nat → Nat) (tys labs lst grt : Nat → Int32) (mo ss sb sl sg ls lf lt lty lkd pat : Nat → Int32) : Prop :=
  gx_P0 mode sp lk la lb ∧ gx_PT w mode sp lk kd la lb tys labs lst grt mo ss sb sl sg ls lf lt lty lkd ∧ gy_PT (33 * w) mode sp lk kd la lb tys labs lst grt pat ∧ (∀ i, i < 4 → sp i = true → ∃ b, b < 16 ∧ labs i = nI b) ∧ (∀ j, j < 4 → lk j = true → ∃ b, b < 8 ∧ tys j = nI b)
def gr_R (f_nodeSet f_edgeSet f_sortedCount f_keptCount : Int32) (a_labelOf a_valueOf a_fromOf a_toOf a_typeOf a_weightOf a_firstPage a_pageUsed a_pageNext a_pageSize a_pageEdge a_labelled a_sorted a_modeOf a_spotSet a_spotLabels a_spotLeast a_spotGreatest a_linkSet a_linkFrom a_linkTo a_linkTypes a_linkKind a_nodeThere a_labels a_values a_edgeThere a_froms a_tos a_whats a_patterns : Nat → Int32) : Prop :=
  ∃ (th eth : Nat → Bool) (lab wh fr to : Nat → Nat) (sc : Nat) (so : Nat → Nat), gr_G th eth lab wh fr to sc so f_nodeSet f_edgeSet f_sortedCount a_labelOf a_valueOf a_fromOf a_toOf a_typeOf a_weightOf a_firstPage a_pageUsed a_pageNext a_pageSize a_pageEdge a_labelled a_sorted a_nodeThere a_labels a_values a_edgeThere a_froms a_tos a_whats ∧
  (∃ (mode : Nat) (sp lk kd : Nat → Bool) (la lb : Nat → Nat) (tys labs lst grt : Nat → Int32), gr_P 0 mode sp lk kd la lb tys labs lst grt a_modeOf a_spotSet a_spotLabels a_spotLeast a_spotGreatest a_linkSet a_linkFrom a_linkTo a_linkTypes a_linkKind a_patterns) ∧
  (∃ (mode : Nat) (sp lk kd : Nat → Bool) (la lb : Nat → Nat) (tys labs lst grt : Nat → Int32), gr_P 1 mode sp lk kd la lb tys labs lst grt a_modeOf a_spotSet a_spotLabels a_spotLeast a_spotGreatest a_linkSet a_linkFrom a_linkTo a_linkTypes a_linkKind a_patterns ∧ f_keptCount = nI (gp_M mode sp lk kd la lb (gp_cd sp th labs lst grt a_valueOf lab) (gp_al lk eth tys wh) fr to))
/-- the relation at the head of a turn -/
def i_Rel (k : Nat) (u : SX) (v : SY) : Prop := gr_R u.1 u.2.1 u.2.2.1 u.2.2.2.1 u.2.2.2.2.2.2.2.2.2.2.2.2.1 u.2.2.2.2.2.2.2.2.2.2.2.2.2.1 u.2.2.2.2.2.2.2.2.2.2.2.2.2.2.1 u.2.2.2.2.2.2.2.2.2.2.2.2.2.2.2.1 u.2.2.2.2.2.2.2.2.2.2.2.2.2.2.2.2.1 u.2.2.2.2.2.2.2.2.2.2.2.2.2.2.2.2.2.1 u.2.2.2.2.2.2.2.2.2.2.2.2.2.2.2.2.2.2.1 u.2.2.2.2.2.2.2.2.2.2.2.2.2.2.2.2.2.2.2.1 u.2.2.2.2.2.2.2.2.2.2.2.2.2.2.2.2.2.2.2.2.1 u.2.2.2.2.2.2.2.2.2.2.2.2.2.2.2.2.2.2.2.2.2.1 u.2.2.2.2.2.2.2.2.2.2.2.2.2.2.2.2.2.2.2.2.2.2.1 u.2.2.2.2.2.2.2.2.2.2.2.2.2.2.2.2.2.2.2.2.2.2.2.1 u.2.2.2.2.2.2.2.2.2.2.2.2.2.2.2.2.2.2.2.2.2.2.2.2.1 u.2.2.2.2.2.2.2.2.2.2.2.2.2.2.2.2.2.2.2.2.2.2.2.2.2.1 u.2.2.2.2.2.2.2.2.2.2.2.2.2.2.2.2.2.2.2.2.2.2.2.2.2.2.1 u.2.2.2.2.2.2.2.2.2.2.2.2.2.2.2.2.2.2.2.2.2.2.2.2.2.2.2.1 u.2.2.2.2.2.2.2.2.2.2.2.2.2.2.2.2.2.2.2.2.2.2.2.2.2.2.2.2.1 u.2.2.2.2.2.2.2.2.2.2.2.2.2.2.2.2.2.2.2.2.2.2.2.2.2.2.2.2.2.1 u.2.2.2.2.2.2.2.2.2.2.2.2.2.2.2.2.2.2.2.2.2.2.2.2.2.2.2.2.2.2.1 u.2.2.2.2.2.2.2.2.2.2.2.2.2.2.2.2.2.2.2.2.2.2.2.2.2.2.2.2.2.2.2.1 u.2.2.2.2.2.2.2.2.2.2.2.2.2.2.2.2.2.2.2.2.2.2.2.2.2.2.2.2.2.2.2.2.1 u.2.2.2.2.2.2.2.2.2.2.2.2.2.2.2.2.2.2.2.2.2.2.2.2.2.2.2.2.2.2.2.2.2.1 u.2.2.2.2.2.2.2.2.2.2.2.2.2.2.2.2.2.2.2.2.2.2.2.2.2.2.2.2.2.2.2.2.2.2.1 v.2.2.1 v.2.2.2.1 v.2.2.2.2.1 v.2.2.2.2.2.1 v.2.2.2.2.2.2.1 v.2.2.2.2.2.2.2.1 v.2.2.2.2.2.2.2.2.1 v.2.2.2.2.2.2.2.2.2.1
theorem i_up {k : Nat} {u : SX} {v : SY} (h : i_Rel k u v) : i_Rel (k + 5) u v := h
theorem gr_el {k : Nat} {u : SX} {v : SY} {P : SX → SY → Prop} (I : i_Rel k u v) (h : ∀ f_nodeSet f_edgeSet f_sortedCount f_keptCount f_which f_inOrder f_total f_depth f_begun f_assigned f_usedNodes f_edgeLinks a_labelOf a_valueOf a_fromOf a_toOf a_typeOf a_weightOf a_firstPage a_pageUsed a_pageNext a_pageSize a_pageEdge a_labelled a_sorted a_modeOf a_spotSet a_spotLabels a_spotLeast a_spotGreatest a_linkSet a_linkFrom a_linkTo a_linkTypes a_linkKind a_outgoing a_incoming a_allowed a_candidates a_behind a_before a_nodeFor a_levelSpot a_levelLeft a_edgeLink a_choiceLeft a_choice a_pickedEdge f_base f_many a_nodeThere a_labels a_values a_edgeThere a_froms a_tos a_whats a_patterns a_parts a_chosen, gr_R f_nodeSet f_edgeSet f_sortedCount f_keptCount a_labelOf a_valueOf a_fromOf a_toOf a_typeOf a_weightOf a_firstPage a_pageUsed a_pageNext a_pageSize a_pageEdge a_labelled a_sorted a_modeOf a_spotSet a_spotLabels a_spotLeast a_spotGreatest a_linkSet a_linkFrom a_linkTo a_linkTypes a_linkKind a_nodeThere a_labels a_values a_edgeThere a_froms a_tos a_whats a_patterns → P (f_nodeSet, f_edgeSet, f_sortedCount, f_keptCount, f_which, f_inOrder, f_total, f_depth, f_begun, f_assigned, f_usedNodes, f_edgeLinks, a_labelOf, a_valueOf, a_fromOf, a_toOf, a_typeOf, a_weightOf, a_firstPage, a_pageUsed, a_pageNext, a_pageSize, a_pageEdge, a_labelled, a_sorted, a_modeOf, a_spotSet, a_spotLabels, a_spotLeast, a_spotGreatest, a_linkSet, a_linkFrom, a_linkTo, a_linkTypes, a_linkKind, a_outgoing, a_incoming, a_allowed, a_candidates, a_behind, a_before, a_nodeFor, a_levelSpot, a_levelLeft, a_edgeLink, a_choiceLeft, a_choice, a_pickedEdge) (f_base, f_many, a_nodeThere, a_labels, a_values, a_edgeThere, a_froms, a_tos, a_whats, a_patterns, a_parts, a_chosen)) : P u v := h u.1 u.2.1 u.2.2.1 u.2.2.2.1 u.2.2.2.2.1 u.2.2.2.2.2.1 u.2.2.2.2.2.2.1 u.2.2.2.2.2.2.2.1 u.2.2.2.2.2.2.2.2.1 u.2.2.2.2.2.2.2.2.2.1 u.2.2.2.2.2.2.2.2.2.2.1 u.2.2.2.2.2.2.2.2.2.2.2.1 u.2.2.2.2.2.2.2.2.2.2.2.2.1 u.2.2.2.2.2.2.2.2.2.2.2.2.2.1 u.2.2.2.2.2.2.2.2.2.2.2.2.2.2.1 u.2.2.2.2.2.2.2.2.2.2.2.2.2.2.2.1 u.2.2.2.2.2.2.2.2.2.2.2.2.2.2.2.2.1 u.2.2.2.2.2.2.2.2.2.2.2.2.2.2.2.2.2.1 u.2.2.2.2.2.2.2.2.2.2.2.2.2.2.2.2.2.2.1 u.2.2.2.2.2.2.2.2.2.2.2.2.2.2.2.2.2.2.2.1 u.2.2.2.2.2.2.2.2.2.2.2.2.2.2.2.2.2.2.2.2.1 u.2.2.2.2.2.2.2.2.2.2.2.2.2.2.2.2.2.2.2.2.2.1 u.2.2.2.2.2.2.2.2.2.2.2.2.2.2.2.2.2.2.2.2.2.2.1 u.2.2.2.2.2.2.2.2.2.2.2.2.2.2.2.2.2.2.2.2.2.2.2.1 u.2.2.2.2.2.2.2.2.2.2.2.2.2.2.2.2.2.2.2.2.2.2.2.2.1 u.2.2.2.2.2.2.2.2.2.2.2.2.2.2.2.2.2.2.2.2.2.2.2.2.2.1 u.2.2.2.2.2.2.2.2.2.2.2.2.2.2.2.2.2.2.2.2.2.2.2.2.2.2.1 u.2.2.2.2.2.2.2.2.2.2.2.2.2.2.2.2.2.2.2.2.2.2.2.2.2.2.2.1 u.2.2.2.2.2.2.2.2.2.2.2.2.2.2.2.2.2.2.2.2.2.2.2.2.2.2.2.2.1 u.2.2.2.2.2.2.2.2.2.2.2.2.2.2.2.2.2.2.2.2.2.2.2.2.2.2.2.2.2.1 u.2.2.2.2.2.2.2.2.2.2.2.2.2.2.2.2.2.2.2.2.2.2.2.2.2.2.2.2.2.2.1 u.2.2.2.2.2.2.2.2.2.2.2.2.2.2.2.2.2.2.2.2.2.2.2.2.2.2.2.2.2.2.2.1 u.2.2.2.2.2.2.2.2.2.2.2.2.2.2.2.2.2.2.2.2.2.2.2.2.2.2.2.2.2.2.2.2.1 u.2.2.2.2.2.2.2.2.2.2.2.2.2.2.2.2.2.2.2.2.2.2.2.2.2.2.2.2.2.2.2.2.2.1 u.2.2.2.2.2.2.2.2.2.2.2.2.2.2.2.2.2.2.2.2.2.2.2.2.2.2.2.2.2.2.2.2.2.2.1 u.2.2.2.2.2.2.2.2.2.2.2.2.2.2.2.2.2.2.2.2.2.2.2.2.2.2.2.2.2.2.2.2.2.2.2.1 u.2.2.2.2.2.2.2.2.2.2.2.2.2.2.2.2.2.2.2.2.2.2.2.2.2.2.2.2.2.2.2.2.2.2.2.2.1 u.2.2.2.2.2.2.2.2.2.2.2.2.2.2.2.2.2.2.2.2.2.2.2.2.2.2.2.2.2.2.2.2.2.2.2.2.2.1 u.2.2.2.2.2.2.2.2.2.2.2.2.2.2.2.2.2.2.2.2.2.2.2.2.2.2.2.2.2.2.2.2.2.2.2.2.2.2.1 u.2.2.2.2.2.2.2.2.2.2.2.2.2.2.2.2.2.2.2.2.2.2.2.2.2.2.2.2.2.2.2.2.2.2.2.2.2.2.2.1 u.2.2.2.2.2.2.2.2.2.2.2.2.2.2.2.2.2.2.2.2.2.2.2.2.2.2.2.2.2.2.2.2.2.2.2.2.2.2.2.2.1 u.2.2.2.2.2.2.2.2.2.2.2.2.2.2.2.2.2.2.2.2.2.2.2.2.2.2.2.2.2.2.2.2.2.2.2.2.2.2.2.2.2.1 u.2.2.2.2.2.2.2.2.2.2.2.2.2.2.2.2.2.2.2.2.2.2.2.2.2.2.2.2.2.2.2.2.2.2.2.2.2.2.2.2.2.2.1 u.2.2.2.2.2.2.2.2.2.2.2.2.2.2.2.2.2.2.2.2.2.2.2.2.2.2.2.2.2.2.2.2.2.2.2.2.2.2.2.2.2.2.2.1 u.2.2.2.2.2.2.2.2.2.2.2.2.2.2.2.2.2.2.2.2.2.2.2.2.2.2.2.2.2.2.2.2.2.2.2.2.2.2.2.2.2.2.2.2.1 u.2.2.2.2.2.2.2.2.2.2.2.2.2.2.2.2.2.2.2.2.2.2.2.2.2.2.2.2.2.2.2.2.2.2.2.2.2.2.2.2.2.2.2.2.2.1 u.2.2.2.2.2.2.2.2.2.2.2.2.2.2.2.2.2.2.2.2.2.2.2.2.2.2.2.2.2.2.2.2.2.2.2.2.2.2.2.2.2.2.2.2.2.2.1 u.2.2.2.2.2.2.2.2.2.2.2.2.2.2.2.2.2.2.2.2.2.2.2.2.2.2.2.2.2.2.2.2.2.2.2.2.2.2.2.2.2.2.2.2.2.2.2 v.1 v.2.1 v.2.2.1 v.2.2.2.1 v.2.2.2.2.1 v.2.2.2.2.2.1 v.2.2.2.2.2.2.1 v.2.2.2.2.2.2.2.1 v.2.2.2.2.2.2.2.2.1 v.2.2.2.2.2.2.2.2.2.1 v.2.2.2.2.2.2.2.2.2.2.1 v.2.2.2.2.2.2.2.2.2.2.2 I
/-- the reference's search stands on the same data -/
theorem gr_S0 {w mode sc : Nat} {sp lk kd : Nat → Bool} {la lb so : Nat → Nat} {tys labs lst grt : Nat → Int32} {th eth : Nat → Bool} {lab wh fr to : Nat → Nat} {f_nodeSet f_edgeSet f_sortedCount : Int32} {a_labelOf a_valueOf a_fromOf a_toOf a_typeOf a_weightOf a_firstPage a_pageUsed a_pageNext a_pageSize a_pageEdge a_labelled a_sorted a_nodeThere a_labels a_values a_edgeThere a_froms a_tos a_whats : Nat → Int32} {mo ss sb sl sg ls lf lt lty lkd pat : Nat → Int32} (hw : w < 2)
    (hG : gr_G th eth lab wh fr to sc so f_nodeSet f_edgeSet f_sortedCount a_labelOf a_valueOf a_fromOf a_toOf a_typeOf a_weightOf a_firstPage a_pageUsed a_pageNext a_pageSize a_pageEdge a_labelled a_sorted a_nodeThere a_labels a_values a_edgeThere a_froms a_tos a_whats) (hP : gr_P w mode sp lk kd la lb tys labs lst grt mo ss sb sl sg ls lf lt lty lkd pat) : gy_S0 (33 * w) mode sp lk kd la lb tys labs lst grt th eth lab wh fr to a_nodeThere a_labels a_edgeThere a_froms a_tos a_whats pat := by
  obtain ⟨g1, g2, rfl, rfl, rfl, rfl, g7, g8, g9⟩ := hG
  exact ⟨by omega, hP.2.2.1, g7, g2.2.2.2.2.1, g8, g9, g2.2.2.2.2.2.1, g2.2.2.2.2.2.2.1⟩
theorem i_vc_kept {k : Nat} {u : SX} {v : SY} (I : i_Rel k u v) (hk : k + 5 ≤ 2560) : wpX_kept (fun r => wpY_kept (fun r' v' => r' = r ∧ i_Rel (k + 5) u v') v) u := by
  refine gr_el (P := fun u v => wpX_kept (fun r => wpY_kept (fun r' v' => r' = r ∧ i_Rel (k + 5) u v') v) u) I ?_
  intro f_nodeSet f_edgeSet f_sortedCount f_keptCount f_which f_inOrder f_total f_depth f_begun f_assigned f_usedNodes f_edgeLinks a_labelOf a_valueOf a_fromOf a_toOf a_typeOf a_weightOf a_firstPage a_pageUsed a_pageNext a_pageSize a_pageEdge a_labelled a_sorted a_modeOf a_spotSet a_spotLabels a_spotLeast a_spotGreatest a_linkSet a_linkFrom a_linkTo a_linkTypes a_linkKind a_outgoing a_incoming a_allowed a_candidates a_behind a_before a_nodeFor a_levelSpot a_levelLeft a_edgeLink a_choiceLeft a_choice a_pickedEdge f_base f_many a_nodeThere a_labels a_values a_edgeThere a_froms a_tos a_whats a_patterns a_parts a_chosen R
  have R0 := R
  obtain ⟨th, eth, lab, wh, fr, to, sc, so, hG, hH, mode, sp, lk, kd, la, lb, tys, labs, lst, grt, hP, hK⟩ := R
  have hS := gr_S0 (w := 1) (by omega) hG hP
  obtain ⟨g1, g2, rfl, rfl, rfl, rfl, g7, g8, g9⟩ := hG
  unfold wpX_kept
  unfold wpY_kept
  refine gy_matches (w := 1) rfl hS (fun parts ch => ?_)
  exact ⟨hK.symm, R0⟩
theorem i_vc_count {k : Nat} {u : SX} {v : SY} (I : i_Rel k u v) (hk : k + 5 ≤ 2560) : wpX_count (fun r u' => wpY_count (fun r' v' => r' = r ∧ i_Rel (k + 5) u' v') v) u := by
  refine gr_el (P := fun u v => wpX_count (fun r u' => wpY_count (fun r' v' => r' = r ∧ i_Rel (k + 5) u' v') v) u) I ?_
  intro f_nodeSet f_edgeSet f_sortedCount f_keptCount f_which f_inOrder f_total f_depth f_begun f_assigned f_usedNodes f_edgeLinks a_labelOf a_valueOf a_fromOf a_toOf a_typeOf a_weightOf a_firstPage a_pageUsed a_pageNext a_pageSize a_pageEdge a_labelled a_sorted a_modeOf a_spotSet a_spotLabels a_spotLeast a_spotGreatest a_linkSet a_linkFrom a_linkTo a_linkTypes a_linkKind a_outgoing a_incoming a_allowed a_candidates a_behind a_before a_nodeFor a_levelSpot a_levelLeft a_edgeLink a_choiceLeft a_choice a_pickedEdge f_base f_many a_nodeThere a_labels a_values a_edgeThere a_froms a_tos a_whats a_patterns a_parts a_chosen R
  have R0 := R
  obtain ⟨th, eth, lab, wh, fr, to, sc, so, hG, ⟨mode, sp, lk, kd, la, lb, tys, labs, lst, grt, hP⟩, hH⟩ := R
  have hS := gr_S0 (w := 0) (by omega) hG hP
  obtain ⟨rfl, g2, rfl, rfl, rfl, rfl, g7, g8, g9⟩ := hG
  refine gx_count hP.1 hP.2.1 g2 (fun q0 q1 q2 q3 q4 q5 q6 q7 q8 q9 q10 q11 q12 q13 q14 q15 q16 q17 q18 q19 => ?_)
  unfold wpY_count
  refine gy_matches (w := 0) rfl hS (fun parts ch => ?_)
  exact ⟨rfl, R0⟩
end
section
/-! init, nodes, degree, reach -/
section
variable {f_nodeSet f_edgeSet f_sortedCount f_keptCount f_which f_inOrder f_total f_depth f_begun f_assigned f_usedNodes f_edgeLinks : Int32} {a_labelOf a_valueOf a_fromOf a_toOf a_typeOf a_weightOf a_firstPage a_pageUsed a_pageNext a_pageSize a_pageEdge a_labelled a_sorted a_modeOf a_spotSet a_spotLabels a_spotLeast a_spotGreatest a_linkSet a_linkFrom a_linkTo a_linkTypes a_linkKind a_outgoing a_incoming a_allowed a_candidates a_behind a_before a_nodeFor a_levelSpot a_levelLeft a_edgeLink a_choiceLeft a_choice a_pickedEdge : Nat → Int32}
theorem gx_init287 {post : SX → Prop} (fp0 : Nat → Int32) (hp : ∀ fp, (∀ l, l < 24 → fp l = -1) → post (f_nodeSet, f_edgeSet, f_sortedCount, f_keptCount, f_which, f_inOrder, f_total, f_depth, f_begun, f_assigned, f_usedNodes, f_edgeLinks, a_labelOf, a_valueOf, a_fromOf, a_toOf, a_typeOf, a_weightOf, fp, a_pageUsed, a_pageNext, a_pageSize, a_pageEdge, a_labelled, a_sorted, a_modeOf, a_spotSet, a_spotLabels, a_spotLeast, a_spotGreatest, a_linkSet, a_linkFrom, a_linkTo, a_linkTypes, a_linkKind, a_outgoing, a_incoming, a_allowed, a_candidates, a_behind, a_before, a_nodeFor, a_levelSpot, a_levelLeft, a_edgeLink, a_choiceLeft, a_choice, a_pickedEdge)) : ∀ (d l n : Nat) (fp : Nat → Int32), l + d = 24 → d < n → (∀ i, i < l → fp i = -1) → wX_init_287 post f_nodeSet f_edgeSet f_sortedCount f_keptCount f_which f_inOrder f_total f_depth f_begun f_assigned f_usedNodes f_edgeLinks n (nI l) a_labelOf a_valueOf a_fromOf a_toOf a_typeOf a_weightOf fp a_pageUsed a_pageNext a_pageSize a_pageEdge a_labelled a_sorted a_modeOf a_spotSet a_spotLabels a_spotLeast a_spotGreatest a_linkSet a_linkFrom a_linkTo a_linkTypes a_linkKind a_outgoing a_incoming a_allowed a_candidates a_behind a_before a_nodeFor a_levelSpot a_levelLeft a_edgeLink a_choiceLeft a_choice a_pickedEdge := by
  intro d
  induction d with
  | zero =>
    intro l n fp hl hn h
    obtain ⟨n, rfl⟩ := gx_S n (by omega)
    exact pk_le 24 l (fun _ => hp fp (fun i hi => h i (by omega))) (fun h => by omega)
  | succ d ih =>
    intro l n fp hl hn h
    obtain ⟨n, rfl⟩ := gx_S n (by omega)
    refine pk_le 24 l (fun h => by omega) (fun _ => And.intro (vp_in_nI (by omega) (by omega)) ?_)
    rw [nI_clamp (n := l) (by omega), gx_vm1]
    refine nm_e (nm_r (nI_1 l) (ih (l + 1) n _ (by omega) (by omega) (fun i hi => ?_)))
    by_cases z : i = l
    · rw [z, pk_us]
    · rw [pk_un z]; exact h i (by omega)
end
theorem gr_P_init (w : Nat) : gr_P w 0 (fun _ => false) (fun _ => false) (fun _ => false) (fun _ => 0) (fun _ => 0) (fun _ => 0) (fun _ => 0) (fun _ => 0) (fun _ => 0) (fun _ => 0) (fun _ => 0) (fun _ => 0) (fun _ => 0) (fun _ => 0) (fun _ => 0) (fun _ => 0) (fun _ => 0) (fun _ => 0) (fun _ => 0) (fun _ => 0) :=
  ⟨⟨by omega, fun i _ => ⟨rfl, rfl⟩, fun j _ h => by cases h⟩, ⟨rfl, gb_mk_0.symm, gb_mk_0.symm, fun i _ h => by (cases h), fun j _ h => by (cases h)⟩, ⟨by omega, rfl, fun i _ => rfl, fun i _ h => by (cases h), fun j _ => rfl, fun j _ h => by (cases h), fun i _ => ⟨rfl, rfl⟩⟩, fun i _ h => by (cases h), fun j _ h => by (cases h)⟩
theorem i_vc0 : wpX_init (fun u => wpY_init (fun v => i_Rel 0 u v)) := by
  refine Exists.intro 25 (gx_init287 (fun _ => 0) (fun fp hfp => ?_) 24 0 25 _ rfl (by omega) (fun i hi => by omega))
  have hU : ∀ p, ¬ gx_U (fun _ => 0) p := fun p h => h.2 rfl
  have hPg : gx_Pg (gx_mem (fun _ => false) (fun _ => 0) (fun _ => 0)) fp (fun _ => 0) (fun _ => 0) (fun _ => 0) (fun _ => 0) := by
    refine ⟨fun _ => 0, fun _ => 0, fun _ => 0, fun _ => 0, ⟨fun p h => absurd h (hU p), fun p h => absurd h (hU p), fun p q h => absurd h (hU p), fun l hl => Or.inl ⟨hfp l hl, fun p h => absurd h (hU p)⟩, fun p q h => absurd h (hU p)⟩, fun p i h => absurd h.1 (hU p), fun p q i j h => absurd h.1 (hU p), fun l e _ h => ?_⟩
    unfold gx_mem at h
    simp at h
  have hG : gr_G (fun _ => false) (fun _ => false) (fun _ => 0) (fun _ => 0) (fun _ => 0) (fun _ => 0) 0 (fun _ => 0) 0 0 0 (fun _ => 0) (fun _ => 0) (fun _ => 0) (fun _ => 0) (fun _ => 0) (fun _ => 0) fp (fun _ => 0) (fun _ => 0) (fun _ => 0) (fun _ => 0) (fun _ => 0) (fun _ => 0) (fun _ => 0) (fun _ => 0) (fun _ => 0) (fun _ => 0) (fun _ => 0) (fun _ => 0) (fun _ => 0) := by
    refine ⟨rfl, ⟨gb_mk_0.symm, fun n h => by (cases h), gb_mk_0.symm, fun e h => by (cases h), fun e _ => ⟨rfl, (by decide : 0 < 4)⟩, fun e _ => ⟨rfl, (by decide : 0 < 12)⟩, fun e _ => ⟨rfl, (by decide : 0 < 12)⟩, fun e _ => ⟨by show (0 : Int32) = nI (0 % 3); decide, by show (0 : Int32) = nI (0 / 3); decide⟩, fun e => (by decide : 0 ≤ 62), hPg, fun t _ => ?_, ⟨by omega, fun i hi => by omega, fun i j hi => by omega, fun n h => by (cases h), fun i j _ hj => by omega⟩⟩, rfl, rfl, rfl, rfl, fun i _ => ⟨fun _ => rfl, fun _ => rfl⟩, fun i _ => ⟨fun _ => rfl, fun _ => rfl⟩, fun e _ => ⟨rfl, (by decide : 0 < 63)⟩⟩
    exact gb_mk_0.symm
  exact ⟨_, _, _, _, _, _, _, _, hG, ⟨_, _, _, _, _, _, _, _, _, _, gr_P_init 0⟩, ⟨_, _, _, _, _, _, _, _, _, _, gr_P_init 1, rfl⟩⟩
section
variable {f_base f_many : Int32} {a_nodeThere a_labels a_values a_edgeThere a_froms a_tos a_whats a_patterns a_parts a_chosen : Nat → Int32}
theorem gy_nodes {post : Int32 → Prop} {th : Nat → Bool} (hN : gy_Nz a_nodeThere th 12) (hp : post (gb_mk (fun n => decide (n < 12) && th n))) : wpY_nodes post (f_base, f_many, a_nodeThere, a_labels, a_values, a_edgeThere, a_froms, a_tos, a_whats, a_patterns, a_parts, a_chosen) := by
  have loop : ∀ (d i : Nat) (acc : Int32) (n : Nat), i + d = 12 → d < n → (∀ r, (∀ m, m < 32 → bt r m = (bt acc m || gb_an (fun t => th t && decide (m = t)) i d)) → post r) → wY_nodes_4 post f_base f_many a_nodeThere a_labels a_values a_edgeThere a_froms a_tos a_whats a_patterns a_parts a_chosen n acc (nI i) := by
    intro d
    induction d with
    | zero =>
      intro i acc n hi hn hp
      obtain ⟨n, rfl⟩ := gx_S n (by omega)
      refine pk_le 12 i (fun _ => hp acc (fun m _ => ?_)) (fun h => by omega)
      show bt acc m = (bt acc m || false)
      rw [Bool.or_false]
    | succ d ih =>
      intro i acc n hi hn hp
      obtain ⟨n, rfl⟩ := gx_S n (by omega)
      refine pk_le 12 i (fun h => by omega) (fun _ => And.intro (vp_in_nI (by omega) (by omega)) ?_)
      rw [nI_clamp (n := i) (by omega)]
      refine br_c (fun z => ?_) (fun z => ?_)
      · have ht := (hN i (by omega)).mp z
        refine nm_r (nI_1 i) (ih (i + 1) _ n (by omega) (by omega) (fun r hr => hp r (fun m hm => ?_)))
        rw [hr m hm]
        show _ = (bt acc m || ((th i && _) || _))
        rw [ht]; simp
      · have ht : th i = true := by
          cases h : th i
          · exact absurd ((hN i (by omega)).mpr h) z
          · rfl
        refine nm_e (nm_r (nI_1 i) (ih (i + 1) _ n (by omega) (by omega) (fun r hr => hp r (fun m hm => ?_))))
        rw [hr m hm, b_or, gb_one (by omega), Bool.or_assoc]
        show _ = (bt acc m || ((th i && _) || _))
        rw [ht, Bool.true_and]
  refine Exists.intro 13 (loop 12 0 0 13 rfl (by omega) (fun r hr => ?_))
  have e : r = gb_mk (fun n => decide (n < 12) && th n) := by
    apply gb_mk_of
    intro m hm
    rw [hr m hm, b_0, Bool.false_or]
    apply gb_bool
    rw [gb_an_iff]
    simp only [Bool.and_eq_true, decide_eq_true_eq]
    constructor
    · rintro ⟨t, t1, t2, t3, rfl⟩; exact ⟨by omega, t3⟩
    · rintro ⟨t1, t2⟩; exact ⟨m, by omega, by omega, t2, rfl⟩
  rw [e]; exact hp
theorem gy_degree24 {post : Int32 → Prop} {eth : Nat → Bool} {fr to : Nat → Nat} {x2 : Int32} {n wh : Nat} (hn : n < 12) (hx2 : x2 = 0 ↔ wh = 0) (hE : gy_Nz a_edgeThere eth 20) (hf : gx_Nm a_froms fr 20 12) (ht : gx_Nm a_tos to 20 12) : ∀ (d i acc k : Nat), i + d = 20 → d < k → post (nI (acc + (gb_fl (fun e => eth e && (if wh = 0 then decide (fr e = n) else decide (to e = n))) i d).length)) → wY_degree_24 post (nI n) x2 f_base f_many a_nodeThere a_labels a_values a_edgeThere a_froms a_tos a_whats a_patterns a_parts a_chosen k (nI acc) (nI i) := by
  intro d
  induction d with
  | zero =>
    intro i acc k hi hk hp
    obtain ⟨k, rfl⟩ := gx_S k (by omega)
    exact pk_le 20 i (fun _ => hp) (fun h => by omega)
  | succ d ih =>
    intro i acc k hi hk hp
    obtain ⟨k, rfl⟩ := gx_S k (by omega)
    obtain ⟨f1, f2⟩ := hf i (by omega)
    obtain ⟨t1, t2⟩ := ht i (by omega)
    have hin : vp_in (nI i) 20 := vp_in_nI (by omega) (by omega)
    have skip : (eth i && (if wh = 0 then decide (fr i = n) else decide (to i = n))) = false → wY_degree_24 post (nI n) x2 f_base f_many a_nodeThere a_labels a_values a_edgeThere a_froms a_tos a_whats a_patterns a_parts a_chosen k (nI acc) (nI (i + 1)) := by
      intro h
      refine ih (i + 1) acc k (by omega) (by omega) ?_
      have : gb_fl (fun e => eth e && (if wh = 0 then decide (fr e = n) else decide (to e = n))) i (d + 1) = gb_fl (fun e => eth e && (if wh = 0 then decide (fr e = n) else decide (to e = n))) (i + 1) d := by
        show (if (eth i && (if wh = 0 then decide (fr i = n) else decide (to i = n))) then _ else _) = _
        rw [h]; rfl
      rw [this] at hp; exact hp
    have take : (eth i && (if wh = 0 then decide (fr i = n) else decide (to i = n))) = true → wY_degree_24 post (nI n) x2 f_base f_many a_nodeThere a_labels a_values a_edgeThere a_froms a_tos a_whats a_patterns a_parts a_chosen k (nI (acc + 1)) (nI (i + 1)) := by
      intro h
      refine ih (i + 1) (acc + 1) k (by omega) (by omega) ?_
      have : gb_fl (fun e => eth e && (if wh = 0 then decide (fr e = n) else decide (to e = n))) i (d + 1) = i :: gb_fl (fun e => eth e && (if wh = 0 then decide (fr e = n) else decide (to e = n))) (i + 1) d := by
        show (if (eth i && (if wh = 0 then decide (fr i = n) else decide (to i = n))) then _ else _) = _
        rw [h]; rfl
      rw [this, List.length_cons] at hp
      rw [show acc + 1 + (gb_fl (fun e => eth e && (if wh = 0 then decide (fr e = n) else decide (to e = n))) (i + 1) d).length = acc + ((gb_fl (fun e => eth e && (if wh = 0 then decide (fr e = n) else decide (to e = n))) (i + 1) d).length + 1) from by omega]
      exact hp
    refine pk_le 20 i (fun h => by omega) (fun _ => And.intro hin ?_)
    rw [nI_clamp (n := i) (by omega)]
    refine br_c (fun z => nm_r (nI_1 i) (skip (by rw [(hE i (by omega)).mp z]; rfl))) (fun z => ?_)
    have he : eth i = true := by
      cases h : eth i
      · exact absurd ((hE i (by omega)).mpr h) z
      · rfl
    refine br_c (fun y => And.intro hin ?_) (fun y => And.intro hin ?_)
    · have hw := hx2.mp y
      rw [f1]
      exact pk_eq (fr i) n (fun e => nm_r (nI_1 acc) (nm_r (nI_1 i) (take (by rw [he, if_pos hw, decide_eq_true e]; rfl)))) (fun e => nm_r (nI_1 i) (skip (by rw [he, if_pos hw, decide_eq_false e]; rfl)))
    · have hw : ¬ wh = 0 := fun h => y (hx2.mpr h)
      rw [t1]
      exact pk_eq (to i) n (fun e => nm_r (nI_1 acc) (nm_r (nI_1 i) (take (by rw [he, if_neg hw, decide_eq_true e]; rfl)))) (fun e => nm_r (nI_1 i) (skip (by rw [he, if_neg hw, decide_eq_false e]; rfl)))
end
theorem i_vc_nodes {k : Nat} {u : SX} {v : SY} (I : i_Rel k u v) (hk : k + 5 ≤ 2560) : wpX_nodes (fun r => wpY_nodes (fun r' => r' = r ∧ i_Rel (k + 5) u v) v) u := by
  refine gr_el (P := fun u v => wpX_nodes (fun r => wpY_nodes (fun r' => r' = r ∧ i_Rel (k + 5) u v) v) u) I ?_
  intro f_nodeSet f_edgeSet f_sortedCount f_keptCount f_which f_inOrder f_total f_depth f_begun f_assigned f_usedNodes f_edgeLinks a_labelOf a_valueOf a_fromOf a_toOf a_typeOf a_weightOf a_firstPage a_pageUsed a_pageNext a_pageSize a_pageEdge a_labelled a_sorted a_modeOf a_spotSet a_spotLabels a_spotLeast a_spotGreatest a_linkSet a_linkFrom a_linkTo a_linkTypes a_linkKind a_outgoing a_incoming a_allowed a_candidates a_behind a_before a_nodeFor a_levelSpot a_levelLeft a_edgeLink a_choiceLeft a_choice a_pickedEdge f_base f_many a_nodeThere a_labels a_values a_edgeThere a_froms a_tos a_whats a_patterns a_parts a_chosen R
  have R0 := R
  obtain ⟨th, eth, lab, wh, fr, to, sc, so, hG, hH, hK⟩ := R
  obtain ⟨g1, g2, rfl, rfl, rfl, rfl, g7, g8, g9⟩ := hG
  unfold wpX_nodes
  refine gy_nodes g7 ⟨?_, R0⟩
  rw [g2.1]
  apply gb_mk_e
  intro n _
  cases h : th n
  · simp
  · have := g2.2.1 n h
    simp [this]
/-- the two sides agree on what is a node -/
theorem gr_node {th : Nat → Bool} {ns : Int32} {nth : Nat → Int32} (h1 : ns = gb_mk th) (h2 : gy_Nz nth th 12) {n : Nat} (hn : n < 12) : (bt ns n = true ↔ th n = true) ∧ (bt ns n = false ↔ th n = false) ∧ (nth n = 0 ↔ th n = false) := by
  rw [h1, gb_mk_l _ (by omega)]
  exact ⟨Iff.rfl, Iff.rfl, h2 n hn⟩
theorem gr_nI {i j : Nat} {x : Int32} (hi : i < 1000) (hj : j < 1000) (h1 : x = nI i) (h2 : x = nI j) : i = j := (nI_eq (by omega) (by omega)).mp (h1.symm.trans h2)
theorem gr_tf {b : Bool} (h : ¬ b = false) : b = true := by cases b <;> simp_all
theorem i_vc_degree {k : Nat} {u : SX} {v : SY} (I : i_Rel k u v) (hk : k + 5 ≤ 2560) (v1 : Int32) (v2 : Int32) : wpX_degree (fun r => wpY_degree (fun r' => r' = r ∧ i_Rel (k + 5) u v) v v1 v2) u v1 v2 := by
  refine gr_el (P := fun u v => wpX_degree (fun r => wpY_degree (fun r' => r' = r ∧ i_Rel (k + 5) u v) v v1 v2) u v1 v2) I ?_
  intro f_nodeSet f_edgeSet f_sortedCount f_keptCount f_which f_inOrder f_total f_depth f_begun f_assigned f_usedNodes f_edgeLinks a_labelOf a_valueOf a_fromOf a_toOf a_typeOf a_weightOf a_firstPage a_pageUsed a_pageNext a_pageSize a_pageEdge a_labelled a_sorted a_modeOf a_spotSet a_spotLabels a_spotLeast a_spotGreatest a_linkSet a_linkFrom a_linkTo a_linkTypes a_linkKind a_outgoing a_incoming a_allowed a_candidates a_behind a_before a_nodeFor a_levelSpot a_levelLeft a_edgeLink a_choiceLeft a_choice a_pickedEdge f_base f_many a_nodeThere a_labels a_values a_edgeThere a_froms a_tos a_whats a_patterns a_parts a_chosen R
  have R0 := R
  obtain ⟨th, eth, lab, wh, fr, to, sc, so, hG, hH, hK⟩ := R
  obtain ⟨g1, g2, rfl, rfl, rfl, rfl, g7, g8, g9⟩ := hG
  have hf := g2.2.2.2.2.2.1
  have ht := g2.2.2.2.2.2.2.1
  unfold wpX_degree
  refine gx_isNode (fun n hn e hb => br_f (by decide) ?_) (fun hno => br_t rfl ?_)
  · subst e
    have hth := (gr_node g2.1 g7 hn).1.mp hb
    have yn : ∀ (A : Int32 → Prop), A 1 → wpY_isNode A (f_base, f_many, a_nodeThere, a_labelOf, a_valueOf, a_edgeThere, a_fromOf, a_toOf, a_whats, a_patterns, a_parts, a_chosen) (nI n) := by
      intro A hA
      refine gy_isNode (fun i hi e hz => hA) (fun hz => ?_)
      have := (gr_node g2.1 g7 hn).2.2.mp (hz n hn rfl)
      rw [this] at hth; cases hth
    have bad : (¬ v2 = 0) → (¬ v2 = 1) → wpY_degree (fun r' => r' = -1 ∧ i_Rel (k + 5) (f_nodeSet, f_edgeSet, f_sortedCount, f_keptCount, f_which, f_inOrder, f_total, f_depth, f_begun, f_assigned, f_usedNodes, f_edgeLinks, a_labelOf, a_valueOf, a_fromOf, a_toOf, a_typeOf, a_weightOf, a_firstPage, a_pageUsed, a_pageNext, a_pageSize, a_pageEdge, a_labelled, a_sorted, a_modeOf, a_spotSet, a_spotLabels, a_spotLeast, a_spotGreatest, a_linkSet, a_linkFrom, a_linkTo, a_linkTypes, a_linkKind, a_outgoing, a_incoming, a_allowed, a_candidates, a_behind, a_before, a_nodeFor, a_levelSpot, a_levelLeft, a_edgeLink, a_choiceLeft, a_choice, a_pickedEdge) (f_base, f_many, a_nodeThere, a_labelOf, a_valueOf, a_edgeThere, a_fromOf, a_toOf, a_whats, a_patterns, a_parts, a_chosen)) (f_base, f_many, a_nodeThere, a_labelOf, a_valueOf, a_edgeThere, a_fromOf, a_toOf, a_whats, a_patterns, a_parts, a_chosen) (nI n) v2 := by
      intro h0 h1
      unfold wpY_degree
      exact yn _ (br_f (by decide) (br_f h0 (br_f h1 ⟨rfl, R0⟩)))
    have good : ∀ w, w < 2 → v2 = nI w → wpX_listed (fun r_53 => wpX_ones (fun r_102 => wpY_degree (fun r' => r' = r_102 ∧ i_Rel (k + 5) (f_nodeSet, f_edgeSet, f_sortedCount, f_keptCount, f_which, f_inOrder, f_total, f_depth, f_begun, f_assigned, f_usedNodes, f_edgeLinks, a_labelOf, a_valueOf, a_fromOf, a_toOf, a_typeOf, a_weightOf, a_firstPage, a_pageUsed, a_pageNext, a_pageSize, a_pageEdge, a_labelled, a_sorted, a_modeOf, a_spotSet, a_spotLabels, a_spotLeast, a_spotGreatest, a_linkSet, a_linkFrom, a_linkTo, a_linkTypes, a_linkKind, a_outgoing, a_incoming, a_allowed, a_candidates, a_behind, a_before, a_nodeFor, a_levelSpot, a_levelLeft, a_edgeLink, a_choiceLeft, a_choice, a_pickedEdge) (f_base, f_many, a_nodeThere, a_labelOf, a_valueOf, a_edgeThere, a_fromOf, a_toOf, a_whats, a_patterns, a_parts, a_chosen)) (f_base, f_many, a_nodeThere, a_labelOf, a_valueOf, a_edgeThere, a_fromOf, a_toOf, a_whats, a_patterns, a_parts, a_chosen) (nI n) v2) r_53) (f_nodeSet, f_edgeSet, f_sortedCount, f_keptCount, f_which, f_inOrder, f_total, f_depth, f_begun, f_assigned, f_usedNodes, f_edgeLinks, a_labelOf, a_valueOf, a_fromOf, a_toOf, a_typeOf, a_weightOf, a_firstPage, a_pageUsed, a_pageNext, a_pageSize, a_pageEdge, a_labelled, a_sorted, a_modeOf, a_spotSet, a_spotLabels, a_spotLeast, a_spotGreatest, a_linkSet, a_linkFrom, a_linkTo, a_linkTypes, a_linkKind, a_outgoing, a_incoming, a_allowed, a_candidates, a_behind, a_before, a_nodeFor, a_levelSpot, a_levelLeft, a_edgeLink, a_choiceLeft, a_choice, a_pickedEdge) (2 * nI n + v2) := by
      intro w hw e
      subst e
      rw [gx_2n, nI_add]
      refine gx_listed (by omega) g2.2.2.2.2.2.2.2.2.2.1 (gb_ones ?_)
      unfold wpY_degree
      refine yn _ (br_f (by decide) ?_)
      have hx2 : nI w = 0 ↔ w = 0 := by rw [← nI_0]; exact nI_eq (by omega) (by omega)
      have hlen : (gb_bl (gb_mk (gx_mem eth fr to (2 * n + w)))).length = (gb_fl (fun e => eth e && (if w = 0 then decide (fr e = n) else decide (to e = n))) 0 20).length := by
        rw [gb_bl_mk (d := 20) (by omega) (fun i h1 _ => by unfold gx_mem; rw [decide_eq_false (show ¬ i < 20 by omega)]; rfl)]
        congr 1
        apply gb_fl_c
        intro e _ he
        have : w = 0 ∨ w = 1 := by omega
        rcases this with rfl | rfl
        · rw [show 2 * n + 0 = 2 * n from rfl, gx_mem_0, decide_eq_true (show e < 20 by omega), if_pos rfl]; rfl
        · rw [gx_mem_1, decide_eq_true (show e < 20 by omega), if_neg (by omega)]; rfl
      have key : ∃ n24 : Nat, wY_degree_24 (fun r' => r' = nI (gb_bl (gb_mk (gx_mem eth fr to (2 * n + w)))).length ∧ i_Rel (k + 5) (f_nodeSet, f_edgeSet, f_sortedCount, f_keptCount, f_which, f_inOrder, f_total, f_depth, f_begun, f_assigned, f_usedNodes, f_edgeLinks, a_labelOf, a_valueOf, a_fromOf, a_toOf, a_typeOf, a_weightOf, a_firstPage, a_pageUsed, a_pageNext, a_pageSize, a_pageEdge, a_labelled, a_sorted, a_modeOf, a_spotSet, a_spotLabels, a_spotLeast, a_spotGreatest, a_linkSet, a_linkFrom, a_linkTo, a_linkTypes, a_linkKind, a_outgoing, a_incoming, a_allowed, a_candidates, a_behind, a_before, a_nodeFor, a_levelSpot, a_levelLeft, a_edgeLink, a_choiceLeft, a_choice, a_pickedEdge) (f_base, f_many, a_nodeThere, a_labelOf, a_valueOf, a_edgeThere, a_fromOf, a_toOf, a_whats, a_patterns, a_parts, a_chosen)) (nI n) (nI w) f_base f_many a_nodeThere a_labelOf a_valueOf a_edgeThere a_fromOf a_toOf a_whats a_patterns a_parts a_chosen n24 0 0 :=
        Exists.intro 21 (gy_degree24 hn hx2 g8 hf ht 20 0 0 21 rfl (by omega) ⟨by rw [Nat.zero_add, hlen], R0⟩)
      refine br_c (fun _ => key) (fun z => br_t ?_ key)
      have h0 : w ≠ 0 := fun h => z (hx2.mpr h)
      rw [show w = 1 from by omega]; rfl
    rcases pk_ix v2 (n := 2) (by omega) with h | h | ⟨w, hw, e⟩
    · refine br_t h (bad (fun z => ?_) (fun z => ?_)) <;> rw [z] at h <;> exact absurd h (by decide)
    · have h2 : (2 : Int32) ≤ v2 := h
      have hn0 : ¬ v2 < 0 := by
        rw [Int32.lt_iff_toInt_lt]
        rw [Int32.le_iff_toInt_le] at h2
        have e1 : (2 : Int32).toInt = 2 := by decide
        have e2 : (0 : Int32).toInt = 0 := by decide
        omega
      have hn1 : ¬ v2 ≤ 1 := by
        rw [Int32.le_iff_toInt_le] at h2 ⊢
        have e1 : (2 : Int32).toInt = 2 := by decide
        have e2 : (1 : Int32).toInt = 1 := by decide
        omega
      refine br_f hn0 (br_f hn1 (bad (fun z => ?_) (fun z => ?_))) <;> rw [z] at h2 <;> exact absurd h2 (by decide)
    · refine br_f (by rw [e]; exact nI_pos (by omega)) (br_t (by rw [e]; exact nI_le (b := 1) (by omega) (by omega)) (good w hw e))
  · unfold wpY_degree
    refine gy_isNode (fun i hi e hz => ?_) (fun _ => br_t rfl ⟨rfl, R0⟩)
    have h1 := hno i hi e
    have h2 := (gr_node g2.1 g7 hi).2.1.mp h1
    exact absurd ((gr_node g2.1 g7 hi).2.2.mpr h2) hz
end
section
/-! reach, begin, spot -/
theorem i_vc_reach {k : Nat} {u : SX} {v : SY} (I : i_Rel k u v) (hk : k + 5 ≤ 2560) (v1 : Int32) (v2 : Int32) (v3 : Int32) : wpX_reach (fun r u' => wpY_reach (fun r' => r' = r ∧ i_Rel (k + 5) u' v) v v1 v2 v3) u v1 v2 v3 := by
  refine gr_el (P := fun u v => wpX_reach (fun r u' => wpY_reach (fun r' => r' = r ∧ i_Rel (k + 5) u' v) v v1 v2 v3) u v1 v2 v3) I ?_
  intro f_nodeSet f_edgeSet f_sortedCount f_keptCount f_which f_inOrder f_total f_depth f_begun f_assigned f_usedNodes f_edgeLinks a_labelOf a_valueOf a_fromOf a_toOf a_typeOf a_weightOf a_firstPage a_pageUsed a_pageNext a_pageSize a_pageEdge a_labelled a_sorted a_modeOf a_spotSet a_spotLabels a_spotLeast a_spotGreatest a_linkSet a_linkFrom a_linkTo a_linkTypes a_linkKind a_outgoing a_incoming a_allowed a_candidates a_behind a_before a_nodeFor a_levelSpot a_levelLeft a_edgeLink a_choiceLeft a_choice a_pickedEdge f_base f_many a_nodeThere a_labels a_values a_edgeThere a_froms a_tos a_whats a_patterns a_parts a_chosen R
  have R0 := R
  obtain ⟨th, eth, lab, wh, fr, to, sc, so, hG, hH, hK⟩ := R
  obtain ⟨g1, g2, rfl, rfl, rfl, rfl, g7, g8, g9⟩ := hG
  obtain ⟨x1, x2, x3, x4, x5, x6, x7, x8, x9, x10, x11, x12⟩ := g2
  unfold wpX_reach
  refine gx_isNode (fun n hn e hb => br_f (by decide) ?_) (fun hno => br_t rfl ?_)
  · subst e
    have hth := (gr_node x1 g7 hn).1.mp hb
    have yn : ∀ (A : Int32 → Prop), A 1 → wpY_isNode A (f_base, f_many, a_nodeThere, a_labelOf, a_valueOf, a_edgeThere, a_fromOf, a_toOf, a_whats, a_patterns, a_parts, a_chosen) (nI n) := by
      intro A hA
      refine gy_isNode (fun i hi e hz => hA) (fun hz => ?_)
      have := (gr_node x1 g7 hn).2.2.mp (hz n hn rfl)
      rw [this] at hth; cases hth
    refine br_c (fun z1 => ?_) (fun z1 => br_c (fun z2 => ?_) (fun z2 => br_c (fun z3 => ?_) (fun z3 => br_c (fun z4 => ?_) (fun z4 => ?_))))
    · unfold wpY_reach
      exact yn _ (br_f (by decide) (br_t z1 ⟨rfl, R0⟩))
    · unfold wpY_reach
      exact yn _ (br_f (by decide) (br_f z1 (br_t z2 ⟨rfl, R0⟩)))
    · unfold wpY_reach
      exact yn _ (br_f (by decide) (br_f z1 (br_f z2 (br_t z3 ⟨rfl, R0⟩))))
    · obtain ⟨q, hq, rfl⟩ : ∃ q, q < 4 ∧ v3 = nI q := by
        have hn0 : ¬ v3 < 0 := by
          rw [Int32.lt_iff_toInt_lt] at z3 ⊢
          have e1 : (1 : Int32).toInt = 1 := by decide
          have e2 : (0 : Int32).toInt = 0 := by decide
          omega
        obtain ⟨q, hq, e⟩ := nI_of2 (n := 3) (M := 3) (by decide) hn0 z4
        exact ⟨q, by omega, e⟩
      refine gx_readLists x10 (fun out inc hoi => ?_)
      obtain ⟨ho, hi⟩ := gx_out_of hoi
      refine gx_edgesOf (ty := fun e => wh e % 3) (fun e he => ⟨(x8 e he).1, by omega⟩) (gx_reached hn (by omega) ho x6 x7 ?_)
      unfold wpY_reach
      refine yn _ (br_f (by decide) (br_f z1 (br_f z2 (br_f z3 (br_f (Int32.not_lt.mpr z4) (gy_ways hn (by omega) g8 g9 x6 x7 ⟨?_, R0⟩))))))
      apply gb_mk_e
      intro m _
      refine gp_rc_c (fun e he => ?_) (fun e he => (x6 e he).2) q (fun q _ => rfl) m
      rw [gb_mk_l _ (by omega), x3, gb_mk_l _ (by omega), decide_eq_true he]
      cases eth e <;> simp
    · unfold wpY_reach
      exact yn _ (br_f (by decide) (br_f z1 (br_f z2 (br_f z3 (br_t (Int32.not_le.mp z4) ⟨rfl, R0⟩)))))
  · unfold wpY_reach
    refine gy_isNode (fun i hi e hz => ?_) (fun _ => br_t rfl ⟨rfl, R0⟩)
    have h2 := (gr_node x1 g7 hi).2.1.mp (hno i hi e)
    exact absurd ((gr_node x1 g7 hi).2.2.mpr h2) hz
section
variable {f_base f_many : Int32} {a_nodeThere a_labels a_values a_edgeThere a_froms a_tos a_whats a_patterns a_parts a_chosen : Nat → Int32}
theorem gy_begin13 {post : Int32 → SY → Prop} {x1 : Int32} (pat0 : Nat → Int32) (hp : ∀ pat, pat 0 = x1 → (∀ c, 0 < c → c < 33 → pat c = 0) → (∀ c, 33 ≤ c → pat c = pat0 c) → post 1 (f_base, f_many, a_nodeThere, a_labels, a_values, a_edgeThere, a_froms, a_tos, a_whats, pat, a_parts, a_chosen)) : ∀ (d c n : Nat) (pat : Nat → Int32), c + d = 33 → d < n → (0 < c → pat 0 = x1) → (∀ i, 0 < i → i < c → pat i = 0) → (∀ i, 33 ≤ i → pat i = pat0 i) → wY_begin_13 post x1 f_base f_many n (nI c) a_nodeThere a_labels a_values a_edgeThere a_froms a_tos a_whats pat a_parts a_chosen := by
  intro d
  induction d with
  | zero =>
    intro c n pat hc hn h1 h2 h3
    obtain ⟨n, rfl⟩ := gx_S n (by omega)
    exact pk_le 33 c (fun _ => hp pat (h1 (by omega)) (fun i hi hi2 => h2 i hi (by omega)) h3) (fun h => by omega)
  | succ d ih =>
    intro c n pat hc hn h1 h2 h3
    obtain ⟨n, rfl⟩ := gx_S n (by omega)
    have hin : vp_in (nI c) 66 := vp_in_nI (by omega) (by omega)
    refine pk_le 33 c (fun h => by omega) (fun _ => pk_eq c 0 (fun z => And.intro hin ?_) (fun z => And.intro hin ?_))
    · rw [nI_clamp (n := c) (by omega)]
      refine nm_e (nm_r (nI_1 c) (ih (c + 1) n _ (by omega) (by omega) (fun _ => ?_) (fun i hi hi2 => ?_) (fun i hi => ?_)))
      · rw [z, pk_us]
      · omega
      · rw [pk_un (by omega)]; exact h3 i hi
    · rw [nI_clamp (n := c) (by omega)]
      refine nm_e (nm_r (nI_1 c) (ih (c + 1) n _ (by omega) (by omega) (fun _ => ?_) (fun i hi hi2 => ?_) (fun i hi => ?_)))
      · rw [pk_un (by omega)]; exact h1 (by omega)
      · by_cases y : i = c
        · rw [y, pk_us]
        · rw [pk_un y]; exact h2 i hi (by omega)
      · rw [pk_un (by omega)]; exact h3 i hi
end
theorem gr_u01 {f : Nat → Int32} {x : Int32} : upd f 0 x 1 = f 1 := pk_un (by decide)
theorem gr_cmp (x : Int32) (n : Nat) (hn : n < 1000) : x < 0 ∨ (¬ x < 0 ∧ nI (n + 1) ≤ x ∧ nI n < x ∧ ¬ x ≤ nI n) ∨ (∃ j, j ≤ n ∧ x = nI j ∧ ¬ x < 0 ∧ ¬ nI (n + 1) ≤ x ∧ ¬ nI n < x ∧ x ≤ nI n) := by
  rcases pk_ix x (n := n + 1) (by omega) with h | h | ⟨j, hj, rfl⟩
  · exact Or.inl h
  · refine Or.inr (Or.inl ?_)
    rw [Int32.le_iff_toInt_le, nI_toInt (by omega)] at h
    refine ⟨?_, ?_, ?_, ?_⟩
    · rw [Int32.lt_iff_toInt_lt]
      have : (0 : Int32).toInt = 0 := by decide
      omega
    · rw [Int32.le_iff_toInt_le, nI_toInt (by omega)]; exact h
    · rw [Int32.lt_iff_toInt_lt, nI_toInt (by omega)]; omega
    · rw [Int32.le_iff_toInt_le, nI_toInt (by omega)]; omega
  · exact Or.inr (Or.inr ⟨j, by omega, rfl, nI_pos (by omega), nI_ge (by omega) (by omega), nI_nlt (by omega) (by omega), nI_le (by omega) (by omega)⟩)
theorem gr_byteMk {p : Nat → Bool} (h : ∀ i, 4 ≤ i → p i = false) : (gb_mk p).toInt8.toInt32 = gb_mk p := by
  have e : gb_mk p = gb_mk (fun i => if i = 0 then p 0 else if i = 1 then p 1 else if i = 2 then p 2 else if i = 3 then p 3 else false) := by
    apply gb_mk_e
    intro i _
    by_cases z0 : i = 0
    · rw [z0]; rfl
    · by_cases z1 : i = 1
      · rw [z1]; rfl
      · by_cases z2 : i = 2
        · rw [z2]; rfl
        · by_cases z3 : i = 3
          · rw [z3]; rfl
          · rw [if_neg z0, if_neg z1, if_neg z2, if_neg z3]; exact h i (by omega)
  rw [e]
  generalize p 0 = a
  generalize p 1 = b
  generalize p 2 = c
  generalize p 3 = d
  revert a b c d
  decide +kernel
/-- begin leaves the kept pattern alone -/
theorem gr_P1_keep {mode : Nat} {sp lk kd : Nat → Bool} {la lb : Nat → Nat} {tys labs lst grt : Nat → Int32} {mo ss sb sl sg ls lf lt lty lkd pat mo' ss' sb' sl' sg' ls' lf' lt' lty' lkd' pat' : Nat → Int32} (h : gr_P 1 mode sp lk kd la lb tys labs lst grt mo ss sb sl sg ls lf lt lty lkd pat) (h1 : mo' 1 = mo 1) (h2 : ss' 1 = ss 1) (h3 : ls' 1 = ls 1) (h4 : ∀ i, 4 ≤ i → sb' i = sb i ∧ sl' i = sl i ∧ sg' i = sg i) (h5 : ∀ i, 4 ≤ i → lf' i = lf i ∧ lt' i = lt i ∧ lty' i = lty i ∧ lkd' i = lkd i) (h6 : ∀ c, 33 ≤ c → pat' c = pat c) :
    gr_P 1 mode sp lk kd la lb tys labs lst grt mo' ss' sb' sl' sg' ls' lf' lt' lty' lkd' pat' := by
  obtain ⟨a, ⟨b1, b2, b3, b4, b5⟩, ⟨c1, c2, c3, c4, c5, c6, c7⟩, d⟩ := h
  refine ⟨a, ⟨by rw [h1]; exact b1, by rw [h2]; exact b2, by rw [h3]; exact b3, fun i hi hs => ?_, fun j hj hl => ?_⟩, ⟨c1, ?_, fun i hi => ?_, fun i hi hs => ?_, fun j hj => ?_, fun j hj hl => ?_, c7⟩, d⟩
  · obtain ⟨e1, e2, e3⟩ := h4 (1 * 4 + i) (by omega)
    rw [e1, e2, e3]; exact b4 i hi hs
  · obtain ⟨e1, e2, e3, e4⟩ := h5 (1 * 4 + j) (by omega)
    rw [e1, e2, e3, e4]; exact b5 j hj hl
  · rw [h6 _ (by omega)]; exact c2
  · rw [h6 _ (by omega)]; exact c3 i hi
  · rw [h6 _ (by omega), h6 _ (by omega), h6 _ (by omega)]; exact c4 i hi hs
  · rw [h6 _ (by omega)]; exact c5 j hj
  · rw [h6 _ (by omega), h6 _ (by omega), h6 _ (by omega)]; exact c6 j hj hl
theorem i_vc_begin {k : Nat} {u : SX} {v : SY} (I : i_Rel k u v) (hk : k + 5 ≤ 2560) (v1 : Int32) : wpX_begin (fun r u' => wpY_begin (fun r' v' => r' = r ∧ i_Rel (k + 5) u' v') v v1) u v1 := by
  refine gr_el (P := fun u v => wpX_begin (fun r u' => wpY_begin (fun r' v' => r' = r ∧ i_Rel (k + 5) u' v') v v1) u v1) I ?_
  intro f_nodeSet f_edgeSet f_sortedCount f_keptCount f_which f_inOrder f_total f_depth f_begun f_assigned f_usedNodes f_edgeLinks a_labelOf a_valueOf a_fromOf a_toOf a_typeOf a_weightOf a_firstPage a_pageUsed a_pageNext a_pageSize a_pageEdge a_labelled a_sorted a_modeOf a_spotSet a_spotLabels a_spotLeast a_spotGreatest a_linkSet a_linkFrom a_linkTo a_linkTypes a_linkKind a_outgoing a_incoming a_allowed a_candidates a_behind a_before a_nodeFor a_levelSpot a_levelLeft a_edgeLink a_choiceLeft a_choice a_pickedEdge f_base f_many a_nodeThere a_labels a_values a_edgeThere a_froms a_tos a_whats a_patterns a_parts a_chosen R
  have R0 := R
  obtain ⟨th, eth, lab, wh, fr, to, sc, so, hG, hH, mode, sp, lk, kd, la, lb, tys, labs, lst, grt, hP, hK⟩ := R
  rcases gr_cmp v1 3 (by omega) with h | ⟨h1, h2, h3, h4⟩ | ⟨m, hm, rfl, h1, h2, h3, h4⟩
  · exact br_t h (br_t h ⟨rfl, R0⟩)
  · exact br_f h1 (br_f h4 (br_f h1 (br_f h4 ⟨rfl, R0⟩)))
  · refine br_f h1 (br_t h4 ?_)
    rw [gx_byte4 (by omega), gx_byte0]
    refine nm_e (nm_e (nm_e (br_f h1 (br_t h4 (Exists.intro 34 (gy_begin13 a_patterns (fun pat p1 p2 p3 => ?_) 33 0 34 _ rfl (by omega) (fun h => by omega) (fun i h1 h2 => by omega) (fun i _ => rfl)))))))
    refine ⟨rfl, ?_⟩
    show gr_R f_nodeSet f_edgeSet f_sortedCount f_keptCount a_labelOf a_valueOf a_fromOf a_toOf a_typeOf a_weightOf a_firstPage a_pageUsed a_pageNext a_pageSize a_pageEdge a_labelled a_sorted (upd a_modeOf 0 (nI m)) (upd a_spotSet 0 0) a_spotLabels a_spotLeast a_spotGreatest (upd a_linkSet 0 0) a_linkFrom a_linkTo a_linkTypes a_linkKind a_nodeThere a_labels a_values a_edgeThere a_froms a_tos a_whats pat
    refine ⟨th, eth, lab, wh, fr, to, sc, so, hG, ⟨m, fun _ => false, fun _ => false, fun _ => false, fun _ => 0, fun _ => 0, fun _ => 0, fun _ => 0, fun _ => 0, fun _ => 0, ?_⟩, ⟨mode, sp, lk, kd, la, lb, tys, labs, lst, grt, gr_P1_keep hP gr_u01 gr_u01 gr_u01 (fun i _ => ⟨rfl, rfl, rfl⟩) (fun i _ => ⟨rfl, rfl, rfl, rfl⟩) p3, hK⟩⟩
    refine ⟨⟨by omega, fun i _ => ⟨rfl, rfl⟩, fun j _ h => by (cases h)⟩, ⟨pk_us, by rw [pk_us, gb_mk_0], by rw [pk_us, gb_mk_0], fun i _ h => by (cases h), fun j _ h => by (cases h)⟩, ⟨by omega, p1, fun i hi => ?_, fun i _ h => by (cases h), fun j hj => ?_, fun j _ h => by (cases h), fun i _ => ⟨rfl, rfl⟩⟩, fun i _ h => by (cases h), fun j _ h => by (cases h)⟩
    · exact p2 _ (by omega) (by omega)
    · exact p2 _ (by omega) (by omega)
end
section
/-! spot, link -/
theorem gr_u4 {pat : Nat → Int32} {a b c d q : Nat} {x y z w : Int32} (h1 : q ≠ a) (h2 : q ≠ b) (h3 : q ≠ c) (h4 : q ≠ d) : upd (upd (upd (upd pat a x) b y) c z) d w q = pat q := by
  rw [pk_un h4, pk_un h3, pk_un h2, pk_un h1]
theorem gr_ua {pat : Nat → Int32} {a b c d : Nat} {x y z w : Int32} (h2 : a ≠ b) (h3 : a ≠ c) (h4 : a ≠ d) : upd (upd (upd (upd pat a x) b y) c z) d w a = x := by
  rw [pk_un h4, pk_un h3, pk_un h2, pk_us]
theorem gr_ub {pat : Nat → Int32} {a b c d : Nat} {x y z w : Int32} (h3 : b ≠ c) (h4 : b ≠ d) : upd (upd (upd (upd pat a x) b y) c z) d w b = y := by
  rw [pk_un h4, pk_un h3, pk_us]
theorem gr_uc {pat : Nat → Int32} {a b c d : Nat} {x y z w : Int32} (h4 : c ≠ d) : upd (upd (upd (upd pat a x) b y) c z) d w c = z := by
  rw [pk_un h4, pk_us]
theorem gr_spot {mode i b : Nat} {sp lk kd : Nat → Bool} {la lb : Nat → Nat} {tys labs lst grt : Nat → Int32} {mo ss sb sl sg ls lf lt lty lkd pat : Nat → Int32} {p2 p3 : Int32} (hi : i < 4) (hb : b < 16) (h : gr_P 0 mode sp lk kd la lb tys labs lst grt mo ss sb sl sg ls lf lt lty lkd pat) :
    gr_P 0 mode (fun k => sp k || decide (k = i)) lk kd la lb tys (fun k => if k = i then nI b else labs k) (fun k => if k = i then p2 else lst k) (fun k => if k = i then p3 else grt k) mo (upd ss 0 (gb_mk (fun k => sp k || decide (k = i)))) (upd sb i (nI b)) (upd sl i p2) (upd sg i p3) ls lf lt lty lkd (upd (upd (upd (upd pat (1 + i) 1) (5 + i) (nI b)) (9 + i) p2) (13 + i) p3) := by
  obtain ⟨⟨a1, a2, a3⟩, ⟨b1, b2, b3, b4, b5⟩, ⟨c1, c2, c3, c4, c5, c6, c7⟩, d1, d2⟩ := h
  have mono : ∀ k, sp k = true → (sp k || decide (k = i)) = true := fun k h => by rw [h]; rfl
  refine ⟨⟨a1, fun k hk => ⟨?_, (a2 k hk).2⟩, fun j hj hl => ?_⟩, ⟨b1, pk_us, b3, fun k hk hs => ?_, b5⟩, ⟨c1, ?_, fun k hk => ?_, fun k hk hs => ?_, fun j hj => ?_, fun j hj hl => ?_, fun k hk => ⟨?_, (c7 k hk).2⟩⟩, fun k hk hs => ?_, d2⟩
  · show (sp k || decide (k = i)) = false
    rw [(a2 k hk).1, decide_eq_false (by omega)]; rfl
  · obtain ⟨e1, e2, e3, e4⟩ := a3 j hj hl
    exact ⟨e1, e2, mono _ e3, mono _ e4⟩
  · dsimp only
    rw [Nat.zero_mul, Nat.zero_add]
    by_cases z : k = i
    · subst z; rw [if_pos rfl, if_pos rfl, if_pos rfl, pk_us, pk_us, pk_us]; exact ⟨rfl, rfl, rfl⟩
    · rw [if_neg z, if_neg z, if_neg z, pk_un z, pk_un z, pk_un z]
      try dsimp only at hs
      rw [decide_eq_false z, Bool.or_false] at hs
      have := b4 k hk hs
      rw [Nat.zero_mul, Nat.zero_add] at this
      exact this
  · rw [gr_u4 (by omega) (by omega) (by omega) (by omega)]; exact c2
  · rw [Nat.mul_zero, Nat.zero_add]
    by_cases z : k = i
    · subst z
      rw [gr_ua (by omega) (by omega) (by omega)]; simp
    · rw [gr_u4 (by omega) (by omega) (by omega) (by omega)]
      have := c3 k hk
      rw [Nat.mul_zero, Nat.zero_add] at this
      have e : (fun k => sp k || decide (k = i)) k = sp k := by
        show (sp k || decide (k = i)) = sp k
        rw [decide_eq_false z, Bool.or_false]
      rw [this, e]
  · dsimp only
    rw [Nat.mul_zero, Nat.zero_add, Nat.zero_add, Nat.zero_add]
    by_cases z : k = i
    · subst z
      rw [gr_ub (by omega) (by omega), gr_uc (by omega), pk_us, if_pos rfl, if_pos rfl, if_pos rfl]
      exact ⟨rfl, rfl, rfl⟩
    · rw [gr_u4 (by omega) (by omega) (by omega) (by omega), gr_u4 (by omega) (by omega) (by omega) (by omega), gr_u4 (by omega) (by omega) (by omega) (by omega), if_neg z, if_neg z, if_neg z]
      try dsimp only at hs
      rw [decide_eq_false z, Bool.or_false] at hs
      have := c4 k hk hs
      rw [Nat.mul_zero, Nat.zero_add, Nat.zero_add, Nat.zero_add] at this
      exact this
  · rw [gr_u4 (by omega) (by omega) (by omega) (by omega)]; exact c5 j hj
  · rw [gr_u4 (by omega) (by omega) (by omega) (by omega), gr_u4 (by omega) (by omega) (by omega) (by omega), gr_u4 (by omega) (by omega) (by omega) (by omega)]
    obtain ⟨e1, e2, e3, e4, e5, e6⟩ := c6 j hj hl
    exact ⟨e1, e2, e3, mono _ e4, mono _ e5, e6⟩
  · show (sp k || decide (k = i)) = false
    rw [(c7 k hk).1, decide_eq_false (by omega)]; rfl
  · dsimp only
    by_cases z : k = i
    · rw [if_pos z]; exact ⟨b, hb, rfl⟩
    · rw [if_neg z]
      try dsimp only at hs
      rw [decide_eq_false z, Bool.or_false] at hs
      exact d1 k hk hs
theorem i_vc_spot {k : Nat} {u : SX} {v : SY} (I : i_Rel k u v) (hk : k + 5 ≤ 2560) (v1 : Int32) (v2 : Int32) (v3 : Int32) (v4 : Int32) : wpX_spot (fun r u' => wpY_spot (fun r' v' => r' = r ∧ i_Rel (k + 5) u' v') v v1 v2 v3 v4) u v1 v2 v3 v4 := by
  refine gr_el (P := fun u v => wpX_spot (fun r u' => wpY_spot (fun r' v' => r' = r ∧ i_Rel (k + 5) u' v') v v1 v2 v3 v4) u v1 v2 v3 v4) I ?_
  intro f_nodeSet f_edgeSet f_sortedCount f_keptCount f_which f_inOrder f_total f_depth f_begun f_assigned f_usedNodes f_edgeLinks a_labelOf a_valueOf a_fromOf a_toOf a_typeOf a_weightOf a_firstPage a_pageUsed a_pageNext a_pageSize a_pageEdge a_labelled a_sorted a_modeOf a_spotSet a_spotLabels a_spotLeast a_spotGreatest a_linkSet a_linkFrom a_linkTo a_linkTypes a_linkKind a_outgoing a_incoming a_allowed a_candidates a_behind a_before a_nodeFor a_levelSpot a_levelLeft a_edgeLink a_choiceLeft a_choice a_pickedEdge f_base f_many a_nodeThere a_labels a_values a_edgeThere a_froms a_tos a_whats a_patterns a_parts a_chosen R
  have R0 := R
  obtain ⟨th, eth, lab, wh, fr, to, sc, so, hG, ⟨mode0, sp0, lk0, kd0, la0, lb0, tys0, labs0, lst0, grt0, hH⟩, mode, sp, lk, kd, la, lb, tys, labs, lst, grt, hP, hK⟩ := R
  rcases gr_cmp v1 3 (by omega) with h | ⟨h1, h2, h3, h4⟩ | ⟨i, hi, rfl, h1, h2, h3, h4⟩
  · exact br_t h (br_t h ⟨rfl, R0⟩)
  · exact br_f h1 (br_t h2 (br_f h1 (br_t h3 ⟨rfl, R0⟩)))
  · rcases gr_cmp v2 15 (by omega) with g | ⟨g1, g2, g3, g4⟩ | ⟨b, hb, rfl, g1, g2, g3, g4⟩
    · exact br_f h1 (br_f h2 (br_t g (br_f h1 (br_f h3 (br_t g ⟨rfl, R0⟩)))))
    · exact br_f h1 (br_f h2 (br_f g1 (br_f g4 (br_f h1 (br_f h3 (br_f g1 (br_f g4 ⟨rfl, R0⟩)))))))
    · have hin : vp_in (nI i) 8 := vp_in_nI (by omega) (by omega)
      have hss : a_spotSet 0 ||| ((1 : Int32) <<< (nI i &&& 31)) = gb_mk (fun k => sp0 k || decide (k = i)) := by
        rw [hH.2.1.2.1]
        apply gb_mk_of
        intro m hm
        rw [b_or, gb_mk_l _ hm, gb_one (by omega)]
      have hby : vp_nar .byte ((a_spotSet 0 ||| ((1 : Int32) <<< (nI i &&& 31))).toInt8.toInt32) = gb_mk (fun k => sp0 k || decide (k = i)) := by
        rw [pk_vb, hss]
        exact gr_byteMk (fun q hq => by rw [(hH.1.2.1 q hq).1, decide_eq_false (by omega)]; rfl)
      refine br_f h1 (br_f h2 (br_f g1 (br_t g4 ?_)))
      rw [hby, nI_clamp (n := i) (by omega), gx_byte4 (by omega)]
      refine nm_e (And.intro hin (nm_e (And.intro hin (nm_e (And.intro hin (nm_e (br_f h1 (br_f h3 (br_f g1 (br_t g4 ?_))))))))))
      rw [show (1 : Int32) + nI i = nI (1 + i) from nI_add 1 i, show (5 : Int32) + nI i = nI (5 + i) from nI_add 5 i, show (9 : Int32) + nI i = nI (9 + i) from nI_add 9 i, show (13 : Int32) + nI i = nI (13 + i) from nI_add 13 i]
      rw [nI_clamp (n := 1 + i) (by omega), nI_clamp (n := 5 + i) (by omega), nI_clamp (n := 9 + i) (by omega), nI_clamp (n := 13 + i) (by omega)]
      refine And.intro (vp_in_nI (by omega) (by omega)) (nm_e (And.intro (vp_in_nI (by omega) (by omega)) (nm_e (And.intro (vp_in_nI (by omega) (by omega)) (nm_e (And.intro (vp_in_nI (by omega) (by omega)) (nm_e ?_)))))))
      refine ⟨rfl, ?_⟩
      show gr_R f_nodeSet f_edgeSet f_sortedCount f_keptCount a_labelOf a_valueOf a_fromOf a_toOf a_typeOf a_weightOf a_firstPage a_pageUsed a_pageNext a_pageSize a_pageEdge a_labelled a_sorted a_modeOf (upd a_spotSet 0 (gb_mk (fun k => sp0 k || decide (k = i)))) (upd a_spotLabels i (nI b)) (upd a_spotLeast i v3) (upd a_spotGreatest i v4) a_linkSet a_linkFrom a_linkTo a_linkTypes a_linkKind a_nodeThere a_labels a_values a_edgeThere a_froms a_tos a_whats (upd (upd (upd (upd a_patterns (1 + i) 1) (5 + i) (nI b)) (9 + i) v3) (13 + i) v4)
      refine ⟨th, eth, lab, wh, fr, to, sc, so, hG, ⟨_, _, _, _, _, _, _, _, _, _, gr_spot (by omega) (by omega) hH⟩, ⟨mode, sp, lk, kd, la, lb, tys, labs, lst, grt, gr_P1_keep hP rfl gr_u01 rfl (fun j hj => ⟨pk_un (by omega), pk_un (by omega), pk_un (by omega)⟩) (fun j _ => ⟨rfl, rfl, rfl, rfl⟩) (fun c hc => gr_u4 (by omega) (by omega) (by omega) (by omega)), hK⟩⟩
theorem gr_link {mode j ab t q : Nat} {sp lk kd : Nat → Bool} {la lb : Nat → Nat} {tys labs lst grt : Nat → Int32} {mo ss sb sl sg ls lf lt lty lkd pat : Nat → Int32} (hj : j < 4) (hab : ab < 16) (ht : t < 8) (hq : q < 2) (hs1 : sp (ab % 4) = true) (hs2 : sp (ab / 4) = true) (h : gr_P 0 mode sp lk kd la lb tys labs lst grt mo ss sb sl sg ls lf lt lty lkd pat) :
    gr_P 0 mode sp (fun k => lk k || decide (k = j)) (fun k => if k = j then decide (q = 1) else kd k) (fun k => if k = j then ab % 4 else la k) (fun k => if k = j then ab / 4 else lb k) (fun k => if k = j then nI t else tys k) labs lst grt mo ss sb sl sg (upd ls 0 (gb_mk (fun k => lk k || decide (k = j)))) (upd lf j (nI (ab % 4))) (upd lt j (nI (ab / 4))) (upd lty j (nI t)) (upd lkd j (nI q)) (upd (upd (upd (upd pat (17 + j) 1) (21 + j) (nI ab)) (25 + j) (nI t)) (29 + j) (nI q)) := by
  obtain ⟨⟨a1, a2, a3⟩, ⟨b1, b2, b3, b4, b5⟩, ⟨c1, c2, c3, c4, c5, c6, c7⟩, d1, d2⟩ := h
  have hq1 : nI q = if decide (q = 1) then 1 else 0 := by
    have : q = 0 ∨ q = 1 := by omega
    rcases this with rfl | rfl <;> rfl
  have eK : ∀ i, i = j → (fun k => if k = j then decide (q = 1) else kd k) i = decide (q = 1) := fun i z => if_pos z
  have eK' : ∀ i, i ≠ j → (fun k => if k = j then decide (q = 1) else kd k) i = kd i := fun i z => if_neg z
  refine ⟨⟨a1, fun k hk => ⟨(a2 k hk).1, ?_⟩, fun i hi hl => ?_⟩, ⟨b1, b2, pk_us, b4, fun i hi hl => ?_⟩, ⟨c1, ?_, fun k hk => ?_, fun k hk hs => ?_, fun i hi => ?_, fun i hi hl => ?_, fun k hk => ⟨(c7 k hk).1, ?_⟩⟩, d1, fun i hi hl => ?_⟩
  · show (lk k || decide (k = j)) = false
    rw [(a2 k hk).2, decide_eq_false (by omega)]; rfl
  · dsimp only
    by_cases z : i = j
    · rw [if_pos z, if_pos z]
      exact ⟨by omega, by omega, hs1, hs2⟩
    · rw [if_neg z, if_neg z]
      try dsimp only at hl
      rw [decide_eq_false z, Bool.or_false] at hl
      exact a3 i hi hl
  · rw [Nat.zero_mul, Nat.zero_add]
    by_cases z : i = j
    · subst z
      rw [eK i rfl]
      dsimp only
      rw [if_pos rfl, if_pos rfl, if_pos rfl, pk_us, pk_us, pk_us, pk_us]
      exact ⟨rfl, rfl, rfl, hq1⟩
    · rw [eK' i z]
      dsimp only
      rw [if_neg z, if_neg z, if_neg z, pk_un z, pk_un z, pk_un z, pk_un z]
      try dsimp only at hl
      rw [decide_eq_false z, Bool.or_false] at hl
      have := b5 i hi hl
      rw [Nat.zero_mul, Nat.zero_add] at this
      exact this
  · rw [gr_u4 (by omega) (by omega) (by omega) (by omega)]; exact c2
  · rw [gr_u4 (by omega) (by omega) (by omega) (by omega)]; exact c3 k hk
  · rw [gr_u4 (by omega) (by omega) (by omega) (by omega), gr_u4 (by omega) (by omega) (by omega) (by omega), gr_u4 (by omega) (by omega) (by omega) (by omega)]; exact c4 k hk hs
  · rw [Nat.mul_zero, Nat.zero_add]
    by_cases z : i = j
    · subst z
      rw [gr_ua (by omega) (by omega) (by omega)]; simp
    · rw [gr_u4 (by omega) (by omega) (by omega) (by omega)]
      have := c5 i hi
      rw [Nat.mul_zero, Nat.zero_add] at this
      have e : (fun k => lk k || decide (k = j)) i = lk i := by
        show (lk i || decide (i = j)) = lk i
        rw [decide_eq_false z, Bool.or_false]
      rw [this, e]
  · rw [Nat.mul_zero, Nat.zero_add, Nat.zero_add, Nat.zero_add]
    by_cases z : i = j
    · subst z
      rw [eK i rfl]
      dsimp only
      rw [gr_ub (by omega) (by omega), gr_uc (by omega), pk_us, if_pos rfl, if_pos rfl, if_pos rfl]
      exact ⟨congrArg nI (by omega), by omega, by omega, hs1, hs2, rfl, hq1⟩
    · rw [eK' i z]
      dsimp only
      rw [gr_u4 (by omega) (by omega) (by omega) (by omega), gr_u4 (by omega) (by omega) (by omega) (by omega), gr_u4 (by omega) (by omega) (by omega) (by omega), if_neg z, if_neg z, if_neg z]
      try dsimp only at hl
      rw [decide_eq_false z, Bool.or_false] at hl
      have := c6 i hi hl
      rw [Nat.mul_zero, Nat.zero_add, Nat.zero_add, Nat.zero_add] at this
      exact this
  · show (lk k || decide (k = j)) = false
    rw [(c7 k hk).2, decide_eq_false (by omega)]; rfl
  · dsimp only
    by_cases z : i = j
    · rw [if_pos z]; exact ⟨t, ht, rfl⟩
    · rw [if_neg z]
      try dsimp only at hl
      rw [decide_eq_false z, Bool.or_false] at hl
      exact d2 i hi hl
theorem gr_and3 {a : Nat} (h : a < 16) : nI a &&& 3 = nI (a % 4) := pk_andN (k := 2) (by omega) (by decide)
theorem gr_shr2 {a : Nat} (h : a < 16) : nI a >>> ((2 : Int32) &&& 31) = nI (a / 4) := pk_shrN (by omega) _ 2 (by decide)
theorem i_vc_link {k : Nat} {u : SX} {v : SY} (I : i_Rel k u v) (hk : k + 5 ≤ 2560) (v1 : Int32) (v2 : Int32) (v3 : Int32) (v4 : Int32) : wpX_link (fun r u' => wpY_link (fun r' v' => r' = r ∧ i_Rel (k + 5) u' v') v v1 v2 v3 v4) u v1 v2 v3 v4 := by
  refine gr_el (P := fun u v => wpX_link (fun r u' => wpY_link (fun r' v' => r' = r ∧ i_Rel (k + 5) u' v') v v1 v2 v3 v4) u v1 v2 v3 v4) I ?_
  intro f_nodeSet f_edgeSet f_sortedCount f_keptCount f_which f_inOrder f_total f_depth f_begun f_assigned f_usedNodes f_edgeLinks a_labelOf a_valueOf a_fromOf a_toOf a_typeOf a_weightOf a_firstPage a_pageUsed a_pageNext a_pageSize a_pageEdge a_labelled a_sorted a_modeOf a_spotSet a_spotLabels a_spotLeast a_spotGreatest a_linkSet a_linkFrom a_linkTo a_linkTypes a_linkKind a_outgoing a_incoming a_allowed a_candidates a_behind a_before a_nodeFor a_levelSpot a_levelLeft a_edgeLink a_choiceLeft a_choice a_pickedEdge f_base f_many a_nodeThere a_labels a_values a_edgeThere a_froms a_tos a_whats a_patterns a_parts a_chosen R
  have R0 := R
  obtain ⟨th, eth, lab, wh, fr, to, sc, so, hG, ⟨mode0, sp0, lk0, kd0, la0, lb0, tys0, labs0, lst0, grt0, hH⟩, mode, sp, lk, kd, la, lb, tys, labs, lst, grt, hP, hK⟩ := R
  rcases gr_cmp v1 3 (by omega) with h | ⟨h1, h2, h3, h4⟩ | ⟨j, hj, rfl, h1, h2, h3, h4⟩
  · exact br_t h (br_t h ⟨rfl, R0⟩)
  · exact br_f h1 (br_t h2 (br_f h1 (br_t h3 ⟨rfl, R0⟩)))
  · rcases gr_cmp v2 15 (by omega) with g | ⟨g1, g2, g3, g4⟩ | ⟨ab, hab, rfl, g1, g2, g3, g4⟩
    · exact br_f h1 (br_f h2 (br_t g (br_f h1 (br_f h3 (br_t g ⟨rfl, R0⟩)))))
    · exact br_f h1 (br_f h2 (br_f g1 (br_t g3 (br_f h1 (br_f h3 (br_f g1 (br_t g3 ⟨rfl, R0⟩)))))))
    · have hpa : a_patterns (1 + ab % 4) = if sp0 (ab % 4) then 1 else 0 := by
        have := hH.2.2.1.2.2.1 (ab % 4) (by omega)
        rw [Nat.mul_zero, Nat.zero_add] at this
        exact this
      have hpb : a_patterns (1 + ab / 4) = if sp0 (ab / 4) then 1 else 0 := by
        have := hH.2.2.1.2.2.1 (ab / 4) (by omega)
        rw [Nat.mul_zero, Nat.zero_add] at this
        exact this
      -- the reference, down to the two spots
      have yA : ∀ (post : Int32 → SY → Prop), sp0 (ab % 4) = false → post 0 (f_base, f_many, a_nodeThere, a_labels, a_values, a_edgeThere, a_froms, a_tos, a_whats, a_patterns, a_parts, a_chosen) → wpY_link post (f_base, f_many, a_nodeThere, a_labels, a_values, a_edgeThere, a_froms, a_tos, a_whats, a_patterns, a_parts, a_chosen) (nI j) (nI ab) v3 v4 := by
        intro post hs hp
        refine br_f h1 (br_f h3 (br_f g1 (br_f g3 (And.intro (by decide) ?_))))
        rw [gy_rem4 (by omega), show (1 : Int32) + nI (ab % 4) = nI (1 + ab % 4) from nI_add 1 _]
        refine And.intro (vp_in_nI (by omega) (by omega)) ?_
        rw [nI_clamp (n := 1 + ab % 4) (by omega), hpa, hs]
        exact br_t rfl hp
      have yB : ∀ (post : Int32 → SY → Prop), sp0 (ab % 4) = true → sp0 (ab / 4) = false → post 0 (f_base, f_many, a_nodeThere, a_labels, a_values, a_edgeThere, a_froms, a_tos, a_whats, a_patterns, a_parts, a_chosen) → wpY_link post (f_base, f_many, a_nodeThere, a_labels, a_values, a_edgeThere, a_froms, a_tos, a_whats, a_patterns, a_parts, a_chosen) (nI j) (nI ab) v3 v4 := by
        intro post hs hs2 hp
        refine br_f h1 (br_f h3 (br_f g1 (br_f g3 (And.intro (by decide) ?_))))
        rw [gy_rem4 (by omega), gy_div4 (by omega), show (1 : Int32) + nI (ab % 4) = nI (1 + ab % 4) from nI_add 1 _, show (1 : Int32) + nI (ab / 4) = nI (1 + ab / 4) from nI_add 1 _]
        refine And.intro (vp_in_nI (by omega) (by omega)) ?_
        rw [nI_clamp (n := 1 + ab % 4) (by omega), nI_clamp (n := 1 + ab / 4) (by omega), hpa, hpb, hs, hs2]
        exact br_f (by decide) (And.intro (by decide) (And.intro (vp_in_nI (by omega) (by omega)) (br_t rfl hp)))
      have yC : ∀ (post : Int32 → SY → Prop), sp0 (ab % 4) = true → sp0 (ab / 4) = true → ((v3 < 0 → post 0 (f_base, f_many, a_nodeThere, a_labels, a_values, a_edgeThere, a_froms, a_tos, a_whats, a_patterns, a_parts, a_chosen)) ∧ (¬ v3 < 0 → ((7 < v3 → post 0 (f_base, f_many, a_nodeThere, a_labels, a_values, a_edgeThere, a_froms, a_tos, a_whats, a_patterns, a_parts, a_chosen)) ∧ (¬ 7 < v3 → ((v4 < 0 → post 0 (f_base, f_many, a_nodeThere, a_labels, a_values, a_edgeThere, a_froms, a_tos, a_whats, a_patterns, a_parts, a_chosen)) ∧ (¬ v4 < 0 → ((v4 ≤ 1 → post 1 (f_base, f_many, a_nodeThere, a_labels, a_values, a_edgeThere, a_froms, a_tos, a_whats, upd (upd (upd (upd a_patterns (17 + j) 1) (21 + j) (nI ab)) (25 + j) v3) (29 + j) v4, a_parts, a_chosen)) ∧ (¬ v4 ≤ 1 → post 0 (f_base, f_many, a_nodeThere, a_labels, a_values, a_edgeThere, a_froms, a_tos, a_whats, a_patterns, a_parts, a_chosen))))))))) → wpY_link post (f_base, f_many, a_nodeThere, a_labels, a_values, a_edgeThere, a_froms, a_tos, a_whats, a_patterns, a_parts, a_chosen) (nI j) (nI ab) v3 v4 := by
        intro post hs hs2 hp
        refine br_f h1 (br_f h3 (br_f g1 (br_f g3 (And.intro (by decide) ?_))))
        rw [gy_rem4 (by omega), gy_div4 (by omega), show (1 : Int32) + nI (ab % 4) = nI (1 + ab % 4) from nI_add 1 _, show (1 : Int32) + nI (ab / 4) = nI (1 + ab / 4) from nI_add 1 _, show (17 : Int32) + nI j = nI (17 + j) from nI_add 17 _, show (21 : Int32) + nI j = nI (21 + j) from nI_add 21 _, show (25 : Int32) + nI j = nI (25 + j) from nI_add 25 _, show (29 : Int32) + nI j = nI (29 + j) from nI_add 29 _]
        refine And.intro (vp_in_nI (by omega) (by omega)) ?_
        rw [nI_clamp (n := 1 + ab % 4) (by omega), nI_clamp (n := 1 + ab / 4) (by omega), nI_clamp (n := 17 + j) (by omega), nI_clamp (n := 21 + j) (by omega), nI_clamp (n := 25 + j) (by omega), nI_clamp (n := 29 + j) (by omega), hpa, hpb, hs, hs2]
        refine br_f (by decide) (And.intro (by decide) (And.intro (vp_in_nI (by omega) (by omega)) (br_f (by decide) ?_)))
        refine br_c (fun z => hp.1 z) (fun z => br_c (fun y => (hp.2 z).1 y) (fun y => br_c (fun x => ((hp.2 z).2 y).1 x) (fun x => br_c (fun w => ?_) (fun w => (((hp.2 z).2 y).2 x).2 w))))
        exact And.intro (vp_in_nI (by omega) (by omega)) (nm_e (And.intro (vp_in_nI (by omega) (by omega)) (nm_e (And.intro (vp_in_nI (by omega) (by omega)) (nm_e (And.intro (vp_in_nI (by omega) (by omega)) (nm_e ((((hp.2 z).2 y).2 x).1 w))))))))
      -- a wrong type or kind: both say no, whatever the spots
      have yN : (v3 < 0 ∨ 7 < v3 ∨ v4 < 0 ∨ ¬ v4 ≤ 1) → wpY_link (fun r' v' => r' = 0 ∧ i_Rel (k + 5) (f_nodeSet, f_edgeSet, f_sortedCount, f_keptCount, f_which, f_inOrder, f_total, f_depth, f_begun, f_assigned, f_usedNodes, f_edgeLinks, a_labelOf, a_valueOf, a_fromOf, a_toOf, a_typeOf, a_weightOf, a_firstPage, a_pageUsed, a_pageNext, a_pageSize, a_pageEdge, a_labelled, a_sorted, a_modeOf, a_spotSet, a_spotLabels, a_spotLeast, a_spotGreatest, a_linkSet, a_linkFrom, a_linkTo, a_linkTypes, a_linkKind, a_outgoing, a_incoming, a_allowed, a_candidates, a_behind, a_before, a_nodeFor, a_levelSpot, a_levelLeft, a_edgeLink, a_choiceLeft, a_choice, a_pickedEdge) v') (f_base, f_many, a_nodeThere, a_labels, a_values, a_edgeThere, a_froms, a_tos, a_whats, a_patterns, a_parts, a_chosen) (nI j) (nI ab) v3 v4 := by
        intro hbad
        cases hs : sp0 (ab % 4)
        · exact yA _ hs ⟨rfl, R0⟩
        · cases hs2 : sp0 (ab / 4)
          · exact yB _ hs hs2 ⟨rfl, R0⟩
          · refine yC _ hs hs2 (br_c (fun _ => ⟨rfl, R0⟩) (fun z => br_c (fun _ => ⟨rfl, R0⟩) (fun y => br_c (fun _ => ⟨rfl, R0⟩) (fun x => br_c (fun w => ?_) (fun _ => ⟨rfl, R0⟩)))))
            exact absurd hbad (by rintro (h | h | h | h); exact z h; exact y h; exact x h; exact h w)
      refine br_f h1 (br_f h2 (br_f g1 (br_f g3 ?_)))
      rcases gr_cmp v3 7 (by omega) with f | ⟨f1, f2, f3, f4⟩ | ⟨t, ht, rfl, f1, f2, f3, f4⟩
      · exact br_t f (yN (Or.inl f))
      · exact br_f f1 (br_t f3 (yN (Or.inr (Or.inl f3))))
      · rcases gr_cmp v4 1 (by omega) with e | ⟨e1, e2, e3, e4⟩ | ⟨q, hq, rfl, e1, e2, e3, e4⟩
        · exact br_f f1 (br_f f3 (br_t e (yN (Or.inr (Or.inr (Or.inl e))))))
        · exact br_f f1 (br_f f3 (br_f e1 (br_f e4 (yN (Or.inr (Or.inr (Or.inr e4)))))))
        · refine br_f f1 (br_f f3 (br_f e1 (br_t e4 ?_)))
          have hsp : ∀ i, i < 4 → bt (a_spotSet 0) i = sp0 i := fun i hi => by rw [hH.2.1.2.1, gb_mk_l _ (by omega)]
          rw [gr_and3 (by omega), gr_shr2 (by omega)]
          refine gx_isSpotB (p := 0) (by omega) (by omega) (fun z => ?_) (fun z => gx_isSpotB (p := 0) (by omega) (by omega) (fun y => ?_) (fun y => ?_))
          · rw [hsp _ (by omega)] at z
            exact yA _ z ⟨rfl, R0⟩
          · rw [hsp _ (by omega)] at z y
            exact yB _ z y ⟨rfl, R0⟩
          · rw [hsp _ (by omega)] at z y
            have hin : vp_in (nI j) 8 := vp_in_nI (by omega) (by omega)
            have hls : a_linkSet 0 ||| ((1 : Int32) <<< (nI j &&& 31)) = gb_mk (fun k => lk0 k || decide (k = j)) := by
              rw [hH.2.1.2.2.1]
              apply gb_mk_of
              intro m hm
              rw [b_or, gb_mk_l _ hm, gb_one (by omega)]
            have hby : vp_nar .byte ((a_linkSet 0 ||| ((1 : Int32) <<< (nI j &&& 31))).toInt8.toInt32) = gb_mk (fun k => lk0 k || decide (k = j)) := by
              rw [pk_vb, hls]
              exact gr_byteMk (fun q hq => by rw [(hH.1.2.1 q hq).2, decide_eq_false (by omega)]; rfl)
            rw [hby, nI_clamp (n := j) (by omega), gx_byte4 (by omega), gx_byte4 (by omega), gx_byte4 (by omega), gx_byte4 (by omega)]
            refine nm_e (And.intro hin (nm_e (And.intro hin (nm_e (And.intro hin (nm_e (And.intro hin (nm_e ?_))))))))
            refine yC _ z y (br_f f1 (br_f f3 (br_f e1 (br_t e4 ⟨rfl, ?_⟩))))
            show gr_R f_nodeSet f_edgeSet f_sortedCount f_keptCount a_labelOf a_valueOf a_fromOf a_toOf a_typeOf a_weightOf a_firstPage a_pageUsed a_pageNext a_pageSize a_pageEdge a_labelled a_sorted a_modeOf a_spotSet a_spotLabels a_spotLeast a_spotGreatest (upd a_linkSet 0 (gb_mk (fun k => lk0 k || decide (k = j)))) (upd a_linkFrom j (nI (ab % 4))) (upd a_linkTo j (nI (ab / 4))) (upd a_linkTypes j (nI t)) (upd a_linkKind j (nI q)) a_nodeThere a_labels a_values a_edgeThere a_froms a_tos a_whats (upd (upd (upd (upd a_patterns (17 + j) 1) (21 + j) (nI ab)) (25 + j) (nI t)) (29 + j) (nI q))
            exact ⟨th, eth, lab, wh, fr, to, sc, so, hG, ⟨_, _, _, _, _, _, _, _, _, _, gr_link (by omega) (by omega) (by omega) (by omega) z y hH⟩, ⟨mode, sp, lk, kd, la, lb, tys, labs, lst, grt, gr_P1_keep hP rfl rfl gr_u01 (fun i _ => ⟨rfl, rfl, rfl⟩) (fun i hi => ⟨pk_un (by omega), pk_un (by omega), pk_un (by omega), pk_un (by omega)⟩) (fun c hc => gr_u4 (by omega) (by omega) (by omega) (by omega)), hK⟩⟩
end
section
/-! keep -/
section
variable {f_nodeSet f_edgeSet f_sortedCount f_keptCount f_which f_inOrder f_total f_depth f_begun f_assigned f_usedNodes f_edgeLinks : Int32} {a_labelOf a_valueOf a_fromOf a_toOf a_typeOf a_weightOf a_firstPage a_pageUsed a_pageNext a_pageSize a_pageEdge a_labelled a_sorted a_modeOf a_spotSet a_spotLabels a_spotLeast a_spotGreatest a_linkSet a_linkFrom a_linkTo a_linkTypes a_linkKind a_outgoing a_incoming a_allowed a_candidates a_behind a_before a_nodeFor a_levelSpot a_levelLeft a_edgeLink a_choiceLeft a_choice a_pickedEdge : Nat → Int32}
theorem gx_keep93 {post : Int32 → SX → Prop} (lf0 lt0 ly0 lk0 : Nat → Int32) (hp : ∀ lf lt ly lk, (∀ j, j < 4 → lf (4 + j) = vp_nar .byte (lf0 j) ∧ lt (4 + j) = vp_nar .byte (lt0 j) ∧ ly (4 + j) = vp_nar .byte (ly0 j) ∧ lk (4 + j) = vp_nar .byte (lk0 j)) → (∀ j, j < 4 → lf j = lf0 j ∧ lt j = lt0 j ∧ ly j = ly0 j ∧ lk j = lk0 j) → wpX_recount (fun u => match u with | (f_nodeSet, f_edgeSet, f_sortedCount, f_keptCount, f_which, f_inOrder, f_total, f_depth, f_begun, f_assigned, f_usedNodes, f_edgeLinks, a_labelOf, a_valueOf, a_fromOf, a_toOf, a_typeOf, a_weightOf, a_firstPage, a_pageUsed, a_pageNext, a_pageSize, a_pageEdge, a_labelled, a_sorted, a_modeOf, a_spotSet, a_spotLabels, a_spotLeast, a_spotGreatest, a_linkSet, a_linkFrom, a_linkTo, a_linkTypes, a_linkKind, a_outgoing, a_incoming, a_allowed, a_candidates, a_behind, a_before, a_nodeFor, a_levelSpot, a_levelLeft, a_edgeLink, a_choiceLeft, a_choice, a_pickedEdge) => (post f_keptCount (f_nodeSet, f_edgeSet, f_sortedCount, f_keptCount, f_which, f_inOrder, f_total, f_depth, f_begun, f_assigned, f_usedNodes, f_edgeLinks, a_labelOf, a_valueOf, a_fromOf, a_toOf, a_typeOf, a_weightOf, a_firstPage, a_pageUsed, a_pageNext, a_pageSize, a_pageEdge, a_labelled, a_sorted, a_modeOf, a_spotSet, a_spotLabels, a_spotLeast, a_spotGreatest, a_linkSet, a_linkFrom, a_linkTo, a_linkTypes, a_linkKind, a_outgoing, a_incoming, a_allowed, a_candidates, a_behind, a_before, a_nodeFor, a_levelSpot, a_levelLeft, a_edgeLink, a_choiceLeft, a_choice, a_pickedEdge))) (f_nodeSet, f_edgeSet, f_sortedCount, f_keptCount, f_which, f_inOrder, f_total, f_depth, f_begun, f_assigned, f_usedNodes, f_edgeLinks, a_labelOf, a_valueOf, a_fromOf, a_toOf, a_typeOf, a_weightOf, a_firstPage, a_pageUsed, a_pageNext, a_pageSize, a_pageEdge, a_labelled, a_sorted, a_modeOf, a_spotSet, a_spotLabels, a_spotLeast, a_spotGreatest, a_linkSet, lf, lt, ly, lk, a_outgoing, a_incoming, a_allowed, a_candidates, a_behind, a_before, a_nodeFor, a_levelSpot, a_levelLeft, a_edgeLink, a_choiceLeft, a_choice, a_pickedEdge)) :
    ∀ (d i n : Nat) (lf lt ly lk : Nat → Int32), i + d = 4 → d < n → (∀ j, j < i → lf (4 + j) = vp_nar .byte (lf0 j) ∧ lt (4 + j) = vp_nar .byte (lt0 j) ∧ ly (4 + j) = vp_nar .byte (ly0 j) ∧ lk (4 + j) = vp_nar .byte (lk0 j)) → (∀ j, j < 4 → lf j = lf0 j ∧ lt j = lt0 j ∧ ly j = ly0 j ∧ lk j = lk0 j) → wX_keep_93 post f_nodeSet f_edgeSet f_sortedCount f_keptCount f_which f_inOrder f_total f_depth f_begun f_assigned f_usedNodes f_edgeLinks n (nI i) a_labelOf a_valueOf a_fromOf a_toOf a_typeOf a_weightOf a_firstPage a_pageUsed a_pageNext a_pageSize a_pageEdge a_labelled a_sorted a_modeOf a_spotSet a_spotLabels a_spotLeast a_spotGreatest a_linkSet lf lt ly lk a_outgoing a_incoming a_allowed a_candidates a_behind a_before a_nodeFor a_levelSpot a_levelLeft a_edgeLink a_choiceLeft a_choice a_pickedEdge := by
  intro d
  induction d with
  | zero =>
    intro i n lf lt ly lk hi hn h1 h2
    obtain ⟨n, rfl⟩ := gx_S n (by omega)
    exact pk_le 4 i (fun _ => hp lf lt ly lk (fun j hj => h1 j (by omega)) h2) (fun h => by omega)
  | succ d ih =>
    intro i n lf lt ly lk hi hn h1 h2
    obtain ⟨n, rfl⟩ := gx_S n (by omega)
    have hin : vp_in (nI i) 8 := vp_in_nI (by omega) (by omega)
    have hin2 : vp_in (nI (4 + i)) 8 := vp_in_nI (by omega) (by omega)
    refine pk_le 4 i (fun h => by omega) (fun _ => And.intro hin ?_)
    rw [show (4 : Int32) + nI i = nI (4 + i) from nI_add 4 i, nI_clamp (n := 4 + i) (by omega), nI_clamp (n := i) (by omega)]
    obtain ⟨e1, e2, e3, e4⟩ := h2 i (by omega)
    rw [e1, e2, e3, e4]
    refine And.intro hin2 (nm_e (And.intro hin (And.intro hin2 (nm_e (And.intro hin (And.intro hin2 (nm_e (And.intro hin (And.intro hin2 (nm_e (nm_r (nI_1 i) (ih (i + 1) n _ _ _ _ (by omega) (by omega) (fun j hj => ?_) (fun j hj => ?_)))))))))))))
    · by_cases z : j = i
      · subst z; rw [pk_us, pk_us, pk_us, pk_us]; exact ⟨rfl, rfl, rfl, rfl⟩
      · have hne : 4 + j ≠ 4 + i := by omega
        rw [pk_un hne, pk_un hne, pk_un hne, pk_un hne]; exact h1 j (by omega)
    · have hne : j ≠ 4 + i := by omega
      rw [pk_un hne, pk_un hne, pk_un hne, pk_un hne]; exact h2 j hj
theorem gx_keep38 {post : Int32 → SX → Prop} (sb0 sl0 sg0 : Nat → Int32) (hp : ∀ sb sl sg, (∀ j, j < 4 → sb (4 + j) = vp_nar .byte (sb0 j) ∧ sl (4 + j) = sl0 j ∧ sg (4 + j) = sg0 j) → (∀ j, j < 4 → sb j = sb0 j ∧ sl j = sl0 j ∧ sg j = sg0 j) → ∃ n93 : Nat, wX_keep_93 post f_nodeSet f_edgeSet f_sortedCount f_keptCount f_which f_inOrder f_total f_depth f_begun f_assigned f_usedNodes f_edgeLinks n93 0 a_labelOf a_valueOf a_fromOf a_toOf a_typeOf a_weightOf a_firstPage a_pageUsed a_pageNext a_pageSize a_pageEdge a_labelled a_sorted a_modeOf a_spotSet sb sl sg a_linkSet a_linkFrom a_linkTo a_linkTypes a_linkKind a_outgoing a_incoming a_allowed a_candidates a_behind a_before a_nodeFor a_levelSpot a_levelLeft a_edgeLink a_choiceLeft a_choice a_pickedEdge) :
    ∀ (d i n : Nat) (sb sl sg : Nat → Int32), i + d = 4 → d < n → (∀ j, j < i → sb (4 + j) = vp_nar .byte (sb0 j) ∧ sl (4 + j) = sl0 j ∧ sg (4 + j) = sg0 j) → (∀ j, j < 4 → sb j = sb0 j ∧ sl j = sl0 j ∧ sg j = sg0 j) → wX_keep_38 post f_nodeSet f_edgeSet f_sortedCount f_keptCount f_which f_inOrder f_total f_depth f_begun f_assigned f_usedNodes f_edgeLinks n (nI i) a_labelOf a_valueOf a_fromOf a_toOf a_typeOf a_weightOf a_firstPage a_pageUsed a_pageNext a_pageSize a_pageEdge a_labelled a_sorted a_modeOf a_spotSet sb sl sg a_linkSet a_linkFrom a_linkTo a_linkTypes a_linkKind a_outgoing a_incoming a_allowed a_candidates a_behind a_before a_nodeFor a_levelSpot a_levelLeft a_edgeLink a_choiceLeft a_choice a_pickedEdge := by
  intro d
  induction d with
  | zero =>
    intro i n sb sl sg hi hn h1 h2
    obtain ⟨n, rfl⟩ := gx_S n (by omega)
    exact pk_le 4 i (fun _ => hp sb sl sg (fun j hj => h1 j (by omega)) h2) (fun h => by omega)
  | succ d ih =>
    intro i n sb sl sg hi hn h1 h2
    obtain ⟨n, rfl⟩ := gx_S n (by omega)
    have hin : vp_in (nI i) 8 := vp_in_nI (by omega) (by omega)
    have hin2 : vp_in (nI (4 + i)) 8 := vp_in_nI (by omega) (by omega)
    refine pk_le 4 i (fun h => by omega) (fun _ => And.intro hin ?_)
    rw [show (4 : Int32) + nI i = nI (4 + i) from nI_add 4 i, nI_clamp (n := 4 + i) (by omega), nI_clamp (n := i) (by omega)]
    obtain ⟨e1, e2, e3⟩ := h2 i (by omega)
    rw [e1, e2, e3]
    refine And.intro hin2 (nm_e (And.intro hin (And.intro hin2 (nm_e (And.intro hin (And.intro hin2 (nm_e (nm_r (nI_1 i) (ih (i + 1) n _ _ _ (by omega) (by omega) (fun j hj => ?_) (fun j hj => ?_))))))))))
    · by_cases z : j = i
      · subst z; rw [pk_us, pk_us, pk_us]; exact ⟨rfl, rfl, rfl⟩
      · have hne : 4 + j ≠ 4 + i := by omega
        rw [pk_un hne, pk_un hne, pk_un hne]; exact h1 j (by omega)
    · have hne : j ≠ 4 + i := by omega
      rw [pk_un hne, pk_un hne, pk_un hne]; exact h2 j hj
end
section
variable {f_base f_many : Int32} {a_nodeThere a_labels a_values a_edgeThere a_froms a_tos a_whats a_patterns a_parts a_chosen : Nat → Int32}
theorem gy_keep2 {post : Int32 → SY → Prop} (pat0 : Nat → Int32) (hp : ∀ pat, (∀ c, c < 33 → pat (33 + c) = pat0 c) → (∀ c, c < 33 → pat c = pat0 c) → wpY_kept (fun r u => match u with | (f_base, f_many, a_nodeThere, a_labels, a_values, a_edgeThere, a_froms, a_tos, a_whats, a_patterns, a_parts, a_chosen) => (post r (f_base, f_many, a_nodeThere, a_labels, a_values, a_edgeThere, a_froms, a_tos, a_whats, a_patterns, a_parts, a_chosen))) (f_base, f_many, a_nodeThere, a_labels, a_values, a_edgeThere, a_froms, a_tos, a_whats, pat, a_parts, a_chosen)) : ∀ (d c n : Nat) (pat : Nat → Int32), c + d = 33 → d < n → (∀ i, i < c → pat (33 + i) = pat0 i) → (∀ i, i < 33 → pat i = pat0 i) → wY_keep_2 post f_base f_many n (nI c) a_nodeThere a_labels a_values a_edgeThere a_froms a_tos a_whats pat a_parts a_chosen := by
  intro d
  induction d with
  | zero =>
    intro c n pat hc hn h1 h2
    obtain ⟨n, rfl⟩ := gx_S n (by omega)
    exact pk_le 33 c (fun _ => hp pat (fun i hi => h1 i (by omega)) h2) (fun h => by omega)
  | succ d ih =>
    intro c n pat hc hn h1 h2
    obtain ⟨n, rfl⟩ := gx_S n (by omega)
    refine pk_le 33 c (fun h => by omega) (fun _ => And.intro (vp_in_nI (by omega) (by omega)) ?_)
    rw [show (33 : Int32) + nI c = nI (33 + c) from nI_add 33 c, nI_clamp (n := 33 + c) (by omega), nI_clamp (n := c) (by omega)]
    refine And.intro (vp_in_nI (by omega) (by omega)) (nm_e (nm_r (nI_1 c) (ih (c + 1) n _ (by omega) (by omega) (fun i hi => ?_) (fun i hi => ?_))))
    · by_cases z : i = c
      · subst z; rw [pk_us]; exact h2 i (by omega)
      · rw [pk_un (by omega)]; exact h1 i (by omega)
    · rw [pk_un (by omega)]; exact h2 i hi
end
theorem gr_keep {mode : Nat} {sp lk kd : Nat → Bool} {la lb : Nat → Nat} {tys labs lst grt : Nat → Int32} {mo ss sb sl sg ls lf lt lty lkd pat sb' sl' sg' lf' lt' lty' lkd' pat' : Nat → Int32} (h : gr_P 0 mode sp lk kd la lb tys labs lst grt mo ss sb sl sg ls lf lt lty lkd pat)
    (h4 : ∀ j, j < 4 → sb' (4 + j) = vp_nar .byte (sb j) ∧ sl' (4 + j) = sl j ∧ sg' (4 + j) = sg j) (h5 : ∀ j, j < 4 → lf' (4 + j) = vp_nar .byte (lf j) ∧ lt' (4 + j) = vp_nar .byte (lt j) ∧ lty' (4 + j) = vp_nar .byte (lty j) ∧ lkd' (4 + j) = vp_nar .byte (lkd j)) (h6 : ∀ c, c < 33 → pat' (33 + c) = pat c) :
    gr_P 1 mode sp lk kd la lb tys labs lst grt (upd mo 1 (vp_nar .byte (mo 0))) (upd ss 1 (vp_nar .byte (ss 0))) sb' sl' sg' (upd ls 1 (vp_nar .byte (ls 0))) lf' lt' lty' lkd' pat' := by
  obtain ⟨⟨a1, a2, a3⟩, ⟨b1, b2, b3, b4, b5⟩, ⟨c1, c2, c3, c4, c5, c6, c7⟩, d1, d2⟩ := h
  have e1 : ∀ i, 1 * 4 + i = 4 + i := fun i => by omega
  have e2 : ∀ i, 0 * 4 + i = i := fun i => by omega
  have e3 : ∀ i, 33 * 0 + i = i := fun i => by omega
  have e4 : ∀ i, i < 33 → pat' (33 * 1 + i) = pat (33 * 0 + i) := fun i hi => by rw [e3, show 33 * 1 + i = 33 + i from by omega]; exact h6 i hi
  refine ⟨⟨a1, a2, a3⟩, ⟨?_, ?_, ?_, fun i hi hs => ?_, fun j hj hl => ?_⟩, ⟨c1, ?_, fun i hi => ?_, fun i hi hs => ?_, fun j hj => ?_, fun j hj hl => ?_, c7⟩, d1, d2⟩
  · rw [pk_us, b1, gx_byteN (by omega)]
  · rw [pk_us, b2, vp_nar_byte]; exact gr_byteMk (fun i hi => (a2 i hi).1)
  · rw [pk_us, b3, vp_nar_byte]; exact gr_byteMk (fun i hi => (a2 i hi).2)
  · obtain ⟨f1, f2, f3⟩ := b4 i hi hs
    obtain ⟨g1, g2, g3⟩ := h4 i hi
    obtain ⟨q, q1, q2⟩ := d1 i hi hs
    rw [e2] at f1 f2 f3
    rw [e1, g1, g2, g3, f1, f2, f3, q2, gx_byteN (by omega)]
    exact ⟨rfl, rfl, rfl⟩
  · obtain ⟨f1, f2, f3, f4⟩ := b5 j hj hl
    obtain ⟨g1, g2, g3, g4⟩ := h5 j hj
    obtain ⟨x1, x2, _⟩ := a3 j hj hl
    obtain ⟨q, q1, q2⟩ := d2 j hj hl
    rw [e2] at f1 f2 f3 f4
    rw [e1, g1, g2, g3, g4, f1, f2, f3, f4, q2, gx_byteN (by omega), gx_byteN (by omega), gx_byteN (by omega)]
    refine ⟨rfl, rfl, rfl, ?_⟩
    cases kd j
    · exact gx_byte0
    · exact gx_byteN (j := 1) (by omega)
  · rw [e4 _ (by omega)]; exact c2
  · rw [e4 _ (by omega)]; exact c3 i hi
  · rw [e4 _ (by omega), e4 _ (by omega), e4 _ (by omega)]; exact c4 i hi hs
  · rw [e4 _ (by omega)]; exact c5 j hj
  · rw [e4 _ (by omega), e4 _ (by omega), e4 _ (by omega)]; exact c6 j hj hl
theorem gr_P0_keep {mode : Nat} {sp lk kd : Nat → Bool} {la lb : Nat → Nat} {tys labs lst grt : Nat → Int32} {mo ss sb sl sg ls lf lt lty lkd pat mo' ss' sb' sl' sg' ls' lf' lt' lty' lkd' pat' : Nat → Int32} (h : gr_P 0 mode sp lk kd la lb tys labs lst grt mo ss sb sl sg ls lf lt lty lkd pat) (h1 : mo' 0 = mo 0) (h2 : ss' 0 = ss 0) (h3 : ls' 0 = ls 0) (h4 : ∀ i, i < 4 → sb' i = sb i ∧ sl' i = sl i ∧ sg' i = sg i) (h5 : ∀ i, i < 4 → lf' i = lf i ∧ lt' i = lt i ∧ lty' i = lty i ∧ lkd' i = lkd i) (h6 : ∀ c, c < 33 → pat' c = pat c) :
    gr_P 0 mode sp lk kd la lb tys labs lst grt mo' ss' sb' sl' sg' ls' lf' lt' lty' lkd' pat' := by
  obtain ⟨a, ⟨b1, b2, b3, b4, b5⟩, ⟨c1, c2, c3, c4, c5, c6, c7⟩, d⟩ := h
  refine ⟨a, ⟨by rw [h1]; exact b1, by rw [h2]; exact b2, by rw [h3]; exact b3, fun i hi hs => ?_, fun j hj hl => ?_⟩, ⟨c1, ?_, fun i hi => ?_, fun i hi hs => ?_, fun j hj => ?_, fun j hj hl => ?_, c7⟩, d⟩
  · obtain ⟨e1, e2, e3⟩ := h4 (0 * 4 + i) (by omega)
    rw [e1, e2, e3]; exact b4 i hi hs
  · obtain ⟨e1, e2, e3, e4⟩ := h5 (0 * 4 + j) (by omega)
    rw [e1, e2, e3, e4]; exact b5 j hj hl
  · rw [h6 _ (by omega)]; exact c2
  · rw [h6 _ (by omega)]; exact c3 i hi
  · rw [h6 _ (by omega), h6 _ (by omega), h6 _ (by omega)]; exact c4 i hi hs
  · rw [h6 _ (by omega)]; exact c5 j hj
  · rw [h6 _ (by omega), h6 _ (by omega), h6 _ (by omega)]; exact c6 j hj hl
theorem gr_u10 {f : Nat → Int32} {x : Int32} : upd f 1 x 0 = f 0 := pk_un (by decide)
theorem i_vc_keep {k : Nat} {u : SX} {v : SY} (I : i_Rel k u v) (hk : k + 5 ≤ 2560) : wpX_keep (fun r u' => wpY_keep (fun r' v' => r' = r ∧ i_Rel (k + 5) u' v') v) u := by
  refine gr_el (P := fun u v => wpX_keep (fun r u' => wpY_keep (fun r' v' => r' = r ∧ i_Rel (k + 5) u' v') v) u) I ?_
  intro f_nodeSet f_edgeSet f_sortedCount f_keptCount f_which f_inOrder f_total f_depth f_begun f_assigned f_usedNodes f_edgeLinks a_labelOf a_valueOf a_fromOf a_toOf a_typeOf a_weightOf a_firstPage a_pageUsed a_pageNext a_pageSize a_pageEdge a_labelled a_sorted a_modeOf a_spotSet a_spotLabels a_spotLeast a_spotGreatest a_linkSet a_linkFrom a_linkTo a_linkTypes a_linkKind a_outgoing a_incoming a_allowed a_candidates a_behind a_before a_nodeFor a_levelSpot a_levelLeft a_edgeLink a_choiceLeft a_choice a_pickedEdge f_base f_many a_nodeThere a_labels a_values a_edgeThere a_froms a_tos a_whats a_patterns a_parts a_chosen R
  obtain ⟨th, eth, lab, wh, fr, to, sc, so, hG, ⟨mode, sp, lk, kd, la, lb, tys, labs, lst, grt, hH⟩, hK⟩ := R
  have hG0 := hG
  obtain ⟨rfl, g2, rfl, rfl, rfl, rfl, g7, g8, g9⟩ := hG
  refine nm_e (nm_e (nm_e (Exists.intro 5 (gx_keep38 a_spotLabels a_spotLeast a_spotGreatest (fun sb sl sg s1 s2 => ?_) 4 0 5 a_spotLabels a_spotLeast a_spotGreatest rfl (by omega) (fun j hj => by omega) (fun j _ => ⟨rfl, rfl, rfl⟩)))))
  refine Exists.intro 5 (gx_keep93 a_linkFrom a_linkTo a_linkTypes a_linkKind (fun lf lt ly lkd l1 l2 => ?_) 4 0 5 a_linkFrom a_linkTo a_linkTypes a_linkKind rfl (by omega) (fun j hj => by omega) (fun j _ => ⟨rfl, rfl, rfl, rfl⟩))
  have hP1 : ∀ pat, (∀ c, c < 33 → pat (33 + c) = a_patterns c) → gr_P 1 mode sp lk kd la lb tys labs lst grt (upd a_modeOf 1 (vp_nar .byte (a_modeOf 0))) (upd a_spotSet 1 (vp_nar .byte (a_spotSet 0))) sb sl sg (upd a_linkSet 1 (vp_nar .byte (a_linkSet 0))) lf lt ly lkd pat := fun pat hp => gr_keep hH s1 l1 hp
  have hPx := hP1 (fun c => a_patterns (c - 33)) (fun c _ => by show a_patterns (33 + c - 33) = _; rw [Nat.add_sub_cancel_left])
  refine gx_recount hPx.1 hPx.2.1 g2 (fun q0 q1 q2 q3 q4 q5 q6 q7 q8 q9 q10 q11 q12 q13 q14 q15 q16 q17 q18 q19 => ?_)
  refine Exists.intro 34 (gy_keep2 a_patterns (fun pat p1 p2 => ?_) 33 0 34 a_patterns rfl (by omega) (fun i hi => by omega) (fun i _ => rfl))
  have hPy := hP1 pat p1
  have hS := gr_S0 (w := 1) (by omega) hG0 hPy
  unfold wpY_kept
  refine gy_matches (w := 1) rfl hS (fun parts ch => ?_)
  refine ⟨rfl, ?_⟩
  show gr_R f_nodeSet f_edgeSet (nI sc) (nI (gp_M mode sp lk kd la lb (gp_cd sp th labs lst grt a_valueOf lab) (gp_al lk eth tys wh) fr to)) a_labelOf a_valueOf a_fromOf a_toOf a_typeOf a_weightOf a_firstPage a_pageUsed a_pageNext a_pageSize a_pageEdge a_labelled a_sorted (upd a_modeOf 1 (vp_nar .byte (a_modeOf 0))) (upd a_spotSet 1 (vp_nar .byte (a_spotSet 0))) sb sl sg (upd a_linkSet 1 (vp_nar .byte (a_linkSet 0))) lf lt ly lkd a_nodeThere a_labelOf a_valueOf a_edgeThere a_fromOf a_toOf a_whats pat
  exact ⟨th, eth, lab, wh, fr, to, sc, so, hG0, ⟨_, _, _, _, _, _, _, _, _, _, gr_P0_keep hH gr_u10 gr_u10 gr_u10 s2 l2 p2⟩, ⟨_, _, _, _, _, _, _, _, _, _, hPy, rfl⟩⟩
end
section
/-! weigh, part -/
section
variable {f_nodeSet f_edgeSet f_sortedCount f_keptCount f_which f_inOrder f_total f_depth f_begun f_assigned f_usedNodes f_edgeLinks : Int32} {a_labelOf a_valueOf a_fromOf a_toOf a_typeOf a_weightOf a_firstPage a_pageUsed a_pageNext a_pageSize a_pageEdge a_labelled a_sorted a_modeOf a_spotSet a_spotLabels a_spotLeast a_spotGreatest a_linkSet a_linkFrom a_linkTo a_linkTypes a_linkKind a_outgoing a_incoming a_allowed a_candidates a_behind a_before a_nodeFor a_levelSpot a_levelLeft a_edgeLink a_choiceLeft a_choice a_pickedEdge : Nat → Int32}
variable {mode sc : Nat} {sp lk kd : Nat → Bool} {la lb so : Nat → Nat} {tys labs lst grt : Nat → Int32} {th eth : Nat → Bool} {lab wh fr to : Nat → Nat}
theorem gx_weigh {post : Int32 → SX → Prop} {x1 : Int32} {mx : Bool} (hx1 : x1 = 0 ↔ mx = false) (h0 : ¬ x1 < 0) (h1 : x1 ≤ 1) (hP0 : gx_P0 mode sp lk la lb) (hPT : gx_PT 0 mode sp lk kd la lb tys labs lst grt a_modeOf a_spotSet a_spotLabels a_spotLeast a_spotGreatest a_linkSet a_linkFrom a_linkTo a_linkTypes a_linkKind)
    (hG : gx_Gr th eth lab wh fr to sc so f_nodeSet f_edgeSet a_labelOf a_valueOf a_fromOf a_toOf a_typeOf a_weightOf a_firstPage a_pageUsed a_pageNext a_pageSize a_pageEdge a_labelled a_sorted)
    (hp : ∀ (q0 q1 q2 q3 q4 q5 q6 q7 : Int32) (q8 q9 q10 q11 q12 q13 q14 q15 q16 q17 q18 q19 : Nat → Int32), post (gx_oI (gp_fs (gp_bt mx) none (fun g => some (gp_wt (fun e => wh e / 3) (gb_fl (fun j => lk j && !(kd j)) 0 4) g)) (gp_Y (gy_ft mode sp lk kd la lb tys labs lst grt th eth lab wh fr to a_valueOf) (gp_pl sp lk kd) (fun _ => 50)))) (f_nodeSet, f_edgeSet, nI sc, f_keptCount, q0, q1, q2, q3, q4, q5, q6, q7, a_labelOf, a_valueOf, a_fromOf, a_toOf, a_typeOf, a_weightOf, a_firstPage, a_pageUsed, a_pageNext, a_pageSize, a_pageEdge, a_labelled, a_sorted, a_modeOf, a_spotSet, a_spotLabels, a_spotLeast, a_spotGreatest, a_linkSet, a_linkFrom, a_linkTo, a_linkTypes, a_linkKind, q8, q9, q10, q11, q12, q13, q14, q15, q16, q17, q18, q19, a_pickedEdge)) :
    wpX_weigh post (f_nodeSet, f_edgeSet, nI sc, f_keptCount, f_which, f_inOrder, f_total, f_depth, f_begun, f_assigned, f_usedNodes, f_edgeLinks, a_labelOf, a_valueOf, a_fromOf, a_toOf, a_typeOf, a_weightOf, a_firstPage, a_pageUsed, a_pageNext, a_pageSize, a_pageEdge, a_labelled, a_sorted, a_modeOf, a_spotSet, a_spotLabels, a_spotLeast, a_spotGreatest, a_linkSet, a_linkFrom, a_linkTo, a_linkTypes, a_linkKind, a_outgoing, a_incoming, a_allowed, a_candidates, a_behind, a_before, a_nodeFor, a_levelSpot, a_levelLeft, a_edgeLink, a_choiceLeft, a_choice, a_pickedEdge) x1 := by
  refine br_f h0 (br_t h1 ?_)
  refine gx_prepare (w := 0) (by omega) hP0 hPT hG (fun q out inc alw elk cand bh bf hR hb => ?_)
  obtain ⟨r1, r2, r3, r4, r5, r6⟩ := hR
  obtain ⟨c1, c2, c3, c4, c5⟩ := gx_ctx (w := 0) (by omega) hP0 hPT hG.1 hG.2.1 (fun e he => (hG.2.2.2.2.2.1 e he).2) r1 r2 r3 gp_al_2 r6 r5 hb
  rw [r4, c4, c5]
  have ht4 : (gp_us sp (fun _ => 50)).length ≤ 4 := gb_fl_len _ _ _
  have hlen := gp_L_len (gp_ft (gp_cd sp th labs lst grt a_valueOf lab) (decide (mode % 2 = 1)) lk la lb (gp_cn (gp_al lk eth tys wh) kd fr to)) (gp_pk false sp (gp_ft (gp_cd sp th labs lst grt a_valueOf lab) (decide (mode % 2 = 1)) lk la lb (gp_cn (gp_al lk eth tys wh) kd fr to))) (gp_us sp (fun _ => 50)).length (fun _ => 50)
  have h12 : 12 ^ (gp_us sp (fun _ => 50)).length ≤ 12 ^ 4 := Nat.pow_le_pow_right (by decide) ht4
  refine Exists.intro 20800 (gx_wg20 (io := false) (mx := mx) (wt := fun e => wh e / 3) rfl ⟨fun _ => rfl, fun _ => rfl⟩ hx1 (fun e he => (hG.2.2.2.2.2.2.2.1 e he).2) (fun e => by have := hG.2.2.2.2.2.2.2.2.1 e; show wh e / 3 ≤ 20; omega) c1 c2 (gb_fl_nd _ _ _) c3 _ none 0 20800 _ _ _ _ _ _ _ _ _ (Or.inl ⟨rfl, rfl⟩) (by omega) (by omega) (fun v hv => by cases hv) (fun dp bg asg us nf lsp llf chl ch => ?_))
  have hfold := gp_fold (sp := sp) (lk := lk) (kd := kd) (la := la) (lb := lb) (cd := gp_cd sp th labs lst grt a_valueOf lab) (cn := gp_cn (gp_al lk eth tys wh) kd fr to) (md := decide (mode % 2 = 1)) (md2 := decide (2 ≤ mode)) (al := gp_al lk eth tys wh) (fr := fr) (to := to) (gp_bt_cm mx) (fun g => some (gp_wt (fun e => wh e / 3) (gb_fl (fun j => lk j && !(kd j)) 0 4) g)) false (fun j hj hl => ⟨(hP0.2.2 j hj hl).1, (hP0.2.2 j hj hl).2.1⟩) (fun j n m hj hl hk h => gp_cn_0 hk h)
  rw [gp_ps_lp]
  have e : gp_bt mx none (gp_fs (gp_bt mx) none (fun b => gp_fs (gp_bt mx) none (fun g' => some (gp_wt (fun e => wh e / 3) (gb_fl (fun j => lk j && !(kd j)) 0 4) g')) (gp_Y (gp_ef (gp_al lk eth tys wh) fr to (decide (2 ≤ mode)) la lb) (gp_lp lk kd) b)) (gp_L (gp_ft (gp_cd sp th labs lst grt a_valueOf lab) (decide (mode % 2 = 1)) lk la lb (gp_cn (gp_al lk eth tys wh) kd fr to)) (gp_pk false sp (gp_ft (gp_cd sp th labs lst grt a_valueOf lab) (decide (mode % 2 = 1)) lk la lb (gp_cn (gp_al lk eth tys wh) kd fr to))) (gp_us sp (fun _ => 50)).length (fun _ => 50))) = gp_fs (gp_bt mx) none (fun g => some (gp_wt (fun e => wh e / 3) (gb_fl (fun j => lk j && !(kd j)) 0 4) g)) (gp_Y (gy_ft mode sp lk kd la lb tys labs lst grt th eth lab wh fr to a_valueOf) (gp_pl sp lk kd) (fun _ => 50)) := hfold
  rw [e]
  exact hp _ _ _ _ _ _ _ _ _ _ _ _ _ _ _ _ _ _ _ _
theorem gx_find {post : Int32 → SX → Prop} {K : Nat} (hK : K < 1000) (hP0 : gx_P0 mode sp lk la lb) (hPT : gx_PT 0 mode sp lk kd la lb tys labs lst grt a_modeOf a_spotSet a_spotLabels a_spotLeast a_spotGreatest a_linkSet a_linkFrom a_linkTo a_linkTypes a_linkKind)
    (hG : gx_Gr th eth lab wh fr to sc so f_nodeSet f_edgeSet a_labelOf a_valueOf a_fromOf a_toOf a_typeOf a_weightOf a_firstPage a_pageUsed a_pageNext a_pageSize a_pageEdge a_labelled a_sorted)
    (H0 : (gp_Y (gy_ft mode sp lk kd la lb tys labs lst grt th eth lab wh fr to a_valueOf) (gp_pl sp lk kd) (fun _ => 50))[K]? = none → ∀ (q0 q1 q2 q3 q4 q5 q6 q7 : Int32) (q8 q9 q10 q11 q12 q13 q14 q15 q16 q17 q18 q19 : Nat → Int32) (pke : Nat → Int32), post 0 (f_nodeSet, f_edgeSet, nI sc, f_keptCount, q0, q1, q2, q3, q4, q5, q6, q7, a_labelOf, a_valueOf, a_fromOf, a_toOf, a_typeOf, a_weightOf, a_firstPage, a_pageUsed, a_pageNext, a_pageSize, a_pageEdge, a_labelled, a_sorted, a_modeOf, a_spotSet, a_spotLabels, a_spotLeast, a_spotGreatest, a_linkSet, a_linkFrom, a_linkTo, a_linkTypes, a_linkKind, q8, q9, q10, q11, q12, q13, q14, q15, q16, q17, q18, q19, pke))
    (H1 : ∀ G, (gp_Y (gy_ft mode sp lk kd la lb tys labs lst grt th eth lab wh fr to a_valueOf) (gp_pl sp lk kd) (fun _ => 50))[K]? = some G → ∀ (q0 q1 q2 q3 q4 q5 q6 q7 : Int32) (q8 q9 q10 q11 q12 q13 q14 q15 q16 q17 q18 q19 : Nat → Int32) (pke : Nat → Int32), (∀ i, i < 4 → sp i = true → q14 i = nI (G i)) → (∀ j, j < 4 → lk j = true → kd j = false → pke j = nI (G (4 + j))) → post 1 (f_nodeSet, f_edgeSet, nI sc, f_keptCount, q0, q1, q2, q3, q4, q5, q6, q7, a_labelOf, a_valueOf, a_fromOf, a_toOf, a_typeOf, a_weightOf, a_firstPage, a_pageUsed, a_pageNext, a_pageSize, a_pageEdge, a_labelled, a_sorted, a_modeOf, a_spotSet, a_spotLabels, a_spotLeast, a_spotGreatest, a_linkSet, a_linkFrom, a_linkTo, a_linkTypes, a_linkKind, q8, q9, q10, q11, q12, q13, q14, q15, q16, q17, q18, q19, pke)) :
    wpX_find post (f_nodeSet, f_edgeSet, nI sc, f_keptCount, f_which, f_inOrder, f_total, f_depth, f_begun, f_assigned, f_usedNodes, f_edgeLinks, a_labelOf, a_valueOf, a_fromOf, a_toOf, a_typeOf, a_weightOf, a_firstPage, a_pageUsed, a_pageNext, a_pageSize, a_pageEdge, a_labelled, a_sorted, a_modeOf, a_spotSet, a_spotLabels, a_spotLeast, a_spotGreatest, a_linkSet, a_linkFrom, a_linkTo, a_linkTypes, a_linkKind, a_outgoing, a_incoming, a_allowed, a_candidates, a_behind, a_before, a_nodeFor, a_levelSpot, a_levelLeft, a_edgeLink, a_choiceLeft, a_choice, a_pickedEdge) (nI K) := by
  unfold wpX_find
  refine gx_prepare (w := 0) (by omega) hP0 hPT hG (fun q out inc alw elk cand bh bf hR hb => ?_)
  obtain ⟨r1, r2, r3, r4, r5, r6⟩ := hR
  obtain ⟨c1, c2, c3, c4, c5⟩ := gx_ctx (w := 0) (by omega) hP0 hPT hG.1 hG.2.1 (fun e he => (hG.2.2.2.2.2.1 e he).2) r1 r2 r3 gp_al_2 r6 r5 hb
  rw [r4, c4, c5]
  have ht4 : (gp_us sp (fun _ => 50)).length ≤ 4 := gb_fl_len _ _ _
  have hlen := gp_L_len (gp_ft (gp_cd sp th labs lst grt a_valueOf lab) (decide (mode % 2 = 1)) lk la lb (gp_cn (gp_al lk eth tys wh) kd fr to)) (gp_pk true sp (gp_ft (gp_cd sp th labs lst grt a_valueOf lab) (decide (mode % 2 = 1)) lk la lb (gp_cn (gp_al lk eth tys wh) kd fr to))) (gp_us sp (fun _ => 50)).length (fun _ => 50)
  have h12 : 12 ^ (gp_us sp (fun _ => 50)).length ≤ 12 ^ 4 := Nat.pow_le_pow_right (by decide) ht4
  have hML : (gp_L (gp_ft (gp_cd sp th labs lst grt a_valueOf lab) (decide (mode % 2 = 1)) lk la lb (gp_cn (gp_al lk eth tys wh) kd fr to)) (gp_pk true sp (gp_ft (gp_cd sp th labs lst grt a_valueOf lab) (decide (mode % 2 = 1)) lk la lb (gp_cn (gp_al lk eth tys wh) kd fr to))) (gp_us sp (fun _ => 50)).length (fun _ => 50)).flatMap (gp_Y (gp_ef (gp_al lk eth tys wh) fr to (decide (2 ≤ mode)) la lb) (gp_ps (gb_fl (fun j => lk j && !(kd j)) 0 4) 0)) = gp_Y (gy_ft mode sp lk kd la lb tys labs lst grt th eth lab wh fr to a_valueOf) (gp_pl sp lk kd) (fun _ => 50) := by
    rw [gp_ps_lp, gp_L_in _ _ rfl]
    exact (gp_ML_eq (fun j hj hl => ⟨(hP0.2.2 j hj hl).1, (hP0.2.2 j hj hl).2.1⟩) (fun j n m hj hl hk h => gp_cn_0 hk h)).symm
  refine Exists.intro 20800 (gx_fd14 (io := true) rfl ⟨fun z => absurd z (by decide), fun z => by cases z⟩ c1 c2 (gb_fl_nd _ _ _) c3 _ K 0 20800 _ _ _ _ _ _ _ _ _ _ (Or.inl ⟨rfl, rfl⟩) (by omega) (by omega) (by omega) (fun hz dp bg asg us nf lsp llf chl ch pke => ?_) (fun G hz dp bg asg us nf lsp llf chl ch pke n1 n2 => ?_))
  · rw [hML] at hz
    exact H0 hz _ _ _ _ _ _ _ _ _ _ _ _ _ _ _ _ _ _ _ _ pke
  · rw [hML] at hz
    refine H1 G hz _ _ _ _ _ _ _ _ _ _ _ _ _ _ nf _ _ _ _ _ pke n1 (fun j hj hl hk => ?_)
    have hmem : j ∈ gb_fl (fun j => lk j && !(kd j)) 0 4 := gb_fl_m.mpr ⟨by omega, by omega, by rw [hl, hk]; rfl⟩
    obtain ⟨i, hi⟩ := List.mem_iff_getElem?.mp hmem
    exact n2 i j hi
end
theorem i_vc_weigh {k : Nat} {u : SX} {v : SY} (I : i_Rel k u v) (hk : k + 5 ≤ 2560) (v1 : Int32) : wpX_weigh (fun r u' => wpY_weigh (fun r' v' => r' = r ∧ i_Rel (k + 5) u' v') v v1) u v1 := by
  refine gr_el (P := fun u v => wpX_weigh (fun r u' => wpY_weigh (fun r' v' => r' = r ∧ i_Rel (k + 5) u' v') v v1) u v1) I ?_
  intro f_nodeSet f_edgeSet f_sortedCount f_keptCount f_which f_inOrder f_total f_depth f_begun f_assigned f_usedNodes f_edgeLinks a_labelOf a_valueOf a_fromOf a_toOf a_typeOf a_weightOf a_firstPage a_pageUsed a_pageNext a_pageSize a_pageEdge a_labelled a_sorted a_modeOf a_spotSet a_spotLabels a_spotLeast a_spotGreatest a_linkSet a_linkFrom a_linkTo a_linkTypes a_linkKind a_outgoing a_incoming a_allowed a_candidates a_behind a_before a_nodeFor a_levelSpot a_levelLeft a_edgeLink a_choiceLeft a_choice a_pickedEdge f_base f_many a_nodeThere a_labels a_values a_edgeThere a_froms a_tos a_whats a_patterns a_parts a_chosen R
  have R0 := R
  obtain ⟨th, eth, lab, wh, fr, to, sc, so, hG, ⟨mode, sp, lk, kd, la, lb, tys, labs, lst, grt, hP⟩, hH⟩ := R
  have hS := gr_S0 (w := 0) (by omega) hG hP
  obtain ⟨rfl, g2, rfl, rfl, rfl, rfl, g7, g8, g9⟩ := hG
  have hwb : ∀ e, wh e / 3 ≤ 20 := fun e => by have := g2.2.2.2.2.2.2.2.2.1 e; omega
  have bad : (¬ v1 = 0) → (¬ v1 = 1) → wpY_weigh (fun r' v' => r' = -1 ∧ i_Rel (k + 5) (f_nodeSet, f_edgeSet, nI sc, f_keptCount, f_which, f_inOrder, f_total, f_depth, f_begun, f_assigned, f_usedNodes, f_edgeLinks, a_labelOf, a_valueOf, a_fromOf, a_toOf, a_typeOf, a_weightOf, a_firstPage, a_pageUsed, a_pageNext, a_pageSize, a_pageEdge, a_labelled, a_sorted, a_modeOf, a_spotSet, a_spotLabels, a_spotLeast, a_spotGreatest, a_linkSet, a_linkFrom, a_linkTo, a_linkTypes, a_linkKind, a_outgoing, a_incoming, a_allowed, a_candidates, a_behind, a_before, a_nodeFor, a_levelSpot, a_levelLeft, a_edgeLink, a_choiceLeft, a_choice, a_pickedEdge) v') (f_base, f_many, a_nodeThere, a_labelOf, a_valueOf, a_edgeThere, a_fromOf, a_toOf, a_whats, a_patterns, a_parts, a_chosen) v1 := by
    intro z0 z1
    exact br_f z0 (br_f z1 (Exists.intro 1 (br_t rfl ⟨rfl, R0⟩)))
  rcases gr_cmp v1 1 (by omega) with h | ⟨h1, h2, h3, h4⟩ | ⟨w, hw, rfl, h1, h2, h3, h4⟩
  · refine br_t h (bad (fun z => ?_) (fun z => ?_)) <;> rw [z] at h <;> exact absurd h (by decide)
  · refine br_f h1 (br_f h4 (bad (fun z => ?_) (fun z => ?_)))
    · rw [z] at h4; exact h4 (by decide)
    · rw [z] at h4; exact h4 (by decide)
  · have hx : nI w = 0 ↔ decide (w = 1) = false := by
      have : w = 0 ∨ w = 1 := by omega
      rcases this with rfl | rfl <;> decide
    refine gx_weigh (mx := decide (w = 1)) hx h1 h4 hP.1 hP.2.1 g2 (fun q0 q1 q2 q3 q4 q5 q6 q7 q8 q9 q10 q11 q12 q13 q14 q15 q16 q17 q18 q19 => ?_)
    have key := gy_weigh11 (post := fun r' v' => r' = gx_oI (gp_fs (gp_bt (decide (w = 1))) none (fun g => some (gp_wt (fun e => wh e / 3) (gb_fl (fun j => lk j && !(kd j)) 0 4) g)) (gp_Y (gy_ft mode sp lk kd la lb tys labs lst grt th eth lab wh fr to a_valueOf) (gp_pl sp lk kd) (fun _ => 50))) ∧ i_Rel (k + 5) (f_nodeSet, f_edgeSet, nI sc, f_keptCount, q0, q1, q2, q3, q4, q5, q6, q7, a_labelOf, a_valueOf, a_fromOf, a_toOf, a_typeOf, a_weightOf, a_firstPage, a_pageUsed, a_pageNext, a_pageSize, a_pageEdge, a_labelled, a_sorted, a_modeOf, a_spotSet, a_spotLabels, a_spotLeast, a_spotGreatest, a_linkSet, a_linkFrom, a_linkTo, a_linkTypes, a_linkKind, q8, q9, q10, q11, q12, q13, q14, q15, q16, q17, q18, q19, a_pickedEdge) v') (f_base := f_base) (f_many := f_many) (a_parts := a_parts) (a_chosen := a_chosen) (x1 := nI w) rfl hx hwb hS (fun parts ch => ⟨rfl, R0⟩)
    refine br_c (fun _ => key) (fun z => br_t ?_ key)
    have : w ≠ 0 := fun e => z (by rw [e]; rfl)
    rw [show w = 1 from by omega]; rfl
theorem i_vc_part {k : Nat} {u : SX} {v : SY} (I : i_Rel k u v) (hk : k + 5 ≤ 2560) (v1 : Int32) (v2 : Int32) : wpX_part (fun r u' => wpY_part (fun r' v' => r' = r ∧ i_Rel (k + 5) u' v') v v1 v2) u v1 v2 := by
  refine gr_el (P := fun u v => wpX_part (fun r u' => wpY_part (fun r' v' => r' = r ∧ i_Rel (k + 5) u' v') v v1 v2) u v1 v2) I ?_
  intro f_nodeSet f_edgeSet f_sortedCount f_keptCount f_which f_inOrder f_total f_depth f_begun f_assigned f_usedNodes f_edgeLinks a_labelOf a_valueOf a_fromOf a_toOf a_typeOf a_weightOf a_firstPage a_pageUsed a_pageNext a_pageSize a_pageEdge a_labelled a_sorted a_modeOf a_spotSet a_spotLabels a_spotLeast a_spotGreatest a_linkSet a_linkFrom a_linkTo a_linkTypes a_linkKind a_outgoing a_incoming a_allowed a_candidates a_behind a_before a_nodeFor a_levelSpot a_levelLeft a_edgeLink a_choiceLeft a_choice a_pickedEdge f_base f_many a_nodeThere a_labels a_values a_edgeThere a_froms a_tos a_whats a_patterns a_parts a_chosen R
  have R0 := R
  obtain ⟨th, eth, lab, wh, fr, to, sc, so, hG, ⟨mode, sp, lk, kd, la, lb, tys, labs, lst, grt, hP⟩, hH⟩ := R
  have hS := gr_S0 (w := 0) (by omega) hG hP
  obtain ⟨rfl, g2, rfl, rfl, rfl, rfl, g7, g8, g9⟩ := hG
  rcases gr_cmp v1 999 (by omega) with h | ⟨h1, h2, h3, h4⟩ | ⟨K, hK, rfl, h1, h2, h3, h4⟩
  · exact br_t h (br_t h (gy_part0 ⟨rfl, R0⟩))
  · exact br_f h1 (br_t h2 (br_f h1 (br_t h3 (gy_part0 ⟨rfl, R0⟩))))
  · rcases gr_cmp v2 7 (by omega) with g | ⟨g1, g2', g3, g4⟩ | ⟨p, hp, rfl, g1, g2', g3, g4⟩
    · exact br_f h1 (br_f h2 (br_t g (br_f h1 (br_f h3 (br_t g (gy_part0 ⟨rfl, R0⟩))))))
    · exact br_f h1 (br_f h2 (br_f g1 (br_f g4 (br_f h1 (br_f h3 (br_f g1 (br_t g3 (gy_part0 ⟨rfl, R0⟩))))))))
    · refine br_f h1 (br_f h2 (br_f g1 (br_t g4 ?_)))
      have no : p ∉ gp_pl sp lk kd → wX_part_64 (fun r u' => wpY_part (fun r' v' => r' = r ∧ i_Rel (k + 5) u' v') (f_base, f_many, a_nodeThere, a_labelOf, a_valueOf, a_edgeThere, a_fromOf, a_toOf, a_whats, a_patterns, a_parts, a_chosen) (nI K) (nI p)) (nI K) (nI p) 0 f_nodeSet f_edgeSet (nI sc) f_keptCount f_which f_inOrder f_total f_depth f_begun f_assigned f_usedNodes f_edgeLinks a_labelOf a_valueOf a_fromOf a_toOf a_typeOf a_weightOf a_firstPage a_pageUsed a_pageNext a_pageSize a_pageEdge a_labelled a_sorted a_modeOf a_spotSet a_spotLabels a_spotLeast a_spotGreatest a_linkSet a_linkFrom a_linkTo a_linkTypes a_linkKind a_outgoing a_incoming a_allowed a_candidates a_behind a_before a_nodeFor a_levelSpot a_levelLeft a_edgeLink a_choiceLeft a_choice a_pickedEdge := by
        intro hm
        refine br_t rfl (gy_part (mode := mode) rfl (by omega) (by omega) hS (fun _ parts ch => ⟨rfl, R0⟩) (fun G _ hm2 => absurd hm2 hm) (fun _ parts ch => ⟨rfl, R0⟩))
      have yes : p ∈ gp_pl sp lk kd → wX_part_64 (fun r u' => wpY_part (fun r' v' => r' = r ∧ i_Rel (k + 5) u' v') (f_base, f_many, a_nodeThere, a_labelOf, a_valueOf, a_edgeThere, a_fromOf, a_toOf, a_whats, a_patterns, a_parts, a_chosen) (nI K) (nI p)) (nI K) (nI p) 1 f_nodeSet f_edgeSet (nI sc) f_keptCount f_which f_inOrder f_total f_depth f_begun f_assigned f_usedNodes f_edgeLinks a_labelOf a_valueOf a_fromOf a_toOf a_typeOf a_weightOf a_firstPage a_pageUsed a_pageNext a_pageSize a_pageEdge a_labelled a_sorted a_modeOf a_spotSet a_spotLabels a_spotLeast a_spotGreatest a_linkSet a_linkFrom a_linkTo a_linkTypes a_linkKind a_outgoing a_incoming a_allowed a_candidates a_behind a_before a_nodeFor a_levelSpot a_levelLeft a_edgeLink a_choiceLeft a_choice a_pickedEdge := by
        intro hm
        refine br_f (by decide) (gx_find (by omega) hP.1 hP.2.1 g2 (fun hz q0 q1 q2 q3 q4 q5 q6 q7 q8 q9 q10 q11 q12 q13 q14 q15 q16 q17 q18 q19 pke => br_t rfl ?_) (fun G hz q0 q1 q2 q3 q4 q5 q6 q7 q8 q9 q10 q11 q12 q13 q14 q15 q16 q17 q18 q19 pke n1 n2 => br_f (by decide) ?_))
        · exact gy_part (mode := mode) rfl (by omega) (by omega) hS (fun _ parts ch => ⟨rfl, R0⟩) (fun G hG2 _ => by rw [hz] at hG2; cases hG2) (fun hm2 => absurd hm hm2)
        · have yp : ∀ (x : Int32) (u' : SX), x = nI (G p) → (∀ parts ch, i_Rel (k + 5) u' (nI (33 * 0), nI (gp_pl sp lk kd).length, a_nodeThere, a_labelOf, a_valueOf, a_edgeThere, a_fromOf, a_toOf, a_whats, a_patterns, parts, ch)) → wpY_part (fun r' v' => r' = x ∧ i_Rel (k + 5) u' v') (f_base, f_many, a_nodeThere, a_labelOf, a_valueOf, a_edgeThere, a_fromOf, a_toOf, a_whats, a_patterns, a_parts, a_chosen) (nI K) (nI p) := by
            intro x u' hx hr
            refine gy_part (mode := mode) rfl (by omega) (by omega) hS (fun hn => by rw [hz] at hn; cases hn) (fun G' hG' _ parts ch => ?_) (fun hm2 => absurd hm hm2)
            rw [hz] at hG'
            injection hG' with hG'
            exact ⟨by rw [hx, hG'], hr parts ch⟩
          refine pk_le 4 p (fun h => ?_) (fun h => ?_)
          · have e4 : nI p - 4 = nI (p - 4) := by rw [show (4 : Int32) = nI 4 from rfl, pk_sub h]
            rw [e4]
            refine And.intro (vp_in_nI (by omega) (by omega)) ?_
            rw [nI_clamp (n := p - 4) (by omega)]
            refine yp _ _ ?_ (fun parts ch => R0)
            rcases gp_pl_m.mp hm with ⟨hlt, _⟩ | ⟨j, hj, j4, hl, hkd⟩
            · omega
            · have := n2 j j4 hl hkd
              rw [hj, show 4 + j - 4 = j from by omega]; exact this
          · refine And.intro (vp_in_nI h (by omega)) ?_
            rw [nI_clamp (n := p) (by omega)]
            refine yp _ _ ?_ (fun parts ch => R0)
            rcases gp_pl_m.mp hm with ⟨hlt, hs⟩ | ⟨j, hj, j4, hl, hkd⟩
            · exact n1 p hlt hs
            · omega
      have hsp : ∀ i, i < 4 → bt (a_spotSet 0) i = sp i := fun i hi => by rw [hP.2.1.2.1, gb_mk_l _ (by omega)]
      have hlk : ∀ i, i < 4 → bt (a_linkSet 0) i = lk i := fun i hi => by rw [hP.2.1.2.2.1, gb_mk_l _ (by omega)]
      refine pk_le 4 p (fun h => ?_) (fun h => ?_)
      · have e4 : nI p - 4 = nI (p - 4) := by rw [show (4 : Int32) = nI 4 from rfl, pk_sub h]
        rw [e4]
        refine gx_isLinkB (p := 0) (by omega) (by omega) (fun z => no (fun hm => ?_)) (fun z => And.intro (vp_in_nI (by omega) (by omega)) ?_)
        · rw [hlk _ (by omega)] at z
          rcases gp_pl_m.mp hm with ⟨hlt, _⟩ | ⟨j, hj, j4, hl, hkd⟩
          · omega
          · rw [hj, show 4 + j - 4 = j from by omega, hl] at z; cases z
        · rw [hlk _ (by omega)] at z
          have hkd := (hP.2.1.2.2.2.2 (p - 4) (by omega) z).2.2.2
          rw [Nat.zero_mul, Nat.zero_add] at hkd
          rw [nI_clamp (n := p - 4) (by omega), hkd]
          refine br_c (fun y => yes (gp_pl_m.mpr (Or.inr ⟨p - 4, by omega, by omega, z, ?_⟩))) (fun y => no (fun hm => ?_))
          · cases hc : kd (p - 4)
            · rfl
            · rw [hc] at y; exact absurd y (by decide)
          · rcases gp_pl_m.mp hm with ⟨hlt, _⟩ | ⟨j, hj, j4, hl, hkd2⟩
            · omega
            · rw [hj, show 4 + j - 4 = j from by omega, hkd2] at y; exact y rfl
      · refine gx_isSpot (p := 0) (by omega) h (fun z => no (fun hm => ?_)) (fun z => yes (gp_pl_m.mpr (Or.inl ⟨h, by rw [← hsp p h]; exact z⟩)))
        rw [hsp p h] at z
        rcases gp_pl_m.mp hm with ⟨_, hs⟩ | ⟨j, hj, j4, hl, hkd⟩
        · rw [hs] at z; cases z
        · omega
end
section
/-! addNode, setNode -/
theorem gr_byteV {x : Int32} (h1 : ¬ x < -99) (h2 : ¬ 99 < x) : vp_nar .byte x.toInt8.toInt32 = x := by
  rw [pk_vb]
  have e1 : (-99 : Int32).toInt = -99 := by decide
  have e2 : (99 : Int32).toInt = 99 := by decide
  rw [Int32.lt_iff_toInt_lt] at h1 h2
  exact lg_i2b_small (by omega) (by omega)
theorem gx_So_v {th : Nat → Bool} {sc m : Nat} {so : Nat → Nat} {srt val : Nat → Int32} {x : Int32} (h : gx_So th sc so srt val) (hm : th m = false) : gx_So th sc so srt (upd val m x) := by
  obtain ⟨s1, s2, s3, s4, s5⟩ := h
  refine ⟨s1, s2, s3, s4, fun i j hij hj => ?_⟩
  have hne : ∀ i, i < sc → so i ≠ m := fun i hi z => by have := (s2 i hi).2.2; rw [z, hm] at this; cases this
  rw [pk_un (hne i (by omega)), pk_un (hne j hj)]
  exact s5 i j hij hj
def gr_up (f : Nat → Nat) (m x : Nat) : Nat → Nat := fun k => if k = m then x else f k
theorem gr_Nm_up {a : Nat → Int32} {f : Nat → Nat} {N B m x : Nat} (h : gx_Nm a f N B) (hx : x < B) : gx_Nm (upd a m (nI x)) (gr_up f m x) N B := by
  intro e he
  unfold gr_up
  by_cases z : e = m
  · rw [z, pk_us, if_pos rfl]; exact ⟨rfl, hx⟩
  · rw [pk_un z, if_neg z]; exact h e he
theorem gr_Nz_up {a : Nat → Int32} {f : Nat → Bool} {N m : Nat} (h : gy_Nz a f N) : gy_Nz (upd a m 1) (fun k => f k || decide (k = m)) N := by
  intro e he
  by_cases z : e = m
  · rw [z, pk_us]; simp
  · dsimp only
    rw [pk_un z, decide_eq_false z, Bool.or_false]; exact h e he
section
variable {f_nodeSet f_edgeSet f_sortedCount f_keptCount f_which f_inOrder f_total f_depth f_begun f_assigned f_usedNodes f_edgeLinks : Int32} {a_labelOf a_valueOf a_fromOf a_toOf a_typeOf a_weightOf a_firstPage a_pageUsed a_pageNext a_pageSize a_pageEdge a_labelled a_sorted a_modeOf a_spotSet a_spotLabels a_spotLeast a_spotGreatest a_linkSet a_linkFrom a_linkTo a_linkTypes a_linkKind a_outgoing a_incoming a_allowed a_candidates a_behind a_before a_nodeFor a_levelSpot a_levelLeft a_edgeLink a_choiceLeft a_choice a_pickedEdge : Nat → Int32}
variable {sc : Nat} {so : Nat → Nat} {th eth : Nat → Bool} {lab wh fr to : Nat → Nat}
/-- the graph with a node more, behind index -/
theorem gr_G_add {f_nodeSet f_edgeSet : Int32} {m l sc' : Nat} {so' : Nat → Nat} {vlo srt lbd : Nat → Int32} {thb : Nat → Bool} (hm : m < 12) (hl : l < 4)
    (hG : gx_Gr th eth lab wh fr to sc so f_nodeSet f_edgeSet a_labelOf a_valueOf a_fromOf a_toOf a_typeOf a_weightOf a_firstPage a_pageUsed a_pageNext a_pageSize a_pageEdge a_labelled a_sorted)
    (hb1 : ∀ q, q ≠ m → thb q = th q) (hb2 : thb m = false) (hlbd : ∀ t, t < 4 → lbd t = gb_mk (fun q => thb q && decide (lab q = t))) (hS : gx_So (fun q => thb q || decide (q = m)) sc' so' srt vlo) :
    gx_Gr (fun q => thb q || decide (q = m)) eth (gr_up lab m l) wh fr to sc' so' (f_nodeSet ||| ((1 : Int32) <<< (nI m &&& 31))) f_edgeSet (upd a_labelOf m (nI l)) vlo a_fromOf a_toOf a_typeOf a_weightOf a_firstPage a_pageUsed a_pageNext a_pageSize a_pageEdge (upd lbd l (lbd l ||| ((1 : Int32) <<< (nI m &&& 31)))) srt := by
  obtain ⟨x1, x2, x3, x4, x5, x6, x7, x8, x9, x10, x11, x12⟩ := hG
  refine ⟨?_, fun n hn => ?_, x3, x4, gr_Nm_up x5 hl, x6, x7, x8, x9, x10, fun t ht => ?_, hS⟩
  · rw [x1]
    apply gb_mk_of
    intro q hq
    rw [b_or, gb_mk_l _ hq, gb_one (by omega)]
    by_cases z : q = m
    · rw [decide_eq_true z]; simp
    · rw [hb1 q z]
  · rw [Bool.or_eq_true, decide_eq_true_eq] at hn
    by_cases z : n = m
    · omega
    · rcases hn with hn | hn
      · rw [hb1 n z] at hn; exact x2 n hn
      · omega
  · by_cases z : t = l
    · rw [z, pk_us, hlbd l hl]
      apply gb_mk_of
      intro q hq
      rw [b_or, gb_mk_l _ hq, gb_one (by omega)]
      unfold gr_up
      by_cases y : q = m
      · rw [y, if_pos rfl, hb2]; simp
      · rw [if_neg y]; simp [y]
    · rw [pk_un z, hlbd t ht]
      apply gb_mk_e
      intro q _
      unfold gr_up
      by_cases y : q = m
      · rw [y, if_pos rfl, hb2]
        have : decide (l = t) = false := decide_eq_false (fun w => z w.symm)
        rw [this]; simp
      · rw [if_neg y]; simp [y]
end
section
variable {f_nodeSet f_edgeSet f_sortedCount f_keptCount f_which f_inOrder f_total f_depth f_begun f_assigned f_usedNodes f_edgeLinks : Int32} {a_labelOf a_valueOf a_fromOf a_toOf a_typeOf a_weightOf a_firstPage a_pageUsed a_pageNext a_pageSize a_pageEdge a_labelled a_sorted a_modeOf a_spotSet a_spotLabels a_spotLeast a_spotGreatest a_linkSet a_linkFrom a_linkTo a_linkTypes a_linkKind a_outgoing a_incoming a_allowed a_candidates a_behind a_before a_nodeFor a_levelSpot a_levelLeft a_edgeLink a_choiceLeft a_choice a_pickedEdge : Nat → Int32}
theorem gx_isNodeData {post : Int32 → Prop} {x y : Int32} (h1 : ∀ l, l < 4 → x = nI l → ¬ y < -99 → ¬ 99 < y → post 1) (h0 : (∀ l, l < 4 → x = nI l → ¬ y < -99 → ¬ 99 < y → False) → post 0) : wpX_isNodeData post x y := by
  rcases gr_cmp x 3 (by omega) with h | ⟨a1, a2, a3, a4⟩ | ⟨l, hl, rfl, a1, a2, a3, a4⟩
  · exact br_t h (h0 (fun l hl e => by rw [e] at h; exact absurd h (nI_pos (by omega))))
  · exact br_f a1 (br_t a2 (h0 (fun l hl e => by rw [e] at a2; exact absurd a2 (nI_ge hl (by omega)))))
  · exact br_f a1 (br_f a2 (br_c (fun z => h0 (fun _ _ _ w _ => w z)) (fun z => br_c (fun w => h0 (fun _ _ _ _ w' => w' w)) (fun w => h1 l (by omega) rfl z w))))
end
section
variable {f_base f_many : Int32} {a_nodeThere a_labels a_values a_edgeThere a_froms a_tos a_whats a_patterns a_parts a_chosen : Nat → Int32}
theorem gy_fine {post : Int32 → Prop} {x y : Int32} (h1 : ∀ l, l < 4 → x = nI l → ¬ y < -99 → ¬ 99 < y → post 1) (h0 : (∀ l, l < 4 → x = nI l → ¬ y < -99 → ¬ 99 < y → False) → post 0) : wpY_fine post (f_base, f_many, a_nodeThere, a_labels, a_values, a_edgeThere, a_froms, a_tos, a_whats, a_patterns, a_parts, a_chosen) x y := by
  rcases gr_cmp x 3 (by omega) with h | ⟨a1, a2, a3, a4⟩ | ⟨l, hl, rfl, a1, a2, a3, a4⟩
  · exact br_t h (h0 (fun l hl e => by rw [e] at h; exact absurd h (nI_pos (by omega))))
  · exact br_f a1 (br_t a3 (h0 (fun l hl e => by rw [e] at a2; exact absurd a2 (nI_ge hl (by omega)))))
  · exact br_f a1 (br_f a3 (br_c (fun z => h0 (fun _ _ _ w _ => w z)) (fun z => br_c (fun w => h0 (fun _ _ _ _ w' => w' w)) (fun w => h1 l (by omega) rfl z w))))
/-- the first number of a row that isn't there -/
theorem gy_an13 {post : Int32 → SY → Prop} {x1 x2 : Int32} {th : Nat → Bool} (hN : gy_Nz a_nodeThere th 12) (HF : (∀ m, m < 12 → th m = true) → post (-2) (f_base, f_many, a_nodeThere, a_labels, a_values, a_edgeThere, a_froms, a_tos, a_whats, a_patterns, a_parts, a_chosen)) (HN : ∀ m, m < 12 → th m = false → (∀ q, q < m → th q = true) → post (nI m) (f_base, f_many, upd a_nodeThere m 1, upd a_labels m x1, upd a_values m x2, a_edgeThere, a_froms, a_tos, a_whats, a_patterns, a_parts, a_chosen)) : ∀ (d i n : Nat), i + d = 12 → d < n → (∀ q, q < i → th q = true) → wY_addNode_13 post x1 x2 f_base f_many a_nodeThere a_labels a_values a_edgeThere a_froms a_tos a_whats a_patterns a_parts a_chosen n (nI i) := by
  intro d
  induction d with
  | zero =>
    intro i n hi hn h
    obtain ⟨n, rfl⟩ := gx_S n (by omega)
    exact pk_le 12 i (fun _ => HF (fun m hm => h m (by omega))) (fun h => by omega)
  | succ d ih =>
    intro i n hi hn h
    obtain ⟨n, rfl⟩ := gx_S n (by omega)
    have hin : vp_in (nI i) 12 := vp_in_nI (by omega) (by omega)
    refine pk_le 12 i (fun h => by omega) (fun _ => And.intro hin ?_)
    rw [nI_clamp (n := i) (by omega), gx_bool1]
    refine br_c (fun z => ?_) (fun z => nm_r (nI_1 i) (ih (i + 1) n (by omega) (by omega) (fun q hq => ?_)))
    · exact And.intro hin (nm_e (And.intro hin (nm_e (And.intro hin (nm_e (HN i (by omega) ((hN i (by omega)).mp z) h))))))
    · by_cases y : q = i
      · rw [y]
        cases hh : th i
        · exact absurd ((hN i (by omega)).mpr hh) z
        · rfl
      · exact h q (by omega)
end
section
variable {f_nodeSet f_edgeSet f_sortedCount f_keptCount f_which f_inOrder f_total f_depth f_begun f_assigned f_usedNodes f_edgeLinks : Int32} {a_labelOf a_valueOf a_fromOf a_toOf a_typeOf a_weightOf a_firstPage a_pageUsed a_pageNext a_pageSize a_pageEdge a_labelled a_sorted a_modeOf a_spotSet a_spotLabels a_spotLeast a_spotGreatest a_linkSet a_linkFrom a_linkTo a_linkTypes a_linkKind a_outgoing a_incoming a_allowed a_candidates a_behind a_before a_nodeFor a_levelSpot a_levelLeft a_edgeLink a_choiceLeft a_choice a_pickedEdge : Nat → Int32}
theorem gx_an12 {post : Int32 → SX → Prop} {x1 x2 : Int32} {th : Nat → Bool} (hns : f_nodeSet = gb_mk th) (HF : (∀ m, m < 12 → th m = true) → post (-2) (f_nodeSet, f_edgeSet, f_sortedCount, f_keptCount, f_which, f_inOrder, f_total, f_depth, f_begun, f_assigned, f_usedNodes, f_edgeLinks, a_labelOf, a_valueOf, a_fromOf, a_toOf, a_typeOf, a_weightOf, a_firstPage, a_pageUsed, a_pageNext, a_pageSize, a_pageEdge, a_labelled, a_sorted, a_modeOf, a_spotSet, a_spotLabels, a_spotLeast, a_spotGreatest, a_linkSet, a_linkFrom, a_linkTo, a_linkTypes, a_linkKind, a_outgoing, a_incoming, a_allowed, a_candidates, a_behind, a_before, a_nodeFor, a_levelSpot, a_levelLeft, a_edgeLink, a_choiceLeft, a_choice, a_pickedEdge)) (HN : ∀ m, m < 12 → th m = false → (∀ q, q < m → th q = true) → wpX_index (fun u => match u with | (f_nodeSet, f_edgeSet, f_sortedCount, f_keptCount, f_which, f_inOrder, f_total, f_depth, f_begun, f_assigned, f_usedNodes, f_edgeLinks, a_labelOf, a_valueOf, a_fromOf, a_toOf, a_typeOf, a_weightOf, a_firstPage, a_pageUsed, a_pageNext, a_pageSize, a_pageEdge, a_labelled, a_sorted, a_modeOf, a_spotSet, a_spotLabels, a_spotLeast, a_spotGreatest, a_linkSet, a_linkFrom, a_linkTo, a_linkTypes, a_linkKind, a_outgoing, a_incoming, a_allowed, a_candidates, a_behind, a_before, a_nodeFor, a_levelSpot, a_levelLeft, a_edgeLink, a_choiceLeft, a_choice, a_pickedEdge) => (wpX_recount (fun u => match u with | (f_nodeSet, f_edgeSet, f_sortedCount, f_keptCount, f_which, f_inOrder, f_total, f_depth, f_begun, f_assigned, f_usedNodes, f_edgeLinks, a_labelOf, a_valueOf, a_fromOf, a_toOf, a_typeOf, a_weightOf, a_firstPage, a_pageUsed, a_pageNext, a_pageSize, a_pageEdge, a_labelled, a_sorted, a_modeOf, a_spotSet, a_spotLabels, a_spotLeast, a_spotGreatest, a_linkSet, a_linkFrom, a_linkTo, a_linkTypes, a_linkKind, a_outgoing, a_incoming, a_allowed, a_candidates, a_behind, a_before, a_nodeFor, a_levelSpot, a_levelLeft, a_edgeLink, a_choiceLeft, a_choice, a_pickedEdge) => (post (nI m) (f_nodeSet, f_edgeSet, f_sortedCount, f_keptCount, f_which, f_inOrder, f_total, f_depth, f_begun, f_assigned, f_usedNodes, f_edgeLinks, a_labelOf, a_valueOf, a_fromOf, a_toOf, a_typeOf, a_weightOf, a_firstPage, a_pageUsed, a_pageNext, a_pageSize, a_pageEdge, a_labelled, a_sorted, a_modeOf, a_spotSet, a_spotLabels, a_spotLeast, a_spotGreatest, a_linkSet, a_linkFrom, a_linkTo, a_linkTypes, a_linkKind, a_outgoing, a_incoming, a_allowed, a_candidates, a_behind, a_before, a_nodeFor, a_levelSpot, a_levelLeft, a_edgeLink, a_choiceLeft, a_choice, a_pickedEdge))) (f_nodeSet, f_edgeSet, f_sortedCount, f_keptCount, f_which, f_inOrder, f_total, f_depth, f_begun, f_assigned, f_usedNodes, f_edgeLinks, a_labelOf, a_valueOf, a_fromOf, a_toOf, a_typeOf, a_weightOf, a_firstPage, a_pageUsed, a_pageNext, a_pageSize, a_pageEdge, a_labelled, a_sorted, a_modeOf, a_spotSet, a_spotLabels, a_spotLeast, a_spotGreatest, a_linkSet, a_linkFrom, a_linkTo, a_linkTypes, a_linkKind, a_outgoing, a_incoming, a_allowed, a_candidates, a_behind, a_before, a_nodeFor, a_levelSpot, a_levelLeft, a_edgeLink, a_choiceLeft, a_choice, a_pickedEdge))) (f_nodeSet ||| ((1 : Int32) <<< (nI m &&& 31)), f_edgeSet, f_sortedCount, f_keptCount, f_which, f_inOrder, f_total, f_depth, f_begun, f_assigned, f_usedNodes, f_edgeLinks, upd a_labelOf m (vp_nar .byte x1.toInt8.toInt32), upd a_valueOf m (vp_nar .byte x2.toInt8.toInt32), a_fromOf, a_toOf, a_typeOf, a_weightOf, a_firstPage, a_pageUsed, a_pageNext, a_pageSize, a_pageEdge, a_labelled, a_sorted, a_modeOf, a_spotSet, a_spotLabels, a_spotLeast, a_spotGreatest, a_linkSet, a_linkFrom, a_linkTo, a_linkTypes, a_linkKind, a_outgoing, a_incoming, a_allowed, a_candidates, a_behind, a_before, a_nodeFor, a_levelSpot, a_levelLeft, a_edgeLink, a_choiceLeft, a_choice, a_pickedEdge) (nI m)) : ∀ (d i n : Nat), i + d = 12 → d < n → (∀ q, q < i → th q = true) → wX_addNode_12 post x1 x2 f_nodeSet f_edgeSet f_sortedCount f_keptCount f_which f_inOrder f_total f_depth f_begun f_assigned f_usedNodes f_edgeLinks a_labelOf a_valueOf a_fromOf a_toOf a_typeOf a_weightOf a_firstPage a_pageUsed a_pageNext a_pageSize a_pageEdge a_labelled a_sorted a_modeOf a_spotSet a_spotLabels a_spotLeast a_spotGreatest a_linkSet a_linkFrom a_linkTo a_linkTypes a_linkKind a_outgoing a_incoming a_allowed a_candidates a_behind a_before a_nodeFor a_levelSpot a_levelLeft a_edgeLink a_choiceLeft a_choice a_pickedEdge n (nI i) := by
  intro d
  induction d with
  | zero =>
    intro i n hi hn h
    obtain ⟨n, rfl⟩ := gx_S n (by omega)
    exact pk_le 12 i (fun _ => HF (fun m hm => h m (by omega))) (fun h => by omega)
  | succ d ih =>
    intro i n hi hn h
    obtain ⟨n, rfl⟩ := gx_S n (by omega)
    have hin : vp_in (nI i) 12 := vp_in_nI (by omega) (by omega)
    refine pk_le 12 i (fun h => by omega) (fun _ => gx_isNodeB (by omega) (fun z => ?_) (fun z => nm_r (nI_1 i) (ih (i + 1) n (by omega) (by omega) (fun q hq => ?_))))
    · rw [hns, gb_mk_l _ (by omega)] at z
      have := HN i (by omega) z h
      rw [nI_clamp (n := i) (by omega)]
      exact nm_e (And.intro hin (nm_e (And.intro hin (nm_e this))))
    · rw [hns, gb_mk_l _ (by omega)] at z
      by_cases y : q = i
      · rw [y]; exact z
      · exact h q (by omega)
end
theorem i_vc_addNode {k : Nat} {u : SX} {v : SY} (I : i_Rel k u v) (hk : k + 5 ≤ 2560) (v1 : Int32) (v2 : Int32) : wpX_addNode (fun r u' => wpY_addNode (fun r' v' => r' = r ∧ i_Rel (k + 5) u' v') v v1 v2) u v1 v2 := by
  refine gr_el (P := fun u v => wpX_addNode (fun r u' => wpY_addNode (fun r' v' => r' = r ∧ i_Rel (k + 5) u' v') v v1 v2) u v1 v2) I ?_
  intro f_nodeSet f_edgeSet f_sortedCount f_keptCount f_which f_inOrder f_total f_depth f_begun f_assigned f_usedNodes f_edgeLinks a_labelOf a_valueOf a_fromOf a_toOf a_typeOf a_weightOf a_firstPage a_pageUsed a_pageNext a_pageSize a_pageEdge a_labelled a_sorted a_modeOf a_spotSet a_spotLabels a_spotLeast a_spotGreatest a_linkSet a_linkFrom a_linkTo a_linkTypes a_linkKind a_outgoing a_incoming a_allowed a_candidates a_behind a_before a_nodeFor a_levelSpot a_levelLeft a_edgeLink a_choiceLeft a_choice a_pickedEdge f_base f_many a_nodeThere a_labels a_values a_edgeThere a_froms a_tos a_whats a_patterns a_parts a_chosen R
  have R0 := R
  obtain ⟨th, eth, lab, wh, fr, to, sc, so, hG, hH, mode, sp, lk, kd, la, lb, tys, labs, lst, grt, hP, hK⟩ := R
  obtain ⟨rfl, g2, rfl, rfl, rfl, rfl, g7, g8, g9⟩ := hG
  unfold wpX_addNode
  refine gx_isNodeData (fun l hl e b1 b2 => br_f (by decide) ?_) (fun hno => br_t rfl ?_)
  · subst e
    -- the reference, once the place is known
    have yrun : ∀ (post : Int32 → SY → Prop), (∃ n13 : Nat, wY_addNode_13 post (nI l) v2 f_base f_many a_nodeThere a_labelOf a_valueOf a_edgeThere a_fromOf a_toOf a_whats a_patterns a_parts a_chosen n13 0) → wpY_addNode post (f_base, f_many, a_nodeThere, a_labelOf, a_valueOf, a_edgeThere, a_fromOf, a_toOf, a_whats, a_patterns, a_parts, a_chosen) (nI l) v2 := by
      intro post h
      unfold wpY_addNode
      exact gy_fine (fun _ _ _ _ _ => br_f (by decide) h) (fun hn => absurd (hn l hl rfl b1 b2) id)
    refine Exists.intro 13 (gx_an12 g2.1 (fun hall => yrun _ (Exists.intro 13 (gy_an13 g7 (fun _ => ⟨rfl, R0⟩) (fun m hm hf _ => by rw [hall m hm] at hf; cases hf) 12 0 13 rfl (by omega) (fun q hq => by omega)))) (fun m hm hf hbelow => ?_) 12 0 13 rfl (by omega) (fun q hq => by omega))
    rw [gx_byte4 (by omega), gr_byteV b1 b2]
    refine gx_index (th := th) (so := so) (gx_So_v g2.2.2.2.2.2.2.2.2.2.2.2 hf) hm hf pk_us hl (fun sorted' so' hS => ?_)
    have hG' := gr_G_add (thb := th) hm hl g2 (fun q _ => rfl) hf g2.2.2.2.2.2.2.2.2.2.2.1 hS
    refine gx_recount hP.1 hP.2.1 hG' (fun q0 q1 q2 q3 q4 q5 q6 q7 q8 q9 q10 q11 q12 q13 q14 q15 q16 q17 q18 q19 => ?_)
    refine yrun _ (Exists.intro 13 (gy_an13 g7 (fun hall => by rw [hall m hm] at hf; cases hf) (fun m' hm' hf' hb' => ?_) 12 0 13 rfl (by omega) (fun q hq => by omega)))
    have hmm : m' = m := by
      rcases Nat.lt_trichotomy m' m with h | h | h
      · rw [hbelow m' h] at hf'; cases hf'
      · exact h
      · rw [hb' m h] at hf; cases hf
    subst hmm
    refine ⟨rfl, ?_⟩
    show gr_R (f_nodeSet ||| ((1 : Int32) <<< (nI m' &&& 31))) f_edgeSet (nI (sc + 1)) (nI (gp_M mode sp lk kd la lb (gp_cd sp (fun q => th q || decide (q = m')) labs lst grt (upd a_valueOf m' v2) (gr_up lab m' l)) (gp_al lk eth tys wh) fr to)) (upd a_labelOf m' (nI l)) (upd a_valueOf m' v2) a_fromOf a_toOf a_typeOf a_weightOf a_firstPage a_pageUsed a_pageNext a_pageSize a_pageEdge (upd a_labelled l (a_labelled l ||| ((1 : Int32) <<< (nI m' &&& 31)))) sorted' a_modeOf a_spotSet a_spotLabels a_spotLeast a_spotGreatest a_linkSet a_linkFrom a_linkTo a_linkTypes a_linkKind (upd a_nodeThere m' 1) (upd a_labelOf m' (nI l)) (upd a_valueOf m' v2) a_edgeThere a_fromOf a_toOf a_whats a_patterns
    exact ⟨_, eth, _, wh, fr, to, sc + 1, so', ⟨rfl, hG', rfl, rfl, rfl, rfl, gr_Nz_up g7, g8, g9⟩, hH, ⟨mode, sp, lk, kd, la, lb, tys, labs, lst, grt, hP, rfl⟩⟩
  · unfold wpY_addNode
    exact gy_fine (fun l hl e b1 b2 => absurd (hno l hl e b1 b2) id) (fun _ => br_t rfl ⟨rfl, R0⟩)
theorem i_vc_setNode {k : Nat} {u : SX} {v : SY} (I : i_Rel k u v) (hk : k + 5 ≤ 2560) (v1 : Int32) (v2 : Int32) (v3 : Int32) : wpX_setNode (fun r u' => wpY_setNode (fun r' v' => r' = r ∧ i_Rel (k + 5) u' v') v v1 v2 v3) u v1 v2 v3 := by
  refine gr_el (P := fun u v => wpX_setNode (fun r u' => wpY_setNode (fun r' v' => r' = r ∧ i_Rel (k + 5) u' v') v v1 v2 v3) u v1 v2 v3) I ?_
  intro f_nodeSet f_edgeSet f_sortedCount f_keptCount f_which f_inOrder f_total f_depth f_begun f_assigned f_usedNodes f_edgeLinks a_labelOf a_valueOf a_fromOf a_toOf a_typeOf a_weightOf a_firstPage a_pageUsed a_pageNext a_pageSize a_pageEdge a_labelled a_sorted a_modeOf a_spotSet a_spotLabels a_spotLeast a_spotGreatest a_linkSet a_linkFrom a_linkTo a_linkTypes a_linkKind a_outgoing a_incoming a_allowed a_candidates a_behind a_before a_nodeFor a_levelSpot a_levelLeft a_edgeLink a_choiceLeft a_choice a_pickedEdge f_base f_many a_nodeThere a_labels a_values a_edgeThere a_froms a_tos a_whats a_patterns a_parts a_chosen R
  have R0 := R
  obtain ⟨th, eth, lab, wh, fr, to, sc, so, hG, hH, mode, sp, lk, kd, la, lb, tys, labs, lst, grt, hP, hK⟩ := R
  obtain ⟨rfl, g2, rfl, rfl, rfl, rfl, g7, g8, g9⟩ := hG
  unfold wpX_setNode
  refine gx_isNode (fun m hm e hb => br_f (by decide) ?_) (fun hno => br_t rfl ?_)
  · subst e
    have hth := (gr_node g2.1 g7 hm).1.mp hb
    have yn : ∀ (A : Int32 → Prop), A 1 → wpY_isNode A (f_base, f_many, a_nodeThere, a_labelOf, a_valueOf, a_edgeThere, a_fromOf, a_toOf, a_whats, a_patterns, a_parts, a_chosen) (nI m) := by
      intro A hA
      refine gy_isNode (fun i hi e hz => hA) (fun hz => ?_)
      have := (gr_node g2.1 g7 hm).2.2.mp (hz m hm rfl)
      rw [this] at hth; cases hth
    refine gx_isNodeData (fun l hl e b1 b2 => br_f (by decide) ?_) (fun hno => br_t rfl ?_)
    · subst e
      obtain ⟨lm1, lm2⟩ := g2.2.2.2.2.1 m hm
      have hsc := g2.2.2.2.2.2.2.2.2.2.2.2
      have hsc1 : 1 ≤ sc := by
        obtain ⟨i, hi, _⟩ := hsc.2.2.2.1 m hth
        omega
      refine gx_unindex (so := so) hsc hm hth lm1 lm2 (fun sorted' so' hS => ?_)
      have hin : vp_in (nI m) 12 := vp_in_nI hm (by omega)
      rw [nI_clamp (n := m) (by omega), gx_byte4 (by omega), gr_byteV b1 b2]
      refine And.intro hin (nm_e (And.intro hin (nm_e ?_)))
      have hb2 : (fun q => th q && decide (q ≠ m)) m = false := by simp
      refine gx_index (so := so') (gx_So_v hS hb2) hm hb2 pk_us hl (fun sorted2 so2 hS2 => ?_)
      have hlbd : ∀ t, t < 4 → upd a_labelled (lab m) (a_labelled (lab m) &&& (((1 : Int32) <<< (nI m &&& 31)) ^^^ (-1))) t = gb_mk (fun q => (fun q => th q && decide (q ≠ m)) q && decide (lab q = t)) := by
        intro t ht
        have hold := g2.2.2.2.2.2.2.2.2.2.2.1
        by_cases z : t = lab m
        · rw [z, pk_us, hold _ lm2]
          apply gb_mk_of
          intro q hq
          rw [b_and, gb_mk_l _ hq, gb_not hq, gb_one (by omega)]
          by_cases y : q = m <;> simp [y]
        · rw [pk_un z, hold t ht]
          apply gb_mk_e
          intro q _
          by_cases y : q = m
          · rw [y]
            have : decide (lab m = t) = false := decide_eq_false (fun w => z w.symm)
            rw [this]; simp
          · simp [y]
      have hG' := gr_G_add (thb := fun q => th q && decide (q ≠ m)) hm hl g2 (fun q hq => by simp [hq]) hb2 hlbd hS2
      have hthe : (fun q => (fun q => th q && decide (q ≠ m)) q || decide (q = m)) = th := by
        funext q
        dsimp only
        by_cases y : q = m
        · rw [y, hth]; simp
        · simp [y]
      have hnse : f_nodeSet ||| ((1 : Int32) <<< (nI m &&& 31)) = f_nodeSet := by
        apply b_ext
        intro i hi
        rw [b_or, gb_one (by omega)]
        by_cases y : i = m
        · rw [y, hb]; simp
        · simp [y]
      rw [hthe, hnse, show sc - 1 + 1 = sc from by omega] at hG'
      rw [show sc - 1 + 1 = sc from by omega]
      refine gx_recount hP.1 hP.2.1 hG' (fun q0 q1 q2 q3 q4 q5 q6 q7 q8 q9 q10 q11 q12 q13 q14 q15 q16 q17 q18 q19 => ?_)
      unfold wpY_setNode
      refine yn _ (br_f (by decide) (gy_fine (fun _ _ _ _ _ => br_f (by decide) ?_) (fun hn => absurd (hn l hl rfl b1 b2) id)))
      rw [nI_clamp (n := m) (by omega)]
      refine And.intro hin (nm_e (And.intro hin (nm_e ⟨rfl, ?_⟩)))
      show gr_R f_nodeSet f_edgeSet (nI sc) (nI (gp_M mode sp lk kd la lb (gp_cd sp th labs lst grt (upd a_valueOf m v3) (gr_up lab m l)) (gp_al lk eth tys wh) fr to)) (upd a_labelOf m (nI l)) (upd a_valueOf m v3) a_fromOf a_toOf a_typeOf a_weightOf a_firstPage a_pageUsed a_pageNext a_pageSize a_pageEdge (upd (upd a_labelled (lab m) (a_labelled (lab m) &&& (((1 : Int32) <<< (nI m &&& 31)) ^^^ (-1)))) l ((upd a_labelled (lab m) (a_labelled (lab m) &&& (((1 : Int32) <<< (nI m &&& 31)) ^^^ (-1)))) l ||| ((1 : Int32) <<< (nI m &&& 31)))) sorted2 a_modeOf a_spotSet a_spotLabels a_spotLeast a_spotGreatest a_linkSet a_linkFrom a_linkTo a_linkTypes a_linkKind a_nodeThere (upd a_labelOf m (nI l)) (upd a_valueOf m v3) a_edgeThere a_fromOf a_toOf a_whats a_patterns
      exact ⟨th, eth, _, wh, fr, to, sc, so2, ⟨rfl, hG', rfl, rfl, rfl, rfl, g7, g8, g9⟩, hH, ⟨mode, sp, lk, kd, la, lb, tys, labs, lst, grt, hP, rfl⟩⟩
    · unfold wpY_setNode
      exact yn _ (br_f (by decide) (gy_fine (fun l hl e b1 b2 => absurd (hno l hl e b1 b2) id) (fun _ => br_t rfl ⟨rfl, R0⟩)))
  · unfold wpY_setNode
    refine gy_isNode (fun i hi e hz => ?_) (fun _ => br_t rfl ⟨rfl, R0⟩)
    have h2 := (gr_node g2.1 g7 hi).2.1.mp (hno i hi e)
    exact absurd ((gr_node g2.1 g7 hi).2.2.mpr h2) hz
end
section
/-! dropEdge, removeNode -/
theorem gx_mem_del {eth : Nat → Bool} {fr to : Nat → Nat} {e : Nat} : gx_del (gx_del (gx_mem eth fr to) (2 * fr e) e) (2 * to e + 1) e = gx_mem (fun q => eth q && decide (q ≠ e)) fr to := by
  funext l q
  unfold gx_del gx_mem
  by_cases z : q = e
  · subst z
    simp only [ne_eq, not_true, decide_false, Bool.and_false, Bool.false_and]
    by_cases y : l % 2 = 0
    · rw [if_pos y]
      by_cases x : fr q = l / 2
      · have : l = 2 * fr q := by omega
        rw [decide_eq_true this]; simp
      · rw [decide_eq_false x]; simp
    · rw [if_neg y]
      by_cases x : to q = l / 2
      · have : l = 2 * to q + 1 := by omega
        rw [decide_eq_true this]; simp
      · rw [decide_eq_false x]; simp
  · dsimp only
    rw [decide_eq_false z, decide_eq_true (show q ≠ e from z)]; simp
section
variable {f_nodeSet f_edgeSet f_sortedCount f_keptCount f_which f_inOrder f_total f_depth f_begun f_assigned f_usedNodes f_edgeLinks : Int32} {a_labelOf a_valueOf a_fromOf a_toOf a_typeOf a_weightOf a_firstPage a_pageUsed a_pageNext a_pageSize a_pageEdge a_labelled a_sorted a_modeOf a_spotSet a_spotLabels a_spotLeast a_spotGreatest a_linkSet a_linkFrom a_linkTo a_linkTypes a_linkKind a_outgoing a_incoming a_allowed a_candidates a_behind a_before a_nodeFor a_levelSpot a_levelLeft a_edgeLink a_choiceLeft a_choice a_pickedEdge : Nat → Int32}
theorem gx_dropEdge {post : SX → Prop} {eth : Nat → Bool} {fr to : Nat → Nat} {e : Nat} (he : eth e = true) (h20 : e < 20) (hes : f_edgeSet = gb_mk eth) (hf : gx_Nm a_fromOf fr 20 12) (ht : gx_Nm a_toOf to 20 12) (hP : gx_Pg (gx_mem eth fr to) a_firstPage a_pageUsed a_pageNext a_pageSize a_pageEdge)
    (hp : ∀ fp us nx sz pe, gx_Pg (gx_mem (fun q => eth q && decide (q ≠ e)) fr to) fp us nx sz pe → post (f_nodeSet, gb_mk (fun q => eth q && decide (q ≠ e)), f_sortedCount, f_keptCount, f_which, f_inOrder, f_total, f_depth, f_begun, f_assigned, f_usedNodes, f_edgeLinks, a_labelOf, a_valueOf, a_fromOf, a_toOf, a_typeOf, a_weightOf, fp, us, nx, sz, pe, a_labelled, a_sorted, a_modeOf, a_spotSet, a_spotLabels, a_spotLeast, a_spotGreatest, a_linkSet, a_linkFrom, a_linkTo, a_linkTypes, a_linkKind, a_outgoing, a_incoming, a_allowed, a_candidates, a_behind, a_before, a_nodeFor, a_levelSpot, a_levelLeft, a_edgeLink, a_choiceLeft, a_choice, a_pickedEdge)) : wpX_dropEdge post (f_nodeSet, f_edgeSet, f_sortedCount, f_keptCount, f_which, f_inOrder, f_total, f_depth, f_begun, f_assigned, f_usedNodes, f_edgeLinks, a_labelOf, a_valueOf, a_fromOf, a_toOf, a_typeOf, a_weightOf, a_firstPage, a_pageUsed, a_pageNext, a_pageSize, a_pageEdge, a_labelled, a_sorted, a_modeOf, a_spotSet, a_spotLabels, a_spotLeast, a_spotGreatest, a_linkSet, a_linkFrom, a_linkTo, a_linkTypes, a_linkKind, a_outgoing, a_incoming, a_allowed, a_candidates, a_behind, a_before, a_nodeFor, a_levelSpot, a_levelLeft, a_edgeLink, a_choiceLeft, a_choice, a_pickedEdge) (nI e) := by
  obtain ⟨f1, f2⟩ := hf e h20
  obtain ⟨t1, t2⟩ := ht e h20
  have hin : vp_in (nI e) 20 := vp_in_nI h20 (by omega)
  have hes' : f_edgeSet &&& (((1 : Int32) <<< (nI e &&& 31)) ^^^ (-1)) = gb_mk (fun q => eth q && decide (q ≠ e)) := by
    rw [hes]
    apply gb_mk_of
    intro q hq
    rw [b_and, gb_mk_l _ hq, gb_not hq, gb_one (by omega)]
    by_cases y : q = e <;> simp [y]
  refine nm_r hes' (And.intro hin ?_)
  rw [nI_clamp (n := e) (by omega), f1, gx_2n]
  refine gx_unlist (by omega) ?_ hP (fun fp us nx sz pe hP1 => And.intro hin ?_)
  · rw [gx_mem_0, he]; simp [h20]
  · rw [t1, gx_2n, nI_1]
    refine gx_unlist (by omega) ?_ hP1 (fun fp us nx sz pe hP2 => hp fp us nx sz pe ?_)
    · unfold gx_del
      rw [gx_mem_1, he]
      have : decide (2 * to e + 1 = 2 * fr e) = false := decide_eq_false (by omega)
      rw [this]; simp [h20]
    · rw [gx_mem_del] at hP2; exact hP2
end
/-- edges left when those on a node are dropped, up to a number -/
def gr_on (fr to : Nat → Nat) (m q : Nat) : Bool := decide (fr q = m) || decide (to q = m)
def gr_ei (eth : Nat → Bool) (fr to : Nat → Nat) (m i : Nat) : Nat → Bool := fun q => eth q && !(decide (q < i) && gr_on fr to m q)
theorem gr_ei_0 (eth : Nat → Bool) (fr to : Nat → Nat) (m : Nat) : gr_ei eth fr to m 0 = eth := by
  funext q
  unfold gr_ei
  simp
theorem gr_ei_i (eth : Nat → Bool) (fr to : Nat → Nat) (m i : Nat) : gr_ei eth fr to m i i = eth i := by
  unfold gr_ei
  simp
theorem gr_ei_d {eth : Nat → Bool} {fr to : Nat → Nat} {m i : Nat} (h : gr_on fr to m i = true) : (fun q => gr_ei eth fr to m i q && decide (q ≠ i)) = gr_ei eth fr to m (i + 1) := by
  funext q
  unfold gr_ei
  by_cases z : q = i
  · subst z; rw [h]; simp
  · rw [decide_eq_true (show q ≠ i from z)]
    by_cases y : q < i
    · rw [decide_eq_true y, decide_eq_true (show q < i + 1 by omega)]; simp
    · rw [decide_eq_false y, decide_eq_false (show ¬ q < i + 1 by omega)]; simp
theorem gr_ei_k {eth : Nat → Bool} {fr to : Nat → Nat} {m i : Nat} (h : eth i = false ∨ gr_on fr to m i = false) : gr_ei eth fr to m i = gr_ei eth fr to m (i + 1) := by
  funext q
  unfold gr_ei
  by_cases z : q = i
  · subst z
    rcases h with h | h
    · rw [h]; rfl
    · rw [h]; simp
  · by_cases y : q < i
    · rw [decide_eq_true y, decide_eq_true (show q < i + 1 by omega)]
    · rw [decide_eq_false y, decide_eq_false (show ¬ q < i + 1 by omega)]
theorem gr_cnt_s (f : Nat → Bool) (i : Nat) : (gb_fl f 0 (i + 1)).length = (gb_fl f 0 i).length + (if f i then 1 else 0) := by
  rw [gb_fl_app, List.length_append, Nat.zero_add]
  congr 1
  show (if f i then [i] else []).length = _
  cases f i <;> rfl
section
variable {f_nodeSet f_edgeSet f_sortedCount f_keptCount f_which f_inOrder f_total f_depth f_begun f_assigned f_usedNodes f_edgeLinks : Int32} {a_labelOf a_valueOf a_fromOf a_toOf a_typeOf a_weightOf a_firstPage a_pageUsed a_pageNext a_pageSize a_pageEdge a_labelled a_sorted a_modeOf a_spotSet a_spotLabels a_spotLeast a_spotGreatest a_linkSet a_linkFrom a_linkTo a_linkTypes a_linkKind a_outgoing a_incoming a_allowed a_candidates a_behind a_before a_nodeFor a_levelSpot a_levelLeft a_edgeLink a_choiceLeft a_choice a_pickedEdge : Nat → Int32}
theorem gx_rn14 {post : Int32 → SX → Prop} {eth : Nat → Bool} {fr to : Nat → Nat} {m : Nat} (hm : m < 12) (hf : gx_Nm a_fromOf fr 20 12) (ht : gx_Nm a_toOf to 20 12)
    (hend : ∀ fp us nx sz pe, gx_Pg (gx_mem (gr_ei eth fr to m 20) fr to) fp us nx sz pe → wpX_unindex (fun u => match u with | (f_nodeSet, f_edgeSet, f_sortedCount, f_keptCount, f_which, f_inOrder, f_total, f_depth, f_begun, f_assigned, f_usedNodes, f_edgeLinks, a_labelOf, a_valueOf, a_fromOf, a_toOf, a_typeOf, a_weightOf, a_firstPage, a_pageUsed, a_pageNext, a_pageSize, a_pageEdge, a_labelled, a_sorted, a_modeOf, a_spotSet, a_spotLabels, a_spotLeast, a_spotGreatest, a_linkSet, a_linkFrom, a_linkTo, a_linkTypes, a_linkKind, a_outgoing, a_incoming, a_allowed, a_candidates, a_behind, a_before, a_nodeFor, a_levelSpot, a_levelLeft, a_edgeLink, a_choiceLeft, a_choice, a_pickedEdge) => (∀ f_nodeSet_101 : Int32, f_nodeSet_101 = f_nodeSet &&& (((1 : Int32) <<< (nI m &&& 31)) ^^^ (-1)) → (wpX_recount (fun u => match u with | (f_nodeSet, f_edgeSet, f_sortedCount, f_keptCount, f_which, f_inOrder, f_total, f_depth, f_begun, f_assigned, f_usedNodes, f_edgeLinks, a_labelOf, a_valueOf, a_fromOf, a_toOf, a_typeOf, a_weightOf, a_firstPage, a_pageUsed, a_pageNext, a_pageSize, a_pageEdge, a_labelled, a_sorted, a_modeOf, a_spotSet, a_spotLabels, a_spotLeast, a_spotGreatest, a_linkSet, a_linkFrom, a_linkTo, a_linkTypes, a_linkKind, a_outgoing, a_incoming, a_allowed, a_candidates, a_behind, a_before, a_nodeFor, a_levelSpot, a_levelLeft, a_edgeLink, a_choiceLeft, a_choice, a_pickedEdge) => (post (nI (gb_fl (fun q => eth q && gr_on fr to m q) 0 20).length) (f_nodeSet, f_edgeSet, f_sortedCount, f_keptCount, f_which, f_inOrder, f_total, f_depth, f_begun, f_assigned, f_usedNodes, f_edgeLinks, a_labelOf, a_valueOf, a_fromOf, a_toOf, a_typeOf, a_weightOf, a_firstPage, a_pageUsed, a_pageNext, a_pageSize, a_pageEdge, a_labelled, a_sorted, a_modeOf, a_spotSet, a_spotLabels, a_spotLeast, a_spotGreatest, a_linkSet, a_linkFrom, a_linkTo, a_linkTypes, a_linkKind, a_outgoing, a_incoming, a_allowed, a_candidates, a_behind, a_before, a_nodeFor, a_levelSpot, a_levelLeft, a_edgeLink, a_choiceLeft, a_choice, a_pickedEdge))) (f_nodeSet_101, f_edgeSet, f_sortedCount, f_keptCount, f_which, f_inOrder, f_total, f_depth, f_begun, f_assigned, f_usedNodes, f_edgeLinks, a_labelOf, a_valueOf, a_fromOf, a_toOf, a_typeOf, a_weightOf, a_firstPage, a_pageUsed, a_pageNext, a_pageSize, a_pageEdge, a_labelled, a_sorted, a_modeOf, a_spotSet, a_spotLabels, a_spotLeast, a_spotGreatest, a_linkSet, a_linkFrom, a_linkTo, a_linkTypes, a_linkKind, a_outgoing, a_incoming, a_allowed, a_candidates, a_behind, a_before, a_nodeFor, a_levelSpot, a_levelLeft, a_edgeLink, a_choiceLeft, a_choice, a_pickedEdge)))) (f_nodeSet, gb_mk (gr_ei eth fr to m 20), f_sortedCount, f_keptCount, f_which, f_inOrder, f_total, f_depth, f_begun, f_assigned, f_usedNodes, f_edgeLinks, a_labelOf, a_valueOf, a_fromOf, a_toOf, a_typeOf, a_weightOf, fp, us, nx, sz, pe, a_labelled, a_sorted, a_modeOf, a_spotSet, a_spotLabels, a_spotLeast, a_spotGreatest, a_linkSet, a_linkFrom, a_linkTo, a_linkTypes, a_linkKind, a_outgoing, a_incoming, a_allowed, a_candidates, a_behind, a_before, a_nodeFor, a_levelSpot, a_levelLeft, a_edgeLink, a_choiceLeft, a_choice, a_pickedEdge) (nI m)) :
    ∀ (d i n : Nat) (fp us nx sz pe : Nat → Int32), i + d = 20 → d < n → gx_Pg (gx_mem (gr_ei eth fr to m i) fr to) fp us nx sz pe → wX_removeNode_14 post (nI m) n (nI (gb_fl (fun q => eth q && gr_on fr to m q) 0 i).length) (nI i) f_nodeSet (gb_mk (gr_ei eth fr to m i)) f_sortedCount f_keptCount f_which f_inOrder f_total f_depth f_begun f_assigned f_usedNodes f_edgeLinks a_labelOf a_valueOf a_fromOf a_toOf a_typeOf a_weightOf fp us nx sz pe a_labelled a_sorted a_modeOf a_spotSet a_spotLabels a_spotLeast a_spotGreatest a_linkSet a_linkFrom a_linkTo a_linkTypes a_linkKind a_outgoing a_incoming a_allowed a_candidates a_behind a_before a_nodeFor a_levelSpot a_levelLeft a_edgeLink a_choiceLeft a_choice a_pickedEdge := by
  intro d
  induction d with
  | zero =>
    intro i n fp us nx sz pe hi hn hP
    obtain ⟨n, rfl⟩ := gx_S n (by omega)
    have : i = 20 := by omega
    subst this
    exact pk_le 20 20 (fun _ => hend fp us nx sz pe hP) (fun h => by omega)
  | succ d ih =>
    intro i n fp us nx sz pe hi hn hP
    obtain ⟨n, rfl⟩ := gx_S n (by omega)
    have hi20 : i < 20 := by omega
    obtain ⟨f1, f2⟩ := hf i hi20
    obtain ⟨t1, t2⟩ := ht i hi20
    have hin : vp_in (nI i) 20 := vp_in_nI hi20 (by omega)
    have keep : (eth i = false ∨ gr_on fr to m i = false) → wX_removeNode_14 post (nI m) n (nI (gb_fl (fun q => eth q && gr_on fr to m q) 0 i).length) (nI (i + 1)) f_nodeSet (gb_mk (gr_ei eth fr to m i)) f_sortedCount f_keptCount f_which f_inOrder f_total f_depth f_begun f_assigned f_usedNodes f_edgeLinks a_labelOf a_valueOf a_fromOf a_toOf a_typeOf a_weightOf fp us nx sz pe a_labelled a_sorted a_modeOf a_spotSet a_spotLabels a_spotLeast a_spotGreatest a_linkSet a_linkFrom a_linkTo a_linkTypes a_linkKind a_outgoing a_incoming a_allowed a_candidates a_behind a_before a_nodeFor a_levelSpot a_levelLeft a_edgeLink a_choiceLeft a_choice a_pickedEdge := by
      intro h
      have := ih (i + 1) n fp us nx sz pe (by omega) (by omega) (by rw [← gr_ei_k h]; exact hP)
      rw [← gr_ei_k h, gr_cnt_s] at this
      have hz : (eth i && gr_on fr to m i) = false := by
        rcases h with h | h
        · rw [h]; rfl
        · rw [h]; simp
      rw [hz] at this
      exact this
    have drop : eth i = true → gr_on fr to m i = true → wX_removeNode_48 post (wX_removeNode_14 post (nI m) n) (nI m) (nI (gb_fl (fun q => eth q && gr_on fr to m q) 0 i).length) (nI i) f_nodeSet (gb_mk (gr_ei eth fr to m i)) f_sortedCount f_keptCount f_which f_inOrder f_total f_depth f_begun f_assigned f_usedNodes f_edgeLinks a_labelOf a_valueOf a_fromOf a_toOf a_typeOf a_weightOf fp us nx sz pe a_labelled a_sorted a_modeOf a_spotSet a_spotLabels a_spotLeast a_spotGreatest a_linkSet a_linkFrom a_linkTo a_linkTypes a_linkKind a_outgoing a_incoming a_allowed a_candidates a_behind a_before a_nodeFor a_levelSpot a_levelLeft a_edgeLink a_choiceLeft a_choice a_pickedEdge := by
      intro he ho
      unfold wX_removeNode_48
      refine gx_dropEdge (eth := gr_ei eth fr to m i) (fr := fr) (to := to) (by rw [gr_ei_i]; exact he) hi20 rfl hf ht hP (fun fp us nx sz pe hP2 => nm_r (nI_1 _) (nm_r (nI_1 i) ?_))
      rw [gr_ei_d ho] at hP2 ⊢
      have := ih (i + 1) n fp us nx sz pe (by omega) (by omega) hP2
      rw [gr_cnt_s, he, ho] at this
      exact this
    refine pk_le 20 i (fun h => by omega) (fun _ => gx_isEdgeB hi20 (fun z => nm_r (nI_1 i) (keep (Or.inl ?_))) (fun z => And.intro hin ?_))
    · rw [gb_mk_l _ (by omega), gr_ei_i] at z; exact z
    · rw [gb_mk_l _ (by omega), gr_ei_i] at z
      rw [nI_clamp (n := i) (by omega), f1, t1]
      refine pk_eq (fr i) m (fun e => drop z (by unfold gr_on; rw [decide_eq_true e]; rfl)) (fun e => And.intro hin (pk_eq (to i) m (fun e' => drop z (by unfold gr_on; rw [decide_eq_true e']; simp)) (fun e' => nm_r (nI_1 i) (keep (Or.inr ?_)))))
      unfold gr_on
      rw [decide_eq_false e, decide_eq_false e']; rfl
end
section
variable {f_base f_many : Int32} {a_nodeThere a_labels a_values a_edgeThere a_froms a_tos a_whats a_patterns a_parts a_chosen : Nat → Int32}
theorem gy_rn14 {post : Int32 → SY → Prop} {eth : Nat → Bool} {fr to : Nat → Nat} {m : Nat} (hm : m < 12) (hf : gx_Nm a_froms fr 20 12) (ht : gx_Nm a_tos to 20 12)
    (hend : ∀ ets, gy_Nz ets (gr_ei eth fr to m 20) 20 → post (nI (gb_fl (fun q => eth q && gr_on fr to m q) 0 20).length) (f_base, f_many, upd a_nodeThere m 0, a_labels, a_values, ets, a_froms, a_tos, a_whats, a_patterns, a_parts, a_chosen)) :
    ∀ (d i n : Nat) (ets : Nat → Int32), i + d = 20 → d < n → gy_Nz ets (gr_ei eth fr to m i) 20 → wY_removeNode_14 post (nI m) f_base f_many n (nI (gb_fl (fun q => eth q && gr_on fr to m q) 0 i).length) (nI i) a_nodeThere a_labels a_values ets a_froms a_tos a_whats a_patterns a_parts a_chosen := by
  intro d
  induction d with
  | zero =>
    intro i n ets hi hn hE
    obtain ⟨n, rfl⟩ := gx_S n (by omega)
    have : i = 20 := by omega
    subst this
    refine pk_le 20 20 (fun _ => And.intro (vp_in_nI hm (by omega)) ?_) (fun h => by omega)
    rw [nI_clamp (n := m) (by omega), gx_bool0]
    exact nm_e (hend ets hE)
  | succ d ih =>
    intro i n ets hi hn hE
    obtain ⟨n, rfl⟩ := gx_S n (by omega)
    have hi20 : i < 20 := by omega
    obtain ⟨f1, f2⟩ := hf i hi20
    obtain ⟨t1, t2⟩ := ht i hi20
    have hin : vp_in (nI i) 20 := vp_in_nI hi20 (by omega)
    have hEi := hE i hi20
    rw [gr_ei_i] at hEi
    have upd_k : ∀ (x : Int32), (eth i = false ∨ gr_on fr to m i = false) → (x = 0 ↔ eth i = false) → gy_Nz (upd ets i x) (gr_ei eth fr to m (i + 1)) 20 := by
      intro x h hx q hq
      rw [← gr_ei_k h]
      by_cases z : q = i
      · rw [z, pk_us, gr_ei_i]; exact hx
      · rw [pk_un z]; exact hE q hq
    have upd_d : gr_on fr to m i = true → gy_Nz (upd ets i 0) (gr_ei eth fr to m (i + 1)) 20 := by
      intro h q hq
      rw [← gr_ei_d h]
      by_cases z : q = i
      · rw [z, pk_us]; simp
      · rw [pk_un z]
        dsimp only
        rw [decide_eq_true (show q ≠ i from z), Bool.and_true]
        exact hE q hq
    have hcnt : ∀ bb, (eth i && gr_on fr to m i) = bb → ∀ ets', gy_Nz ets' (gr_ei eth fr to m (i + 1)) 20 → wY_removeNode_14 post (nI m) f_base f_many n (nI ((gb_fl (fun q => eth q && gr_on fr to m q) 0 i).length + (if bb then 1 else 0))) (nI (i + 1)) a_nodeThere a_labels a_values ets' a_froms a_tos a_whats a_patterns a_parts a_chosen := by
      intro bb hbb ets' hE'
      have := ih (i + 1) n ets' (by omega) (by omega) hE'
      rw [gr_cnt_s, hbb] at this
      exact this
    have j53 : (eth i = false ∨ gr_on fr to m i = false) → wY_removeNode_53 post (wY_removeNode_14 post (nI m) f_base f_many n) (nI m) (nI (gb_fl (fun q => eth q && gr_on fr to m q) 0 i).length) (nI i) f_base f_many a_nodeThere a_labels a_values ets a_froms a_tos a_whats a_patterns a_parts a_chosen := by
      intro h
      have hz : (eth i && gr_on fr to m i) = false := by
        rcases h with h | h
        · rw [h]; rfl
        · rw [h]; simp
      refine br_t rfl (And.intro hin ?_)
      rw [nI_clamp (n := i) (by omega), gx_bool0, gx_bool1]
      refine br_c (fun z => And.intro hin (nm_e (nm_r (nI_1 i) (hcnt false hz _ (upd_k 0 h ⟨fun _ => hEi.mp z, fun _ => rfl⟩))))) (fun z => br_t rfl (And.intro hin (nm_e (nm_r (nI_1 i) (hcnt false hz _ (upd_k 1 h ⟨fun w => absurd w (by decide), fun w => absurd (hEi.mpr w) z⟩))))))
    have j49 : eth i = true → gr_on fr to m i = true → wY_removeNode_49 post (wY_removeNode_14 post (nI m) f_base f_many n) (nI m) (nI (gb_fl (fun q => eth q && gr_on fr to m q) 0 i).length) (nI i) f_base f_many a_nodeThere a_labels a_values ets a_froms a_tos a_whats a_patterns a_parts a_chosen := by
      intro he ho
      have hz : (eth i && gr_on fr to m i) = true := by rw [he, ho]; rfl
      have hne : ¬ ets i = 0 := fun w => by rw [hEi.mp w] at he; cases he
      refine br_f (by decide) (And.intro hin ?_)
      rw [nI_clamp (n := i) (by omega), gx_bool0, nI_1 (gb_fl (fun q => eth q && gr_on fr to m q) 0 i).length]
      exact br_f hne (br_f (by decide) (And.intro hin (nm_e (nm_r (nI_1 i) (hcnt true hz _ (upd_d ho))))))
    refine pk_le 20 i (fun h => by omega) (fun _ => And.intro hin ?_)
    rw [nI_clamp (n := i) (by omega), f1, t1]
    refine br_c (fun z => j53 (Or.inl (hEi.mp z))) (fun z => And.intro hin ?_)
    have he : eth i = true := by
      cases h : eth i
      · exact absurd (hEi.mpr h) z
      · rfl
    refine pk_eq (fr i) m (fun e => j49 he (by unfold gr_on; rw [decide_eq_true e]; rfl)) (fun e => And.intro hin (pk_eq (to i) m (fun e' => j49 he (by unfold gr_on; rw [decide_eq_true e']; simp)) (fun e' => j53 (Or.inr ?_))))
    unfold gr_on
    rw [decide_eq_false e, decide_eq_false e']; rfl
end
theorem i_vc_removeNode {k : Nat} {u : SX} {v : SY} (I : i_Rel k u v) (hk : k + 5 ≤ 2560) (v1 : Int32) : wpX_removeNode (fun r u' => wpY_removeNode (fun r' v' => r' = r ∧ i_Rel (k + 5) u' v') v v1) u v1 := by
  refine gr_el (P := fun u v => wpX_removeNode (fun r u' => wpY_removeNode (fun r' v' => r' = r ∧ i_Rel (k + 5) u' v') v v1) u v1) I ?_
  intro f_nodeSet f_edgeSet f_sortedCount f_keptCount f_which f_inOrder f_total f_depth f_begun f_assigned f_usedNodes f_edgeLinks a_labelOf a_valueOf a_fromOf a_toOf a_typeOf a_weightOf a_firstPage a_pageUsed a_pageNext a_pageSize a_pageEdge a_labelled a_sorted a_modeOf a_spotSet a_spotLabels a_spotLeast a_spotGreatest a_linkSet a_linkFrom a_linkTo a_linkTypes a_linkKind a_outgoing a_incoming a_allowed a_candidates a_behind a_before a_nodeFor a_levelSpot a_levelLeft a_edgeLink a_choiceLeft a_choice a_pickedEdge f_base f_many a_nodeThere a_labels a_values a_edgeThere a_froms a_tos a_whats a_patterns a_parts a_chosen R
  have R0 := R
  obtain ⟨th, eth, lab, wh, fr, to, sc, so, hG, hH, mode, sp, lk, kd, la, lb, tys, labs, lst, grt, hP, hK⟩ := R
  obtain ⟨rfl, g2, rfl, rfl, rfl, rfl, g7, g8, g9⟩ := hG
  have g20 := g2
  obtain ⟨x1, x2, x3, x4, x5, x6, x7, x8, x9, x10, x11, x12⟩ := g2
  unfold wpX_removeNode
  refine gx_isNode (fun m hm e hb => br_f (by decide) ?_) (fun hno => br_t rfl ?_)
  · subst e
    have hth := (gr_node x1 g7 hm).1.mp hb
    obtain ⟨lm1, lm2⟩ := x5 m hm
    have hes0 : f_edgeSet = gb_mk (gr_ei eth fr to m 0) := by rw [gr_ei_0]; exact x3
    rw [hes0]
    refine Exists.intro 21 (gx_rn14 (eth := eth) hm x6 x7 (fun fp us nx sz pe hPg => ?_) 20 0 21 _ _ _ _ _ rfl (by omega) (by rw [gr_ei_0]; exact x10))
    refine gx_unindex (so := so) x12 hm hth lm1 lm2 (fun sorted' so' hS => nm_e ?_)
    have hG' : gx_Gr (fun q => th q && decide (q ≠ m)) (gr_ei eth fr to m 20) lab wh fr to (sc - 1) so' (f_nodeSet &&& (((1 : Int32) <<< (nI m &&& 31)) ^^^ (-1))) (gb_mk (gr_ei eth fr to m 20)) a_labelOf a_valueOf a_fromOf a_toOf a_typeOf a_weightOf fp us nx sz pe (upd a_labelled (lab m) (a_labelled (lab m) &&& (((1 : Int32) <<< (nI m &&& 31)) ^^^ (-1)))) sorted' := by
      refine ⟨?_, fun n hn => ?_, rfl, fun e he => ?_, x5, x6, x7, x8, x9, hPg, fun t ht => ?_, hS⟩
      · rw [x1]
        apply gb_mk_of
        intro q hq
        rw [b_and, gb_mk_l _ hq, gb_not hq, gb_one (by omega)]
        by_cases y : q = m <;> simp [y]
      · rw [Bool.and_eq_true] at hn; exact x2 n hn.1
      · unfold gr_ei at he
        rw [Bool.and_eq_true] at he; exact x4 e he.1
      · by_cases z : t = lab m
        · rw [z, pk_us, x11 _ lm2]
          apply gb_mk_of
          intro q hq
          rw [b_and, gb_mk_l _ hq, gb_not hq, gb_one (by omega)]
          by_cases y : q = m <;> simp [y]
        · rw [pk_un z, x11 t ht]
          apply gb_mk_e
          intro q _
          by_cases y : q = m
          · rw [y]
            have : decide (lab m = t) = false := decide_eq_false (fun w => z w.symm)
            rw [this]; simp
          · simp [y]
    refine gx_recount hP.1 hP.2.1 hG' (fun q0 q1 q2 q3 q4 q5 q6 q7 q8 q9 q10 q11 q12 q13 q14 q15 q16 q17 q18 q19 => ?_)
    unfold wpY_removeNode
    refine gy_isNode (fun i hi e hz => br_f (by decide) ?_) (fun hz => ?_)
    · refine Exists.intro 21 (gy_rn14 (eth := eth) hm x6 x7 (fun ets hE => ⟨rfl, ?_⟩) 20 0 21 _ rfl (by omega) (by rw [gr_ei_0]; exact g8))
      show gr_R (f_nodeSet &&& (((1 : Int32) <<< (nI m &&& 31)) ^^^ (-1))) (gb_mk (gr_ei eth fr to m 20)) (nI (sc - 1)) (nI (gp_M mode sp lk kd la lb (gp_cd sp (fun q => th q && decide (q ≠ m)) labs lst grt a_valueOf lab) (gp_al lk (gr_ei eth fr to m 20) tys wh) fr to)) a_labelOf a_valueOf a_fromOf a_toOf a_typeOf a_weightOf fp us nx sz pe (upd a_labelled (lab m) (a_labelled (lab m) &&& (((1 : Int32) <<< (nI m &&& 31)) ^^^ (-1)))) sorted' a_modeOf a_spotSet a_spotLabels a_spotLeast a_spotGreatest a_linkSet a_linkFrom a_linkTo a_linkTypes a_linkKind (upd a_nodeThere m 0) a_labelOf a_valueOf ets a_fromOf a_toOf a_whats a_patterns
      refine ⟨_, _, lab, wh, fr, to, sc - 1, so', ⟨rfl, hG', rfl, rfl, rfl, rfl, fun q hq => ?_, hE, g9⟩, hH, ⟨mode, sp, lk, kd, la, lb, tys, labs, lst, grt, hP, rfl⟩⟩
      by_cases y : q = m
      · rw [y, pk_us]; simp
      · rw [pk_un y]
        dsimp only
        rw [decide_eq_true (show q ≠ m from y), Bool.and_true]
        exact g7 q hq
    · have := (gr_node x1 g7 hm).2.2.mp (hz m hm rfl)
      rw [this] at hth; cases hth
  · unfold wpY_removeNode
    refine gy_isNode (fun i hi e hz => ?_) (fun _ => br_t rfl ⟨rfl, R0⟩)
    have h2 := (gr_node x1 g7 hi).2.1.mp (hno i hi e)
    exact absurd ((gr_node x1 g7 hi).2.2.mpr h2) hz
end
section
/-! addEdge, removeEdge -/
theorem gx_mem_u {eth : Nat → Bool} {fr to : Nat → Nat} (l l' e : Nat) (h1 : gx_mem eth fr to l e = true) (h2 : gx_mem eth fr to l' e = true) (h3 : l % 2 = l' % 2) : l = l' := by
  unfold gx_mem at h1 h2
  by_cases z : l % 2 = 0
  · rw [if_pos z] at h1
    rw [if_pos (by omega)] at h2
    simp only [Bool.and_eq_true, decide_eq_true_eq] at h1 h2
    omega
  · rw [if_neg z] at h1
    rw [if_neg (by omega)] at h2
    simp only [Bool.and_eq_true, decide_eq_true_eq] at h1 h2
    omega
theorem gx_mem_ins {eth : Nat → Bool} {fr to : Nat → Nat} {m a b : Nat} (hm : m < 20) (he : eth m = false) : gx_ins (gx_ins (gx_mem eth fr to) (2 * a) m) (2 * b + 1) m = gx_mem (fun q => eth q || decide (q = m)) (gr_up fr m a) (gr_up to m b) := by
  funext l q
  unfold gx_ins gx_mem gr_up
  by_cases z : q = m
  · subst z
    rw [he, if_pos rfl, if_pos rfl, decide_eq_true hm]
    simp only [decide_true, Bool.and_true, Bool.false_and, Bool.and_false, Bool.false_or, Bool.or_true, Bool.true_and]
    by_cases y : l % 2 = 0
    · rw [if_pos y]
      have : decide (l = 2 * b + 1) = false := decide_eq_false (by omega)
      rw [this, Bool.or_false]
      by_cases x : a = l / 2
      · rw [decide_eq_true x, decide_eq_true (show l = 2 * a by omega)]
      · rw [decide_eq_false x, decide_eq_false (show ¬ l = 2 * a by omega)]
    · rw [if_neg y]
      have : decide (l = 2 * a) = false := decide_eq_false (by omega)
      rw [this, Bool.false_or]
      by_cases x : b = l / 2
      · rw [decide_eq_true x, decide_eq_true (show l = 2 * b + 1 by omega)]
      · rw [decide_eq_false x, decide_eq_false (show ¬ l = 2 * b + 1 by omega)]
  · rw [if_neg z, if_neg z]
    simp [z]
section
variable {f_nodeSet f_edgeSet f_sortedCount f_keptCount f_which f_inOrder f_total f_depth f_begun f_assigned f_usedNodes f_edgeLinks : Int32} {a_labelOf a_valueOf a_fromOf a_toOf a_typeOf a_weightOf a_firstPage a_pageUsed a_pageNext a_pageSize a_pageEdge a_labelled a_sorted a_modeOf a_spotSet a_spotLabels a_spotLeast a_spotGreatest a_linkSet a_linkFrom a_linkTo a_linkTypes a_linkKind a_outgoing a_incoming a_allowed a_candidates a_behind a_before a_nodeFor a_levelSpot a_levelLeft a_edgeLink a_choiceLeft a_choice a_pickedEdge : Nat → Int32}
theorem gx_ae31 {post : Int32 → SX → Prop} {a b wv : Nat} {eth : Nat → Bool} (ha : a < 12) (hb : b < 12) (hwv : wv < 63) (hes : f_edgeSet = gb_mk eth) (HF : (∀ m, m < 20 → eth m = true) → post (-2) (f_nodeSet, f_edgeSet, f_sortedCount, f_keptCount, f_which, f_inOrder, f_total, f_depth, f_begun, f_assigned, f_usedNodes, f_edgeLinks, a_labelOf, a_valueOf, a_fromOf, a_toOf, a_typeOf, a_weightOf, a_firstPage, a_pageUsed, a_pageNext, a_pageSize, a_pageEdge, a_labelled, a_sorted, a_modeOf, a_spotSet, a_spotLabels, a_spotLeast, a_spotGreatest, a_linkSet, a_linkFrom, a_linkTo, a_linkTypes, a_linkKind, a_outgoing, a_incoming, a_allowed, a_candidates, a_behind, a_before, a_nodeFor, a_levelSpot, a_levelLeft, a_edgeLink, a_choiceLeft, a_choice, a_pickedEdge)) (HN : ∀ m, m < 20 → eth m = false → (∀ q, q < m → eth q = true) → wpX_list (fun u => match u with | (f_nodeSet, f_edgeSet, f_sortedCount, f_keptCount, f_which, f_inOrder, f_total, f_depth, f_begun, f_assigned, f_usedNodes, f_edgeLinks, a_labelOf, a_valueOf, a_fromOf, a_toOf, a_typeOf, a_weightOf, a_firstPage, a_pageUsed, a_pageNext, a_pageSize, a_pageEdge, a_labelled, a_sorted, a_modeOf, a_spotSet, a_spotLabels, a_spotLeast, a_spotGreatest, a_linkSet, a_linkFrom, a_linkTo, a_linkTypes, a_linkKind, a_outgoing, a_incoming, a_allowed, a_candidates, a_behind, a_before, a_nodeFor, a_levelSpot, a_levelLeft, a_edgeLink, a_choiceLeft, a_choice, a_pickedEdge) => (wpX_list (fun u => match u with | (f_nodeSet, f_edgeSet, f_sortedCount, f_keptCount, f_which, f_inOrder, f_total, f_depth, f_begun, f_assigned, f_usedNodes, f_edgeLinks, a_labelOf, a_valueOf, a_fromOf, a_toOf, a_typeOf, a_weightOf, a_firstPage, a_pageUsed, a_pageNext, a_pageSize, a_pageEdge, a_labelled, a_sorted, a_modeOf, a_spotSet, a_spotLabels, a_spotLeast, a_spotGreatest, a_linkSet, a_linkFrom, a_linkTo, a_linkTypes, a_linkKind, a_outgoing, a_incoming, a_allowed, a_candidates, a_behind, a_before, a_nodeFor, a_levelSpot, a_levelLeft, a_edgeLink, a_choiceLeft, a_choice, a_pickedEdge) => (wpX_followEdge (fun u => match u with | (f_nodeSet, f_edgeSet, f_sortedCount, f_keptCount, f_which, f_inOrder, f_total, f_depth, f_begun, f_assigned, f_usedNodes, f_edgeLinks, a_labelOf, a_valueOf, a_fromOf, a_toOf, a_typeOf, a_weightOf, a_firstPage, a_pageUsed, a_pageNext, a_pageSize, a_pageEdge, a_labelled, a_sorted, a_modeOf, a_spotSet, a_spotLabels, a_spotLeast, a_spotGreatest, a_linkSet, a_linkFrom, a_linkTo, a_linkTypes, a_linkKind, a_outgoing, a_incoming, a_allowed, a_candidates, a_behind, a_before, a_nodeFor, a_levelSpot, a_levelLeft, a_edgeLink, a_choiceLeft, a_choice, a_pickedEdge) => (post (nI m) (f_nodeSet, f_edgeSet, f_sortedCount, f_keptCount, f_which, f_inOrder, f_total, f_depth, f_begun, f_assigned, f_usedNodes, f_edgeLinks, a_labelOf, a_valueOf, a_fromOf, a_toOf, a_typeOf, a_weightOf, a_firstPage, a_pageUsed, a_pageNext, a_pageSize, a_pageEdge, a_labelled, a_sorted, a_modeOf, a_spotSet, a_spotLabels, a_spotLeast, a_spotGreatest, a_linkSet, a_linkFrom, a_linkTo, a_linkTypes, a_linkKind, a_outgoing, a_incoming, a_allowed, a_candidates, a_behind, a_before, a_nodeFor, a_levelSpot, a_levelLeft, a_edgeLink, a_choiceLeft, a_choice, a_pickedEdge))) (f_nodeSet, f_edgeSet, f_sortedCount, f_keptCount, f_which, f_inOrder, f_total, f_depth, f_begun, f_assigned, f_usedNodes, f_edgeLinks, a_labelOf, a_valueOf, a_fromOf, a_toOf, a_typeOf, a_weightOf, a_firstPage, a_pageUsed, a_pageNext, a_pageSize, a_pageEdge, a_labelled, a_sorted, a_modeOf, a_spotSet, a_spotLabels, a_spotLeast, a_spotGreatest, a_linkSet, a_linkFrom, a_linkTo, a_linkTypes, a_linkKind, a_outgoing, a_incoming, a_allowed, a_candidates, a_behind, a_before, a_nodeFor, a_levelSpot, a_levelLeft, a_edgeLink, a_choiceLeft, a_choice, a_pickedEdge) (nI m) 1)) (f_nodeSet, f_edgeSet, f_sortedCount, f_keptCount, f_which, f_inOrder, f_total, f_depth, f_begun, f_assigned, f_usedNodes, f_edgeLinks, a_labelOf, a_valueOf, a_fromOf, a_toOf, a_typeOf, a_weightOf, a_firstPage, a_pageUsed, a_pageNext, a_pageSize, a_pageEdge, a_labelled, a_sorted, a_modeOf, a_spotSet, a_spotLabels, a_spotLeast, a_spotGreatest, a_linkSet, a_linkFrom, a_linkTo, a_linkTypes, a_linkKind, a_outgoing, a_incoming, a_allowed, a_candidates, a_behind, a_before, a_nodeFor, a_levelSpot, a_levelLeft, a_edgeLink, a_choiceLeft, a_choice, a_pickedEdge) (nI (2 * b + 1)) (nI m))) (f_nodeSet, f_edgeSet ||| ((1 : Int32) <<< (nI m &&& 31)), f_sortedCount, f_keptCount, f_which, f_inOrder, f_total, f_depth, f_begun, f_assigned, f_usedNodes, f_edgeLinks, a_labelOf, a_valueOf, upd a_fromOf m (nI a), upd a_toOf m (nI b), upd a_typeOf m (nI (wv % 3)), upd a_weightOf m (nI (wv / 3)), a_firstPage, a_pageUsed, a_pageNext, a_pageSize, a_pageEdge, a_labelled, a_sorted, a_modeOf, a_spotSet, a_spotLabels, a_spotLeast, a_spotGreatest, a_linkSet, a_linkFrom, a_linkTo, a_linkTypes, a_linkKind, a_outgoing, a_incoming, a_allowed, a_candidates, a_behind, a_before, a_nodeFor, a_levelSpot, a_levelLeft, a_edgeLink, a_choiceLeft, a_choice, a_pickedEdge) (nI (2 * a)) (nI m)) : ∀ (d i n : Nat), i + d = 20 → d < n → (∀ q, q < i → eth q = true) → wX_addEdge_31 post (nI a) (nI b) (nI wv) f_nodeSet f_edgeSet f_sortedCount f_keptCount f_which f_inOrder f_total f_depth f_begun f_assigned f_usedNodes f_edgeLinks a_labelOf a_valueOf a_fromOf a_toOf a_typeOf a_weightOf a_firstPage a_pageUsed a_pageNext a_pageSize a_pageEdge a_labelled a_sorted a_modeOf a_spotSet a_spotLabels a_spotLeast a_spotGreatest a_linkSet a_linkFrom a_linkTo a_linkTypes a_linkKind a_outgoing a_incoming a_allowed a_candidates a_behind a_before a_nodeFor a_levelSpot a_levelLeft a_edgeLink a_choiceLeft a_choice a_pickedEdge n (nI i) := by
  intro d
  induction d with
  | zero =>
    intro i n hi hn h
    obtain ⟨n, rfl⟩ := gx_S n (by omega)
    exact pk_le 20 i (fun _ => HF (fun m hm => h m (by omega))) (fun h => by omega)
  | succ d ih =>
    intro i n hi hn h
    obtain ⟨n, rfl⟩ := gx_S n (by omega)
    have hin : vp_in (nI i) 20 := vp_in_nI (by omega) (by omega)
    refine pk_le 20 i (fun h => by omega) (fun _ => gx_isEdgeB (by omega) (fun z => ?_) (fun z => nm_r (nI_1 i) (ih (i + 1) n (by omega) (by omega) (fun q hq => ?_))))
    · rw [hes, gb_mk_l _ (by omega)] at z
      have key := HN i (by omega) z h
      rw [nI_clamp (n := i) (by omega), gy_rem3 (by omega), gy_div3 (by omega), gx_byte4 (by omega), gx_byte4 (by omega), gx_byte4 (by omega), gx_byte4 (by omega), gx_2n, gx_2n, nI_1 (2 * b)]
      exact nm_e (And.intro hin (nm_e (And.intro hin (nm_e (And.intro (by decide) (And.intro hin (nm_e (And.intro (by decide) (And.intro hin (nm_e key))))))))))
    · rw [hes, gb_mk_l _ (by omega)] at z
      by_cases y : q = i
      · rw [y]; exact z
      · exact h q (by omega)
end
section
variable {f_base f_many : Int32} {a_nodeThere a_labels a_values a_edgeThere a_froms a_tos a_whats a_patterns a_parts a_chosen : Nat → Int32}
theorem gy_ae31 {post : Int32 → SY → Prop} {x1 x2 x3 : Int32} {eth : Nat → Bool} (hE : gy_Nz a_edgeThere eth 20) (HF : (∀ m, m < 20 → eth m = true) → post (-2) (f_base, f_many, a_nodeThere, a_labels, a_values, a_edgeThere, a_froms, a_tos, a_whats, a_patterns, a_parts, a_chosen)) (HN : ∀ m, m < 20 → eth m = false → (∀ q, q < m → eth q = true) → post (nI m) (f_base, f_many, a_nodeThere, a_labels, a_values, upd a_edgeThere m 1, upd a_froms m x1, upd a_tos m x2, upd a_whats m x3, a_patterns, a_parts, a_chosen)) : ∀ (d i n : Nat), i + d = 20 → d < n → (∀ q, q < i → eth q = true) → wY_addEdge_31 post x1 x2 x3 f_base f_many a_nodeThere a_labels a_values a_edgeThere a_froms a_tos a_whats a_patterns a_parts a_chosen n (nI i) := by
  intro d
  induction d with
  | zero =>
    intro i n hi hn h
    obtain ⟨n, rfl⟩ := gx_S n (by omega)
    exact pk_le 20 i (fun _ => HF (fun m hm => h m (by omega))) (fun h => by omega)
  | succ d ih =>
    intro i n hi hn h
    obtain ⟨n, rfl⟩ := gx_S n (by omega)
    have hin : vp_in (nI i) 20 := vp_in_nI (by omega) (by omega)
    refine pk_le 20 i (fun h => by omega) (fun _ => And.intro hin ?_)
    rw [nI_clamp (n := i) (by omega), gx_bool1]
    refine br_c (fun z => ?_) (fun z => nm_r (nI_1 i) (ih (i + 1) n (by omega) (by omega) (fun q hq => ?_)))
    · exact And.intro hin (nm_e (And.intro hin (nm_e (And.intro hin (nm_e (And.intro hin (nm_e (HN i (by omega) ((hE i (by omega)).mp z) h))))))))
    · by_cases y : q = i
      · rw [y]
        cases hh : eth i
        · exact absurd ((hE i (by omega)).mpr hh) z
        · rfl
      · exact h q (by omega)
end
/-- the old count, by the new edges without the new one -/
theorem gr_M_old {mode : Nat} {sp lk kd : Nat → Bool} {la lb : Nat → Nat} {cd : Nat → Nat → Bool} {tys : Nat → Int32} {eth : Nat → Bool} {wh fr to : Nat → Nat} {m a b wv : Nat} (hk : ∀ j, j < 4 → lk j = true → kd j = false) (he : eth m = false) :
    gp_M mode sp lk kd la lb cd (gp_aw (gp_al lk (fun q => eth q || decide (q = m)) tys (gr_up wh m wv)) m 4) (gr_up fr m a) (gr_up to m b) = gp_M mode sp lk kd la lb cd (gp_al lk eth tys wh) fr to := by
  rw [gp_M_eq hk, gp_M_eq hk]
  apply gp_fs_c
  intro g _
  congr 1
  apply gp_Y_c
  intro p hp g n _
  obtain ⟨j, rfl, hj, _⟩ := gp_lp_m.mp hp
  unfold gp_ef
  rw [show 4 + j - 4 = j from by omega]
  have e1 : gp_aw (gp_al lk (fun q => eth q || decide (q = m)) tys (gr_up wh m wv)) m 4 j n = gp_al lk eth tys wh j n := by
    unfold gp_aw gp_al gr_up
    rw [decide_eq_true hj]
    by_cases z : n = m
    · rw [z, he]; simp
    · rw [if_neg z]; simp [z]
  rw [e1]
  by_cases z : n = m
  · have : gp_al lk eth tys wh j n = false := by
      unfold gp_al
      rw [z, he]; simp
    rw [this]; rfl
  · unfold gr_up
    rw [if_neg z, if_neg z]
theorem i_vc_addEdge {k : Nat} {u : SX} {v : SY} (I : i_Rel k u v) (hk : k + 5 ≤ 2560) (v1 : Int32) (v2 : Int32) (v3 : Int32) : wpX_addEdge (fun r u' => wpY_addEdge (fun r' v' => r' = r ∧ i_Rel (k + 5) u' v') v v1 v2 v3) u v1 v2 v3 := by
  refine gr_el (P := fun u v => wpX_addEdge (fun r u' => wpY_addEdge (fun r' v' => r' = r ∧ i_Rel (k + 5) u' v') v v1 v2 v3) u v1 v2 v3) I ?_
  intro f_nodeSet f_edgeSet f_sortedCount f_keptCount f_which f_inOrder f_total f_depth f_begun f_assigned f_usedNodes f_edgeLinks a_labelOf a_valueOf a_fromOf a_toOf a_typeOf a_weightOf a_firstPage a_pageUsed a_pageNext a_pageSize a_pageEdge a_labelled a_sorted a_modeOf a_spotSet a_spotLabels a_spotLeast a_spotGreatest a_linkSet a_linkFrom a_linkTo a_linkTypes a_linkKind a_outgoing a_incoming a_allowed a_candidates a_behind a_before a_nodeFor a_levelSpot a_levelLeft a_edgeLink a_choiceLeft a_choice a_pickedEdge f_base f_many a_nodeThere a_labels a_values a_edgeThere a_froms a_tos a_whats a_patterns a_parts a_chosen R
  have R0 := R
  obtain ⟨th, eth, lab, wh, fr, to, sc, so, hG, hH, mode, sp, lk, kd, la, lb, tys, labs, lst, grt, hP, hK⟩ := R
  obtain ⟨rfl, g2, rfl, rfl, rfl, rfl, g7, g8, g9⟩ := hG
  have g20 := g2
  obtain ⟨x1, x2, x3, x4, x5, x6, x7, x8, x9, x10, x11, x12⟩ := g2
  have yes : ∀ (A : Int32 → Prop) (m : Nat), m < 12 → th m = true → A 1 → wpY_isNode A (f_base, f_many, a_nodeThere, a_labelOf, a_valueOf, a_edgeThere, a_fromOf, a_toOf, a_whats, a_patterns, a_parts, a_chosen) (nI m) := by
    intro A m hm hth hA
    refine gy_isNode (fun i hi e hz => hA) (fun hz => ?_)
    have := (gr_node x1 g7 hm).2.2.mp (hz m hm rfl)
    rw [this] at hth; cases hth
  have no : ∀ (A : Int32 → Prop) (x : Int32), (∀ i, i < 12 → x = nI i → bt f_nodeSet i = false) → A 0 → wpY_isNode A (f_base, f_many, a_nodeThere, a_labelOf, a_valueOf, a_edgeThere, a_fromOf, a_toOf, a_whats, a_patterns, a_parts, a_chosen) x := by
    intro A x hno hA
    refine gy_isNode (fun i hi e hz => ?_) (fun _ => hA)
    have h2 := (gr_node x1 g7 hi).2.1.mp (hno i hi e)
    exact absurd ((gr_node x1 g7 hi).2.2.mpr h2) hz
  unfold wpX_addEdge
  refine gx_isNode (fun a ha e hba => br_f (by decide) ?_) (fun hno => br_t rfl ?_)
  · subst e
    have hta := (gr_node x1 g7 ha).1.mp hba
    refine gx_isNode (fun b hb e hbb => br_f (by decide) ?_) (fun hno => br_t rfl ?_)
    · subst e
      have htb := (gr_node x1 g7 hb).1.mp hbb
      rcases gr_cmp v3 62 (by omega) with h | ⟨h1, h2, h3, h4⟩ | ⟨wv, hwv, rfl, h1, h2, h3, h4⟩
      · refine br_t h ?_
        unfold wpY_addEdge
        exact yes _ a ha hta (br_f (by decide) (yes _ b hb htb (br_f (by decide) (br_t h ⟨rfl, R0⟩))))
      · refine br_f h1 (br_f h4 ?_)
        unfold wpY_addEdge
        exact yes _ a ha hta (br_f (by decide) (yes _ b hb htb (br_f (by decide) (br_f h1 (br_f h4 ⟨rfl, R0⟩)))))
      · have yrun : ∀ (post : Int32 → SY → Prop), (∃ n31 : Nat, wY_addEdge_31 post (nI a) (nI b) (nI wv) f_base f_many a_nodeThere a_labelOf a_valueOf a_edgeThere a_fromOf a_toOf a_whats a_patterns a_parts a_chosen n31 0) → wpY_addEdge post (f_base, f_many, a_nodeThere, a_labelOf, a_valueOf, a_edgeThere, a_fromOf, a_toOf, a_whats, a_patterns, a_parts, a_chosen) (nI a) (nI b) (nI wv) := by
          intro post h
          unfold wpY_addEdge
          exact yes _ a ha hta (br_f (by decide) (yes _ b hb htb (br_f (by decide) (br_f h1 (br_t h4 h)))))
        refine br_f h1 (br_t h4 (Exists.intro 21 (gx_ae31 (eth := eth) ha hb (by omega) x3 (fun hall => yrun _ (Exists.intro 21 (gy_ae31 g8 (fun _ => ⟨rfl, R0⟩) (fun m hm hf _ => by rw [hall m hm] at hf; cases hf) 20 0 21 rfl (by omega) (fun q hq => by omega)))) (fun m hm hf hbelow => ?_) 20 0 21 rfl (by omega) (fun q hq => by omega))))
        have hmf : ∀ l, gx_mem eth fr to l m = false := fun l => by unfold gx_mem; rw [hf]; simp
        refine gx_list (mem := gx_mem eth fr to) (by omega) hm (hmf _) gx_mem_u x10 (fun fp us nx sz pe hPg => ?_)
        refine gx_list (mem := gx_ins (gx_mem eth fr to) (2 * a) m) (by omega) hm ?_ ?_ hPg (fun fp us nx sz pe hPg2 => ?_)
        · unfold gx_ins
          rw [hmf, decide_eq_false (show ¬ 2 * b + 1 = 2 * a by omega)]; rfl
        · intro l l' e q1 q2 q3
          unfold gx_ins at q1 q2
          by_cases z : e = m
          · rw [z, hmf] at q1 q2
            simp only [decide_true, Bool.and_true, Bool.false_or, decide_eq_true_eq] at q1 q2
            omega
          · rw [decide_eq_false z, Bool.and_false, Bool.or_false] at q1 q2
            exact gx_mem_u l l' e q1 q2 q3
        · rw [gx_mem_ins hm hf] at hPg2
          have hG' : gx_Gr th (fun q => eth q || decide (q = m)) lab (gr_up wh m wv) (gr_up fr m a) (gr_up to m b) sc so f_nodeSet (f_edgeSet ||| ((1 : Int32) <<< (nI m &&& 31))) a_labelOf a_valueOf (upd a_fromOf m (nI a)) (upd a_toOf m (nI b)) (upd a_typeOf m (nI (wv % 3))) (upd a_weightOf m (nI (wv / 3))) fp us nx sz pe a_labelled a_sorted := by
            refine ⟨x1, x2, ?_, fun e he => ?_, x5, gr_Nm_up x6 ha, gr_Nm_up x7 hb, fun e he => ?_, fun e => ?_, hPg2, x11, x12⟩
            · rw [x3]
              apply gb_mk_of
              intro q hq
              rw [b_or, gb_mk_l _ hq, gb_one (by omega)]
            · rw [Bool.or_eq_true, decide_eq_true_eq] at he
              rcases he with he | he
              · exact x4 e he
              · omega
            · unfold gr_up
              by_cases z : e = m
              · rw [z, pk_us, pk_us, if_pos rfl]; exact ⟨rfl, rfl⟩
              · rw [pk_un z, pk_un z, if_neg z]; exact x8 e he
            · unfold gr_up
              by_cases z : e = m
              · rw [if_pos z]; exact hwv
              · rw [if_neg z]; exact x9 e
          have fin : ∀ (kk : Int32) (u' : SX), (∀ (ets frs tos whs : Nat → Int32), ets = upd a_edgeThere m 1 → frs = upd a_fromOf m (nI a) → tos = upd a_toOf m (nI b) → whs = upd a_whats m (nI wv) → i_Rel (k + 5) u' (f_base, f_many, a_nodeThere, a_labelOf, a_valueOf, ets, frs, tos, whs, a_patterns, a_parts, a_chosen)) → wpY_addEdge (fun r' v' => r' = nI m ∧ i_Rel (k + 5) u' v') (f_base, f_many, a_nodeThere, a_labelOf, a_valueOf, a_edgeThere, a_fromOf, a_toOf, a_whats, a_patterns, a_parts, a_chosen) (nI a) (nI b) (nI wv) := by
            intro kk u' hr
            refine yrun _ (Exists.intro 21 (gy_ae31 g8 (fun hall => by rw [hall m hm] at hf; cases hf) (fun m' hm' hf' hb' => ?_) 20 0 21 rfl (by omega) (fun q hq => by omega)))
            have hmm : m' = m := by
              rcases Nat.lt_trichotomy m' m with h | h | h
              · rw [hbelow m' h] at hf'; cases hf'
              · exact h
              · rw [hb' m h] at hf; cases hf
            subst hmm
            exact ⟨rfl, hr _ _ _ _ rfl rfl rfl rfl⟩
          have rel : ∀ kk, kk = nI (gp_M mode sp lk kd la lb (gp_cd sp th labs lst grt a_valueOf lab) (gp_al lk (fun q => eth q || decide (q = m)) tys (gr_up wh m wv)) (gr_up fr m a) (gr_up to m b)) → gr_R f_nodeSet (f_edgeSet ||| ((1 : Int32) <<< (nI m &&& 31))) (nI sc) kk a_labelOf a_valueOf (upd a_fromOf m (nI a)) (upd a_toOf m (nI b)) (upd a_typeOf m (nI (wv % 3))) (upd a_weightOf m (nI (wv / 3))) fp us nx sz pe a_labelled a_sorted a_modeOf a_spotSet a_spotLabels a_spotLeast a_spotGreatest a_linkSet a_linkFrom a_linkTo a_linkTypes a_linkKind a_nodeThere a_labelOf a_valueOf (upd a_edgeThere m 1) (upd a_fromOf m (nI a)) (upd a_toOf m (nI b)) (upd a_whats m (nI wv)) a_patterns := by
            intro kk hkk
            exact ⟨th, _, lab, _, _, _, sc, so, ⟨rfl, hG', rfl, rfl, rfl, rfl, g7, gr_Nz_up g8, gr_Nm_up g9 (by omega)⟩, hH, ⟨mode, sp, lk, kd, la, lb, tys, labs, lst, grt, hP, hkk⟩⟩
          refine gx_followEdge hm hP.1 hP.2.1 hG' (fun _ q0 q1 q2 q3 q4 q5 q6 q7 q8 q9 q10 q11 q12 q13 q14 q15 q16 q17 q18 q19 => fin 0 _ ?_) (fun hnw q0 q1 q2 q3 q4 q5 q6 q7 q8 q9 q10 q11 q12 q13 q14 q15 q16 q17 q18 q19 => fin 0 _ ?_)
          · intro ets frs tos whs e1 e2 e3 e4
            subst e1 e2 e3 e4
            exact rel _ rfl
          · intro ets frs tos whs e1 e2 e3 e4
            subst e1 e2 e3 e4
            refine rel _ ?_
            have t4 := gp_tele4 (mode := mode) (sp := sp) (la := la) (lb := lb) (cd := gp_cd sp th labs lst grt a_valueOf lab) (fr := gr_up fr m a) (to := gr_up to m b) hnw (gp_al lk (fun q => eth q || decide (q = m)) tys (gr_up wh m wv)) m 4 (Nat.le_refl _)
            rw [gp_aw0, gr_M_old hnw hf] at t4
            rw [t4, ← nI_add, hK, Int32.one_mul]
    · unfold wpY_addEdge
      exact yes _ a ha hta (br_f (by decide) (no _ v2 hno (br_t rfl ⟨rfl, R0⟩)))
  · unfold wpY_addEdge
    exact no _ v1 hno (br_t rfl ⟨rfl, R0⟩)
theorem gr_al_drop {lk eth : Nat → Bool} {tys : Nat → Int32} {wh : Nat → Nat} {e : Nat} (h4 : ∀ j, 4 ≤ j → lk j = false) : gp_al lk (fun q => eth q && decide (q ≠ e)) tys wh = gp_aw (gp_al lk eth tys wh) e 4 := by
  funext j q
  unfold gp_aw gp_al
  by_cases z : j < 4
  · rw [decide_eq_true z]
    by_cases y : q = e
    · simp [y]
    · simp [y]
  · rw [h4 j (by omega)]; simp
theorem i_vc_removeEdge {k : Nat} {u : SX} {v : SY} (I : i_Rel k u v) (hk : k + 5 ≤ 2560) (v1 : Int32) : wpX_removeEdge (fun r u' => wpY_removeEdge (fun r' v' => r' = r ∧ i_Rel (k + 5) u' v') v v1) u v1 := by
  refine gr_el (P := fun u v => wpX_removeEdge (fun r u' => wpY_removeEdge (fun r' v' => r' = r ∧ i_Rel (k + 5) u' v') v v1) u v1) I ?_
  intro f_nodeSet f_edgeSet f_sortedCount f_keptCount f_which f_inOrder f_total f_depth f_begun f_assigned f_usedNodes f_edgeLinks a_labelOf a_valueOf a_fromOf a_toOf a_typeOf a_weightOf a_firstPage a_pageUsed a_pageNext a_pageSize a_pageEdge a_labelled a_sorted a_modeOf a_spotSet a_spotLabels a_spotLeast a_spotGreatest a_linkSet a_linkFrom a_linkTo a_linkTypes a_linkKind a_outgoing a_incoming a_allowed a_candidates a_behind a_before a_nodeFor a_levelSpot a_levelLeft a_edgeLink a_choiceLeft a_choice a_pickedEdge f_base f_many a_nodeThere a_labels a_values a_edgeThere a_froms a_tos a_whats a_patterns a_parts a_chosen R
  have R0 := R
  obtain ⟨th, eth, lab, wh, fr, to, sc, so, hG, hH, mode, sp, lk, kd, la, lb, tys, labs, lst, grt, hP, hK⟩ := R
  obtain ⟨rfl, g2, rfl, rfl, rfl, rfl, g7, g8, g9⟩ := hG
  have g20 := g2
  obtain ⟨x1, x2, x3, x4, x5, x6, x7, x8, x9, x10, x11, x12⟩ := g2
  unfold wpX_removeEdge
  refine gx_isEdge (fun e he ev hb => br_f (by decide) ?_) (fun hno => br_t rfl ?_)
  · subst ev
    rw [x3, gb_mk_l _ (by omega)] at hb
    have hin : vp_in (nI e) 20 := vp_in_nI he (by omega)
    have hne : ¬ a_edgeThere e = 0 := fun w => by rw [(g8 e he).mp w] at hb; cases hb
    have yfin : ∀ (u' : SX), (i_Rel (k + 5) u' (f_base, f_many, a_nodeThere, a_labelOf, a_valueOf, upd a_edgeThere e 0, a_fromOf, a_toOf, a_whats, a_patterns, a_parts, a_chosen)) → wpY_removeEdge (fun r' v' => r' = 1 ∧ i_Rel (k + 5) u' v') (f_base, f_many, a_nodeThere, a_labelOf, a_valueOf, a_edgeThere, a_fromOf, a_toOf, a_whats, a_patterns, a_parts, a_chosen) (nI e) := by
      intro u' hr
      refine br_f (nI_pos (by omega)) (br_f (nI_ge (b := 20) he (by omega)) (And.intro hin ?_))
      rw [nI_clamp (n := e) (by omega), gx_bool0]
      exact br_f hne (And.intro hin (nm_e ⟨rfl, hr⟩))
    have hGd : ∀ fp us nx sz pe, gx_Pg (gx_mem (fun q => eth q && decide (q ≠ e)) fr to) fp us nx sz pe → gx_Gr th (fun q => eth q && decide (q ≠ e)) lab wh fr to sc so f_nodeSet (gb_mk (fun q => eth q && decide (q ≠ e))) a_labelOf a_valueOf a_fromOf a_toOf a_typeOf a_weightOf fp us nx sz pe a_labelled a_sorted := by
      intro fp us nx sz pe hPg
      exact ⟨x1, x2, rfl, fun q hq => by rw [Bool.and_eq_true] at hq; exact x4 q hq.1, x5, x6, x7, x8, x9, hPg, x11, x12⟩
    have rel : ∀ kk fp us nx sz pe, gx_Pg (gx_mem (fun q => eth q && decide (q ≠ e)) fr to) fp us nx sz pe → kk = nI (gp_M mode sp lk kd la lb (gp_cd sp th labs lst grt a_valueOf lab) (gp_al lk (fun q => eth q && decide (q ≠ e)) tys wh) fr to) → gr_R f_nodeSet (gb_mk (fun q => eth q && decide (q ≠ e))) (nI sc) kk a_labelOf a_valueOf a_fromOf a_toOf a_typeOf a_weightOf fp us nx sz pe a_labelled a_sorted a_modeOf a_spotSet a_spotLabels a_spotLeast a_spotGreatest a_linkSet a_linkFrom a_linkTo a_linkTypes a_linkKind a_nodeThere a_labelOf a_valueOf (upd a_edgeThere e 0) a_fromOf a_toOf a_whats a_patterns := by
      intro kk fp us nx sz pe hPg hkk
      refine ⟨th, _, lab, wh, fr, to, sc, so, ⟨rfl, hGd fp us nx sz pe hPg, rfl, rfl, rfl, rfl, g7, fun q hq => ?_, g9⟩, hH, ⟨mode, sp, lk, kd, la, lb, tys, labs, lst, grt, hP, hkk⟩⟩
      by_cases y : q = e
      · rw [y, pk_us]; simp
      · rw [pk_un y]
        dsimp only
        rw [decide_eq_true (show q ≠ e from y), Bool.and_true]
        exact g8 q hq
    have hlkd : ∀ j, j < 4 → lk j = true → a_linkKind (1 * 4 + j) = if kd j then 1 else 0 := fun j hj hl => (hP.2.1.2.2.2.2 j hj hl).2.2.2
    refine gx_followEdge he hP.1 hP.2.1 g20 (fun hw q0 q1 q2 q3 q4 q5 q6 q7 q8 q9 q10 q11 q12 q13 q14 q15 q16 q17 q18 q19 => ?_) (fun hnw q0 q1 q2 q3 q4 q5 q6 q7 q8 q9 q10 q11 q12 q13 q14 q15 q16 q17 q18 q19 => ?_)
    · refine gx_dropEdge hb he x3 x6 x7 x10 (fun fp us nx sz pe hPg => ?_)
      refine gx_hasWays (lk := lk) (kd := kd) hP.2.1.2.2.1 hlkd (fun _ => br_f (by decide) ?_) (fun hnw => ?_)
      · exact gx_recount hP.1 hP.2.1 (hGd fp us nx sz pe hPg) (fun q0 q1 q2 q3 q4 q5 q6 q7 q8 q9 q10 q11 q12 q13 q14 q15 q16 q17 q18 q19 => yfin _ (rel _ fp us nx sz pe hPg rfl))
      · obtain ⟨j, hj, hl, hkd⟩ := hw
        rw [hnw j hj hl] at hkd; cases hkd
    · refine gx_dropEdge hb he x3 x6 x7 x10 (fun fp us nx sz pe hPg => ?_)
      refine gx_hasWays (lk := lk) (kd := kd) hP.2.1.2.2.1 hlkd (fun hw => ?_) (fun _ => br_t rfl (yfin _ (rel _ fp us nx sz pe hPg ?_)))
      · obtain ⟨j, hj, hl, hkd⟩ := hw
        rw [hnw j hj hl] at hkd; cases hkd
      · have t4 := gp_tele4 (mode := mode) (sp := sp) (la := la) (lb := lb) (cd := gp_cd sp th labs lst grt a_valueOf lab) (fr := fr) (to := to) hnw (gp_al lk eth tys wh) e 4 (Nat.le_refl _)
        rw [gp_aw0] at t4
        rw [gr_al_drop (fun j hj => (hP.1.2.1 j hj).2), hK, t4, ← nI_add]
        generalize nI (gp_D (fun t => gp_M mode sp lk kd la lb (gp_cd sp th labs lst grt a_valueOf lab) (gp_ao (gp_al lk eth tys wh) e t) fr to) lk 4) = D
        generalize nI (gp_M mode sp lk kd la lb (gp_cd sp th labs lst grt a_valueOf lab) (gp_aw (gp_al lk eth tys wh) e 4) fr to) = A
        rw [Int32.neg_mul, Int32.one_mul, Int32.add_assoc, ← Int32.sub_eq_add_neg, Int32.sub_self, Int32.add_zero]
  · have nofin : wpY_removeEdge (fun r' v' => r' = 0 ∧ i_Rel (k + 5) (f_nodeSet, f_edgeSet, nI sc, f_keptCount, f_which, f_inOrder, f_total, f_depth, f_begun, f_assigned, f_usedNodes, f_edgeLinks, a_labelOf, a_valueOf, a_fromOf, a_toOf, a_typeOf, a_weightOf, a_firstPage, a_pageUsed, a_pageNext, a_pageSize, a_pageEdge, a_labelled, a_sorted, a_modeOf, a_spotSet, a_spotLabels, a_spotLeast, a_spotGreatest, a_linkSet, a_linkFrom, a_linkTo, a_linkTypes, a_linkKind, a_outgoing, a_incoming, a_allowed, a_candidates, a_behind, a_before, a_nodeFor, a_levelSpot, a_levelLeft, a_edgeLink, a_choiceLeft, a_choice, a_pickedEdge) v') (f_base, f_many, a_nodeThere, a_labelOf, a_valueOf, a_edgeThere, a_fromOf, a_toOf, a_whats, a_patterns, a_parts, a_chosen) v1 := by
      rcases gr_cmp v1 19 (by omega) with h | ⟨h1, h2, h3, h4⟩ | ⟨e, he, rfl, h1, h2, h3, h4⟩
      · exact br_t h ⟨rfl, R0⟩
      · exact br_f h1 (br_t h2 ⟨rfl, R0⟩)
      · refine br_f h1 (br_f h2 (And.intro (vp_in_nI (by omega) (by omega)) ?_))
        rw [nI_clamp (n := e) (by omega)]
        refine br_t ((g8 e (by omega)).mpr ?_) ⟨rfl, R0⟩
        have := hno e (by omega) rfl
        rw [x3, gb_mk_l _ (by omega)] at this
        exact this
    exact nofin
end
