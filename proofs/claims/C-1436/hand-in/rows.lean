section
/-! pure rows to paste: stores, nI and lN arithmetic, masks, shifts, narrowing, branches by naturals (pk_le, pk_lt, pk_eq), loops (lp1 .. lp16: the measure of the state; rp1 ..: recursion), negatives. Take what you need -/
theorem pk_us {f : Nat → Int32} {k : Nat} {x : Int32} : upd f k x k = x := if_pos rfl
theorem pk_un {f : Nat → Int32} {k j : Nat} {x : Int32} (h : j ≠ k) : upd f k x j = f j := if_neg h
theorem pk_uLs {f : Nat → Int64} {k : Nat} {x : Int64} : vp_updL f k x k = x := if_pos rfl
theorem pk_uLn {f : Nat → Int64} {k j : Nat} {x : Int64} (h : j ≠ k) : vp_updL f k x j = f j := if_neg h
theorem pk_sub {a b : Nat} (h : b ≤ a) : nI a - nI b = nI (a - b) := by
  obtain ⟨c, rfl⟩ : ∃ c, a = c + b := ⟨a - b, by omega⟩
  rw [← nI_add, Int32.add_sub_cancel, Nat.add_sub_cancel]
theorem pk_m1 (n : Nat) : nI (n + 1) + (-1) = nI n := by
  rw [← nI_1, Int32.add_assoc, show (1 : Int32) + (-1) = 0 from rfl, Int32.add_zero]
theorem pk_mul (a b : Nat) : nI a * nI b = nI (a * b) := (Int32.ofNat_mul a b).symm
theorem pk_div {a d : Nat} (ha : a < 2 ^ 31) (h0 : 0 < d) (hd : d < 2 ^ 31) : nI a / nI d = nI (a / d) := by
  apply Int32.toInt_inj.mp
  rw [lg_idiv_nonneg (by rw [nI_toInt ha]; omega) (by rw [nI_toInt hd]; omega), nI_toInt ha, nI_toInt hd, nI_toInt (Nat.lt_of_le_of_lt (Nat.div_le_self a d) ha)]
  first | rfl | exact (Int.natCast_ediv _ _).symm
theorem pk_rem {a d : Nat} (ha : a < 2 ^ 31) (h0 : 0 < d) (hd : d < 2 ^ 31) : nI a - nI a / nI d * nI d = nI (a % d) := by
  rw [pk_div ha h0 hd, pk_mul, pk_sub (Nat.div_mul_le_self a d)]
  exact congrArg nI (by have := Nat.div_add_mod' a d; omega)
theorem pk_sub_toInt {a b : Nat} (ha : a < 2 ^ 30) (hb : b < 2 ^ 30) : (nI a - nI b).toInt = (a : Int) - b := by
  rw [Int32.toInt_sub, nI_toInt (by omega), nI_toInt (by omega)]
  exact Int.bmod_eq_of_le (by omega) (by omega)
theorem pk_sneg {a b : Nat} (hb : b < 2 ^ 30) (h : a < b) : nI a - nI b < 0 := by
  rw [Int32.lt_iff_toInt_lt, pk_sub_toInt (by omega) hb, show (0 : Int32).toInt = 0 from by decide]
  omega
theorem pk_ix (x : Int32) {n : Nat} (hn : n < 2 ^ 31) : x < 0 ∨ nI n ≤ x ∨ ∃ j : Nat, j < n ∧ x = nI j := by
  by_cases h : x < 0
  · exact Or.inl h
  · obtain ⟨j, hj, rfl⟩ := nI_of h
    by_cases h2 : j < n
    · exact Or.inr (Or.inr ⟨j, h2, rfl⟩)
    · exact Or.inr (Or.inl (nI_le (by omega) hj))
theorem pk_le {x y : Int32} {A B : Prop} (a b : Nat) (f : a ≤ b → A) (g : b < a → B) (hx : x = nI a := by rfl) (hy : y = nI b := by rfl) (ha : a < 2 ^ 31 := by omega) (hb : b < 2 ^ 31 := by omega) : (x ≤ y → A) ∧ (¬ x ≤ y → B) := by
  subst hx hy
  rw [nI_leI ha hb]
  exact ⟨f, fun z => g (by omega)⟩
theorem pk_lt {x y : Int32} {A B : Prop} (a b : Nat) (f : a < b → A) (g : b ≤ a → B) (hx : x = nI a := by rfl) (hy : y = nI b := by rfl) (ha : a < 2 ^ 31 := by omega) (hb : b < 2 ^ 31 := by omega) : (x < y → A) ∧ (¬ x < y → B) := by
  subst hx hy
  rw [nI_ltI ha hb]
  exact ⟨f, fun z => g (by omega)⟩
theorem pk_eq {x y : Int32} {A B : Prop} (a b : Nat) (f : a = b → A) (g : a ≠ b → B) (hx : x = nI a := by rfl) (hy : y = nI b := by rfl) (ha : a < 2 ^ 31 := by omega) (hb : b < 2 ^ 31 := by omega) : (x = y → A) ∧ (¬ x = y → B) := by
  subst hx hy
  rw [nI_eq ha hb]
  exact ⟨f, g⟩
theorem pk_in {x : Int32} (n N : Nat) (h : n < N) (hx : x = nI n := by rfl) (hN : N < 2 ^ 31 := by omega) : vp_in x N := by
  subst hx
  exact vp_in_nI h hN
theorem pk_cl {x : Int32} (n : Nat) (hx : x = nI n := by rfl) (h : n < 2 ^ 31 := by omega) : x.toNatClampNeg = n := by
  subst hx
  exact nI_clamp h
theorem pk_tn {n : Nat} (h : n < 2 ^ 32) : (nI n).toBitVec.toNat = n := Nat.mod_eq_of_lt h
theorem pk_and (x : Int32) {m : Int32} (k : Nat) (hm : m.toBitVec.toNat = 2 ^ k - 1) : x &&& m = nI (x.toBitVec.toNat % 2 ^ k) := by
  apply Int32.toBitVec_inj.mp
  apply BitVec.eq_of_toNat_eq
  rw [Int32.toBitVec_and, BitVec.toNat_and, hm, Nat.and_two_pow_sub_one_eq_mod]
  show _ = (BitVec.ofNat 32 _).toNat
  rw [BitVec.toNat_ofNat]
  exact (Nat.mod_eq_of_lt (Nat.lt_of_le_of_lt (Nat.mod_le _ _) x.toBitVec.isLt)).symm
theorem pk_andN {n : Nat} (h : n < 2 ^ 32) {m : Int32} (k : Nat) (hm : m.toBitVec.toNat = 2 ^ k - 1) : nI n &&& m = nI (n % 2 ^ k) := by
  rw [pk_and _ k hm, pk_tn h]
theorem pk_andE (x : Int32) {m : Int32} (k : Nat) (hm : m.toBitVec.toNat = 2 ^ k - 1) : ∃ j : Nat, j < 2 ^ k ∧ x &&& m = nI j := ⟨_, Nat.mod_lt _ (Nat.two_pow_pos k), pk_and x k hm⟩
theorem pk_andIn (x : Int32) {m : Int32} (k : Nat) (hm : m.toBitVec.toNat = 2 ^ k - 1) (hk : k ≤ 30) : vp_in (x &&& m) (2 ^ k) := by
  obtain ⟨j, hj, e⟩ := pk_andE x k hm
  rw [e]
  exact vp_in_nI hj (Nat.lt_of_le_of_lt (Nat.pow_le_pow_right (by decide) hk) (by decide))
theorem pk_shl (a s : Int32) (k : Nat) (hs : (s.toBitVec.smod 32).toNat = k) : (a <<< s).toBitVec.toNat = a.toBitVec.toNat * 2 ^ k % 2 ^ 32 := by
  show (a.toBitVec <<< (s.toBitVec.smod 32).toNat).toNat = _
  rw [hs, BitVec.toNat_shiftLeft, Nat.shiftLeft_eq]
theorem pk_shlN {n : Nat} (s : Int32) (k : Nat) (hs : (s.toBitVec.smod 32).toNat = k) (h : n * 2 ^ k < 2 ^ 32) : nI n <<< s = nI (n * 2 ^ k) := by
  apply Int32.toBitVec_inj.mp
  apply BitVec.eq_of_toNat_eq
  have hn : n < 2 ^ 32 := Nat.lt_of_le_of_lt (Nat.le_mul_of_pos_right n (Nat.two_pow_pos k)) h
  rw [pk_shl _ _ k hs, pk_tn hn, pk_tn h, Nat.mod_eq_of_lt h]
theorem pk_shr (a s : Int32) (k : Nat) (hs : (s.toBitVec.smod 32).toNat = k) : (a >>> s).toInt = a.toInt >>> k := by
  show (a.toBitVec.sshiftRight (s.toBitVec.smod 32).toNat).toInt = _
  rw [hs, BitVec.toInt_sshiftRight]
  rfl
theorem pk_shrN {n : Nat} (h : n < 2 ^ 31) (s : Int32) (k : Nat) (hs : (s.toBitVec.smod 32).toNat = k) : nI n >>> s = nI (n / 2 ^ k) := by
  apply Int32.toInt_inj.mp
  have h2 : n / 2 ^ k ≤ n := Nat.div_le_self _ _
  rw [pk_shr _ _ k hs, nI_toInt h, nI_toInt (by omega), Int.shiftRight_eq_div_pow]
  rfl
theorem pk_ushr (x s : Int32) (k : Nat) (hs : ((s.toUInt32 &&& Int32.toUInt32 31).toBitVec % 32).toNat = k) : (x.toUInt32 >>> (s.toUInt32 &&& Int32.toUInt32 31)).toInt32.toBitVec.toNat = x.toBitVec.toNat / 2 ^ k := by
  have e : (x.toUInt32 >>> (s.toUInt32 &&& Int32.toUInt32 31)).toInt32.toBitVec = x.toBitVec >>> k := by
    rw [← hs]
    exact UInt32.toBitVec_shiftRight _ _
  rw [e, BitVec.toNat_ushiftRight, Nat.shiftRight_eq_div_pow]
theorem pk_ushrN {n : Nat} (hn : n < 2 ^ 32) (s : Int32) (k : Nat) (hs : ((s.toUInt32 &&& Int32.toUInt32 31).toBitVec % 32).toNat = k) : ((nI n).toUInt32 >>> (s.toUInt32 &&& Int32.toUInt32 31)).toInt32 = nI (n / 2 ^ k) := by
  apply Int32.toBitVec_inj.mp
  apply BitVec.eq_of_toNat_eq
  rw [pk_ushr _ s k hs, pk_tn hn, pk_tn (Nat.lt_of_le_of_lt (Nat.div_le_self _ _) hn)]
theorem pk_nb (z : Int32) : narrow .byte (.int z.toInt8.toInt32) = .int z.toInt8.toInt32 := congrArg Value.int (by simp)
theorem pk_ns (z : Int32) : narrow .short (.int z.toInt16.toInt32) = .int z.toInt16.toInt32 := congrArg Value.int (by simp)
theorem pk_fb (r : Int32) : fits .byte (.int r.toInt8.toInt32) = true := by
  have ⟨a, b⟩ := lg_i2b_range r
  have h1 : (-128 : Int32).toInt = -128 := by decide
  have h2 : (127 : Int32).toInt = 127 := by decide
  simp only [fits, Bool.and_eq_true, decide_eq_true_eq, Int32.le_iff_toInt_le, h1, h2]
  omega
theorem pk_fs (r : Int32) : fits .short (.int r.toInt16.toInt32) = true := by
  have ⟨a, b⟩ := lg_i2s_range r
  have h1 : (-32768 : Int32).toInt = -32768 := by decide
  have h2 : (32767 : Int32).toInt = 32767 := by decide
  simp only [fits, Bool.and_eq_true, decide_eq_true_eq, Int32.le_iff_toInt_le, h1, h2]
  omega
theorem pk_charN {q : Nat} (hq : q < 65536) : narrow .char (.int (nI q)) = .int (nI q) ∧ fits .char (.int (nI q)) = true := by
  constructor
  · have e : (nI q).toUInt32.toUInt16.toUInt32.toInt32 = nI q := by
      apply Int32.toBitVec_inj.mp
      apply BitVec.eq_of_toNat_eq
      show (nI q).toUInt32.toUInt16.toUInt32.toNat = q % 2 ^ 32
      rw [UInt16.toNat_toUInt32, UInt32.toNat_toUInt16, show (nI q).toUInt32.toNat = q % 2 ^ 32 from rfl]
      omega
    exact congrArg Value.int e
  · have a : (0 : Int32) ≤ nI q := nI_pos' (by omega)
    have b : nI q ≤ 65535 := nI_le (b := 65535) (by omega) (by decide)
    show (decide ((0 : Int32) ≤ nI q) && decide (nI q ≤ 65535)) = true
    rw [decide_eq_true a, decide_eq_true b]
    rfl
theorem pk_char (x : Int32) : (x.toUInt32 % 65536).toInt32 = nI (x.toBitVec.toNat % 65536) := by
  apply Int32.toBitVec_inj.mp
  apply BitVec.eq_of_toNat_eq
  rw [pk_tn (by omega)]
  show (x.toUInt32 % 65536).toNat = _
  rw [UInt32.toNat_mod]
  rfl
theorem pk_nc (x : Int32) : narrow .char (.int (x.toUInt32 % 65536).toInt32) = .int (x.toUInt32 % 65536).toInt32 := by
  rw [pk_char]
  exact (pk_charN (Nat.mod_lt _ (by decide))).1
theorem pk_fc (x : Int32) : fits .char (.int (x.toUInt32 % 65536).toInt32) = true := by
  rw [pk_char]
  exact (pk_charN (Nat.mod_lt _ (by decide))).2
theorem pk_vb (z : Int32) : vp_nar .byte z.toInt8.toInt32 = z.toInt8.toInt32 := by rw [vp_nar_byte]; simp
theorem pk_vs (z : Int32) : vp_nar .short z.toInt16.toInt32 = z.toInt16.toInt32 := by rw [vp_nar_short]; simp
theorem pk_vc (z : Int32) : vp_nar .char (z.toUInt32 % 65536).toInt32 = (z.toUInt32 % 65536).toInt32 := Value.int.inj (pk_nc z)
theorem pk_lT {n : Nat} (h : n < 2 ^ 63) : (lN n).toInt = (n : Int) := lg_ofNat_toInt h
theorem pk_lLT {a b : Nat} (ha : a < 2 ^ 63) (hb : b < 2 ^ 63) : lN a < lN b ↔ a < b := by
  rw [Int64.lt_iff_toInt_lt, pk_lT ha, pk_lT hb]; omega
theorem pk_lLE {a b : Nat} (ha : a < 2 ^ 63) (hb : b < 2 ^ 63) : lN a ≤ lN b ↔ a ≤ b := by
  rw [Int64.le_iff_toInt_le, pk_lT ha, pk_lT hb]; omega
theorem pk_lEQ {a b : Nat} (ha : a < 2 ^ 63) (hb : b < 2 ^ 63) : lN a = lN b ↔ a = b := by
  rw [← Int64.toInt_inj, pk_lT ha, pk_lT hb]; omega
theorem pk_lOf {x : Int64} (h : ¬ x < 0) : ∃ k : Nat, k < 2 ^ 63 ∧ x = lN k := by
  rw [Int64.lt_iff_toInt_lt] at h
  have h0 : (0 : Int64).toInt = 0 := by decide
  have hx := Int64.toInt_lt x
  refine ⟨x.toInt.toNat, by omega, Int64.toInt_inj.mp ?_⟩
  rw [pk_lT (by omega)]
  omega
theorem pk_lDiv {a b : Nat} (ha : a < 2 ^ 63) (h0 : 0 < b) (hb : b < 2 ^ 63) : lN a / lN b = lN (a / b) := by
  apply Int64.toInt_inj.mp
  rw [lg_ldiv_nonneg (by rw [pk_lT ha]; omega) (by rw [pk_lT hb]; omega), pk_lT ha, pk_lT hb, pk_lT (Nat.lt_of_le_of_lt (Nat.div_le_self a b) ha)]
  rfl
theorem pk_lRem {a b : Nat} (ha : a < 2 ^ 63) (h0 : 0 < b) (hb : b < 2 ^ 63) : lN a - lN a / lN b * lN b = lN (a % b) := by
  rw [pk_lDiv ha h0 hb, lN_mul, lN_sub (Nat.div_mul_le_self a b)]
  exact congrArg lN (by have := Nat.div_add_mod' a b; omega)
theorem pk_loop {σ : Type} (W : Nat → Nat → σ → Prop) (I : Nat → σ → Prop) (e i0 : Nat) (s : σ) (hi : i0 ≤ e) (h0 : I i0 s) (hx : ∀ n s, I e s → W (n + 1) e s)
    (hs : ∀ n i s, i < e → I i s → (∀ s', I (i + 1) s' → W n (i + 1) s') → W (n + 1) i s) : ∃ n, W n i0 s :=
  ⟨e + 1, loop_i W I e hx hs (e + 1) i0 s hi (by omega) h0⟩
theorem pk_loopD {σ : Type} (W : Nat → Nat → σ → Prop) (I : Nat → σ → Prop) (hx : ∀ n s, I 0 s → W (n + 1) 0 s)
    (hs : ∀ n i s, I (i + 1) s → (∀ s', I i s' → W n i s') → W (n + 1) (i + 1) s) : ∀ (e : Nat) (s : σ), I e s → W (e + 1) e s := by
  intro e
  induction e with
  | zero => exact fun s h => hx 0 s h
  | succ e ih => exact fun s h => hs (e + 1) e s h (fun s' h' => ih s' h')
theorem lp1 {A1 : Type} (W : Nat → A1 → Prop) (I : A1 → Prop) (μ : A1 → Nat) (hs : ∀ (n : Nat) (a1 : A1), I a1 → (∀ (b1 : A1), I b1 → μ b1 < μ a1 → W n b1) → W (n + 1) a1) (a1 : A1) (h : I a1) : ∃ n, W n a1 :=
  loop_m (σ := A1) (fun n s => W n s) (fun s => I s) (fun s => μ s) (fun n s hI hk => hs n s hI (fun b1 h9 hm => hk b1 h9 hm)) a1 h
theorem lp2 {A1 A2 : Type} (W : Nat → A1 → A2 → Prop) (I : A1 → A2 → Prop) (μ : A1 → A2 → Nat) (hs : ∀ (n : Nat) (a1 : A1) (a2 : A2), I a1 a2 → (∀ (b1 : A1) (b2 : A2), I b1 b2 → μ b1 b2 < μ a1 a2 → W n b1 b2) → W (n + 1) a1 a2) (a1 : A1) (a2 : A2) (h : I a1 a2) : ∃ n, W n a1 a2 :=
  loop_m (σ := A1 × A2) (fun n s => W n s.1 s.2) (fun s => I s.1 s.2) (fun s => μ s.1 s.2) (fun n s hI hk => hs n s.1 s.2 hI (fun b1 b2 h9 hm => hk (b1, b2) h9 hm)) (a1, a2) h
theorem lp3 {A1 A2 A3 : Type} (W : Nat → A1 → A2 → A3 → Prop) (I : A1 → A2 → A3 → Prop) (μ : A1 → A2 → A3 → Nat) (hs : ∀ (n : Nat) (a1 : A1) (a2 : A2) (a3 : A3), I a1 a2 a3 → (∀ (b1 : A1) (b2 : A2) (b3 : A3), I b1 b2 b3 → μ b1 b2 b3 < μ a1 a2 a3 → W n b1 b2 b3) → W (n + 1) a1 a2 a3) (a1 : A1) (a2 : A2) (a3 : A3) (h : I a1 a2 a3) : ∃ n, W n a1 a2 a3 :=
  loop_m (σ := A1 × A2 × A3) (fun n s => W n s.1 s.2.1 s.2.2) (fun s => I s.1 s.2.1 s.2.2) (fun s => μ s.1 s.2.1 s.2.2) (fun n s hI hk => hs n s.1 s.2.1 s.2.2 hI (fun b1 b2 b3 h9 hm => hk (b1, b2, b3) h9 hm)) (a1, a2, a3) h
theorem lp4 {A1 A2 A3 A4 : Type} (W : Nat → A1 → A2 → A3 → A4 → Prop) (I : A1 → A2 → A3 → A4 → Prop) (μ : A1 → A2 → A3 → A4 → Nat) (hs : ∀ (n : Nat) (a1 : A1) (a2 : A2) (a3 : A3) (a4 : A4), I a1 a2 a3 a4 → (∀ (b1 : A1) (b2 : A2) (b3 : A3) (b4 : A4), I b1 b2 b3 b4 → μ b1 b2 b3 b4 < μ a1 a2 a3 a4 → W n b1 b2 b3 b4) → W (n + 1) a1 a2 a3 a4) (a1 : A1) (a2 : A2) (a3 : A3) (a4 : A4) (h : I a1 a2 a3 a4) : ∃ n, W n a1 a2 a3 a4 :=
  loop_m (σ := A1 × A2 × A3 × A4) (fun n s => W n s.1 s.2.1 s.2.2.1 s.2.2.2) (fun s => I s.1 s.2.1 s.2.2.1 s.2.2.2) (fun s => μ s.1 s.2.1 s.2.2.1 s.2.2.2) (fun n s hI hk => hs n s.1 s.2.1 s.2.2.1 s.2.2.2 hI (fun b1 b2 b3 b4 h9 hm => hk (b1, b2, b3, b4) h9 hm)) (a1, a2, a3, a4) h
theorem lp5 {A1 A2 A3 A4 A5 : Type} (W : Nat → A1 → A2 → A3 → A4 → A5 → Prop) (I : A1 → A2 → A3 → A4 → A5 → Prop) (μ : A1 → A2 → A3 → A4 → A5 → Nat) (hs : ∀ (n : Nat) (a1 : A1) (a2 : A2) (a3 : A3) (a4 : A4) (a5 : A5), I a1 a2 a3 a4 a5 → (∀ (b1 : A1) (b2 : A2) (b3 : A3) (b4 : A4) (b5 : A5), I b1 b2 b3 b4 b5 → μ b1 b2 b3 b4 b5 < μ a1 a2 a3 a4 a5 → W n b1 b2 b3 b4 b5) → W (n + 1) a1 a2 a3 a4 a5) (a1 : A1) (a2 : A2) (a3 : A3) (a4 : A4) (a5 : A5) (h : I a1 a2 a3 a4 a5) : ∃ n, W n a1 a2 a3 a4 a5 :=
  loop_m (σ := A1 × A2 × A3 × A4 × A5) (fun n s => W n s.1 s.2.1 s.2.2.1 s.2.2.2.1 s.2.2.2.2) (fun s => I s.1 s.2.1 s.2.2.1 s.2.2.2.1 s.2.2.2.2) (fun s => μ s.1 s.2.1 s.2.2.1 s.2.2.2.1 s.2.2.2.2) (fun n s hI hk => hs n s.1 s.2.1 s.2.2.1 s.2.2.2.1 s.2.2.2.2 hI (fun b1 b2 b3 b4 b5 h9 hm => hk (b1, b2, b3, b4, b5) h9 hm)) (a1, a2, a3, a4, a5) h
theorem lp6 {A1 A2 A3 A4 A5 A6 : Type} (W : Nat → A1 → A2 → A3 → A4 → A5 → A6 → Prop) (I : A1 → A2 → A3 → A4 → A5 → A6 → Prop) (μ : A1 → A2 → A3 → A4 → A5 → A6 → Nat) (hs : ∀ (n : Nat) (a1 : A1) (a2 : A2) (a3 : A3) (a4 : A4) (a5 : A5) (a6 : A6), I a1 a2 a3 a4 a5 a6 → (∀ (b1 : A1) (b2 : A2) (b3 : A3) (b4 : A4) (b5 : A5) (b6 : A6), I b1 b2 b3 b4 b5 b6 → μ b1 b2 b3 b4 b5 b6 < μ a1 a2 a3 a4 a5 a6 → W n b1 b2 b3 b4 b5 b6) → W (n + 1) a1 a2 a3 a4 a5 a6) (a1 : A1) (a2 : A2) (a3 : A3) (a4 : A4) (a5 : A5) (a6 : A6) (h : I a1 a2 a3 a4 a5 a6) : ∃ n, W n a1 a2 a3 a4 a5 a6 :=
  loop_m (σ := A1 × A2 × A3 × A4 × A5 × A6) (fun n s => W n s.1 s.2.1 s.2.2.1 s.2.2.2.1 s.2.2.2.2.1 s.2.2.2.2.2) (fun s => I s.1 s.2.1 s.2.2.1 s.2.2.2.1 s.2.2.2.2.1 s.2.2.2.2.2) (fun s => μ s.1 s.2.1 s.2.2.1 s.2.2.2.1 s.2.2.2.2.1 s.2.2.2.2.2) (fun n s hI hk => hs n s.1 s.2.1 s.2.2.1 s.2.2.2.1 s.2.2.2.2.1 s.2.2.2.2.2 hI (fun b1 b2 b3 b4 b5 b6 h9 hm => hk (b1, b2, b3, b4, b5, b6) h9 hm)) (a1, a2, a3, a4, a5, a6) h
theorem lp7 {A1 A2 A3 A4 A5 A6 A7 : Type} (W : Nat → A1 → A2 → A3 → A4 → A5 → A6 → A7 → Prop) (I : A1 → A2 → A3 → A4 → A5 → A6 → A7 → Prop) (μ : A1 → A2 → A3 → A4 → A5 → A6 → A7 → Nat) (hs : ∀ (n : Nat) (a1 : A1) (a2 : A2) (a3 : A3) (a4 : A4) (a5 : A5) (a6 : A6) (a7 : A7), I a1 a2 a3 a4 a5 a6 a7 → (∀ (b1 : A1) (b2 : A2) (b3 : A3) (b4 : A4) (b5 : A5) (b6 : A6) (b7 : A7), I b1 b2 b3 b4 b5 b6 b7 → μ b1 b2 b3 b4 b5 b6 b7 < μ a1 a2 a3 a4 a5 a6 a7 → W n b1 b2 b3 b4 b5 b6 b7) → W (n + 1) a1 a2 a3 a4 a5 a6 a7) (a1 : A1) (a2 : A2) (a3 : A3) (a4 : A4) (a5 : A5) (a6 : A6) (a7 : A7) (h : I a1 a2 a3 a4 a5 a6 a7) : ∃ n, W n a1 a2 a3 a4 a5 a6 a7 :=
  loop_m (σ := A1 × A2 × A3 × A4 × A5 × A6 × A7) (fun n s => W n s.1 s.2.1 s.2.2.1 s.2.2.2.1 s.2.2.2.2.1 s.2.2.2.2.2.1 s.2.2.2.2.2.2) (fun s => I s.1 s.2.1 s.2.2.1 s.2.2.2.1 s.2.2.2.2.1 s.2.2.2.2.2.1 s.2.2.2.2.2.2) (fun s => μ s.1 s.2.1 s.2.2.1 s.2.2.2.1 s.2.2.2.2.1 s.2.2.2.2.2.1 s.2.2.2.2.2.2) (fun n s hI hk => hs n s.1 s.2.1 s.2.2.1 s.2.2.2.1 s.2.2.2.2.1 s.2.2.2.2.2.1 s.2.2.2.2.2.2 hI (fun b1 b2 b3 b4 b5 b6 b7 h9 hm => hk (b1, b2, b3, b4, b5, b6, b7) h9 hm)) (a1, a2, a3, a4, a5, a6, a7) h
theorem lp8 {A1 A2 A3 A4 A5 A6 A7 A8 : Type} (W : Nat → A1 → A2 → A3 → A4 → A5 → A6 → A7 → A8 → Prop) (I : A1 → A2 → A3 → A4 → A5 → A6 → A7 → A8 → Prop) (μ : A1 → A2 → A3 → A4 → A5 → A6 → A7 → A8 → Nat) (hs : ∀ (n : Nat) (a1 : A1) (a2 : A2) (a3 : A3) (a4 : A4) (a5 : A5) (a6 : A6) (a7 : A7) (a8 : A8), I a1 a2 a3 a4 a5 a6 a7 a8 → (∀ (b1 : A1) (b2 : A2) (b3 : A3) (b4 : A4) (b5 : A5) (b6 : A6) (b7 : A7) (b8 : A8), I b1 b2 b3 b4 b5 b6 b7 b8 → μ b1 b2 b3 b4 b5 b6 b7 b8 < μ a1 a2 a3 a4 a5 a6 a7 a8 → W n b1 b2 b3 b4 b5 b6 b7 b8) → W (n + 1) a1 a2 a3 a4 a5 a6 a7 a8) (a1 : A1) (a2 : A2) (a3 : A3) (a4 : A4) (a5 : A5) (a6 : A6) (a7 : A7) (a8 : A8) (h : I a1 a2 a3 a4 a5 a6 a7 a8) : ∃ n, W n a1 a2 a3 a4 a5 a6 a7 a8 :=
  loop_m (σ := A1 × A2 × A3 × A4 × A5 × A6 × A7 × A8) (fun n s => W n s.1 s.2.1 s.2.2.1 s.2.2.2.1 s.2.2.2.2.1 s.2.2.2.2.2.1 s.2.2.2.2.2.2.1 s.2.2.2.2.2.2.2) (fun s => I s.1 s.2.1 s.2.2.1 s.2.2.2.1 s.2.2.2.2.1 s.2.2.2.2.2.1 s.2.2.2.2.2.2.1 s.2.2.2.2.2.2.2) (fun s => μ s.1 s.2.1 s.2.2.1 s.2.2.2.1 s.2.2.2.2.1 s.2.2.2.2.2.1 s.2.2.2.2.2.2.1 s.2.2.2.2.2.2.2) (fun n s hI hk => hs n s.1 s.2.1 s.2.2.1 s.2.2.2.1 s.2.2.2.2.1 s.2.2.2.2.2.1 s.2.2.2.2.2.2.1 s.2.2.2.2.2.2.2 hI (fun b1 b2 b3 b4 b5 b6 b7 b8 h9 hm => hk (b1, b2, b3, b4, b5, b6, b7, b8) h9 hm)) (a1, a2, a3, a4, a5, a6, a7, a8) h
theorem lp9 {A1 A2 A3 A4 A5 A6 A7 A8 A9 : Type} (W : Nat → A1 → A2 → A3 → A4 → A5 → A6 → A7 → A8 → A9 → Prop) (I : A1 → A2 → A3 → A4 → A5 → A6 → A7 → A8 → A9 → Prop) (μ : A1 → A2 → A3 → A4 → A5 → A6 → A7 → A8 → A9 → Nat) (hs : ∀ (n : Nat) (a1 : A1) (a2 : A2) (a3 : A3) (a4 : A4) (a5 : A5) (a6 : A6) (a7 : A7) (a8 : A8) (a9 : A9), I a1 a2 a3 a4 a5 a6 a7 a8 a9 → (∀ (b1 : A1) (b2 : A2) (b3 : A3) (b4 : A4) (b5 : A5) (b6 : A6) (b7 : A7) (b8 : A8) (b9 : A9), I b1 b2 b3 b4 b5 b6 b7 b8 b9 → μ b1 b2 b3 b4 b5 b6 b7 b8 b9 < μ a1 a2 a3 a4 a5 a6 a7 a8 a9 → W n b1 b2 b3 b4 b5 b6 b7 b8 b9) → W (n + 1) a1 a2 a3 a4 a5 a6 a7 a8 a9) (a1 : A1) (a2 : A2) (a3 : A3) (a4 : A4) (a5 : A5) (a6 : A6) (a7 : A7) (a8 : A8) (a9 : A9) (h : I a1 a2 a3 a4 a5 a6 a7 a8 a9) : ∃ n, W n a1 a2 a3 a4 a5 a6 a7 a8 a9 :=
  loop_m (σ := A1 × A2 × A3 × A4 × A5 × A6 × A7 × A8 × A9) (fun n s => W n s.1 s.2.1 s.2.2.1 s.2.2.2.1 s.2.2.2.2.1 s.2.2.2.2.2.1 s.2.2.2.2.2.2.1 s.2.2.2.2.2.2.2.1 s.2.2.2.2.2.2.2.2) (fun s => I s.1 s.2.1 s.2.2.1 s.2.2.2.1 s.2.2.2.2.1 s.2.2.2.2.2.1 s.2.2.2.2.2.2.1 s.2.2.2.2.2.2.2.1 s.2.2.2.2.2.2.2.2) (fun s => μ s.1 s.2.1 s.2.2.1 s.2.2.2.1 s.2.2.2.2.1 s.2.2.2.2.2.1 s.2.2.2.2.2.2.1 s.2.2.2.2.2.2.2.1 s.2.2.2.2.2.2.2.2) (fun n s hI hk => hs n s.1 s.2.1 s.2.2.1 s.2.2.2.1 s.2.2.2.2.1 s.2.2.2.2.2.1 s.2.2.2.2.2.2.1 s.2.2.2.2.2.2.2.1 s.2.2.2.2.2.2.2.2 hI (fun b1 b2 b3 b4 b5 b6 b7 b8 b9 h9 hm => hk (b1, b2, b3, b4, b5, b6, b7, b8, b9) h9 hm)) (a1, a2, a3, a4, a5, a6, a7, a8, a9) h
theorem lp10 {A1 A2 A3 A4 A5 A6 A7 A8 A9 A10 : Type} (W : Nat → A1 → A2 → A3 → A4 → A5 → A6 → A7 → A8 → A9 → A10 → Prop) (I : A1 → A2 → A3 → A4 → A5 → A6 → A7 → A8 → A9 → A10 → Prop) (μ : A1 → A2 → A3 → A4 → A5 → A6 → A7 → A8 → A9 → A10 → Nat) (hs : ∀ (n : Nat) (a1 : A1) (a2 : A2) (a3 : A3) (a4 : A4) (a5 : A5) (a6 : A6) (a7 : A7) (a8 : A8) (a9 : A9) (a10 : A10), I a1 a2 a3 a4 a5 a6 a7 a8 a9 a10 → (∀ (b1 : A1) (b2 : A2) (b3 : A3) (b4 : A4) (b5 : A5) (b6 : A6) (b7 : A7) (b8 : A8) (b9 : A9) (b10 : A10), I b1 b2 b3 b4 b5 b6 b7 b8 b9 b10 → μ b1 b2 b3 b4 b5 b6 b7 b8 b9 b10 < μ a1 a2 a3 a4 a5 a6 a7 a8 a9 a10 → W n b1 b2 b3 b4 b5 b6 b7 b8 b9 b10) → W (n + 1) a1 a2 a3 a4 a5 a6 a7 a8 a9 a10) (a1 : A1) (a2 : A2) (a3 : A3) (a4 : A4) (a5 : A5) (a6 : A6) (a7 : A7) (a8 : A8) (a9 : A9) (a10 : A10) (h : I a1 a2 a3 a4 a5 a6 a7 a8 a9 a10) : ∃ n, W n a1 a2 a3 a4 a5 a6 a7 a8 a9 a10 :=
  loop_m (σ := A1 × A2 × A3 × A4 × A5 × A6 × A7 × A8 × A9 × A10) (fun n s => W n s.1 s.2.1 s.2.2.1 s.2.2.2.1 s.2.2.2.2.1 s.2.2.2.2.2.1 s.2.2.2.2.2.2.1 s.2.2.2.2.2.2.2.1 s.2.2.2.2.2.2.2.2.1 s.2.2.2.2.2.2.2.2.2) (fun s => I s.1 s.2.1 s.2.2.1 s.2.2.2.1 s.2.2.2.2.1 s.2.2.2.2.2.1 s.2.2.2.2.2.2.1 s.2.2.2.2.2.2.2.1 s.2.2.2.2.2.2.2.2.1 s.2.2.2.2.2.2.2.2.2) (fun s => μ s.1 s.2.1 s.2.2.1 s.2.2.2.1 s.2.2.2.2.1 s.2.2.2.2.2.1 s.2.2.2.2.2.2.1 s.2.2.2.2.2.2.2.1 s.2.2.2.2.2.2.2.2.1 s.2.2.2.2.2.2.2.2.2) (fun n s hI hk => hs n s.1 s.2.1 s.2.2.1 s.2.2.2.1 s.2.2.2.2.1 s.2.2.2.2.2.1 s.2.2.2.2.2.2.1 s.2.2.2.2.2.2.2.1 s.2.2.2.2.2.2.2.2.1 s.2.2.2.2.2.2.2.2.2 hI (fun b1 b2 b3 b4 b5 b6 b7 b8 b9 b10 h9 hm => hk (b1, b2, b3, b4, b5, b6, b7, b8, b9, b10) h9 hm)) (a1, a2, a3, a4, a5, a6, a7, a8, a9, a10) h
theorem lp11 {A1 A2 A3 A4 A5 A6 A7 A8 A9 A10 A11 : Type} (W : Nat → A1 → A2 → A3 → A4 → A5 → A6 → A7 → A8 → A9 → A10 → A11 → Prop) (I : A1 → A2 → A3 → A4 → A5 → A6 → A7 → A8 → A9 → A10 → A11 → Prop) (μ : A1 → A2 → A3 → A4 → A5 → A6 → A7 → A8 → A9 → A10 → A11 → Nat) (hs : ∀ (n : Nat) (a1 : A1) (a2 : A2) (a3 : A3) (a4 : A4) (a5 : A5) (a6 : A6) (a7 : A7) (a8 : A8) (a9 : A9) (a10 : A10) (a11 : A11), I a1 a2 a3 a4 a5 a6 a7 a8 a9 a10 a11 → (∀ (b1 : A1) (b2 : A2) (b3 : A3) (b4 : A4) (b5 : A5) (b6 : A6) (b7 : A7) (b8 : A8) (b9 : A9) (b10 : A10) (b11 : A11), I b1 b2 b3 b4 b5 b6 b7 b8 b9 b10 b11 → μ b1 b2 b3 b4 b5 b6 b7 b8 b9 b10 b11 < μ a1 a2 a3 a4 a5 a6 a7 a8 a9 a10 a11 → W n b1 b2 b3 b4 b5 b6 b7 b8 b9 b10 b11) → W (n + 1) a1 a2 a3 a4 a5 a6 a7 a8 a9 a10 a11) (a1 : A1) (a2 : A2) (a3 : A3) (a4 : A4) (a5 : A5) (a6 : A6) (a7 : A7) (a8 : A8) (a9 : A9) (a10 : A10) (a11 : A11) (h : I a1 a2 a3 a4 a5 a6 a7 a8 a9 a10 a11) : ∃ n, W n a1 a2 a3 a4 a5 a6 a7 a8 a9 a10 a11 :=
  loop_m (σ := A1 × A2 × A3 × A4 × A5 × A6 × A7 × A8 × A9 × A10 × A11) (fun n s => W n s.1 s.2.1 s.2.2.1 s.2.2.2.1 s.2.2.2.2.1 s.2.2.2.2.2.1 s.2.2.2.2.2.2.1 s.2.2.2.2.2.2.2.1 s.2.2.2.2.2.2.2.2.1 s.2.2.2.2.2.2.2.2.2.1 s.2.2.2.2.2.2.2.2.2.2) (fun s => I s.1 s.2.1 s.2.2.1 s.2.2.2.1 s.2.2.2.2.1 s.2.2.2.2.2.1 s.2.2.2.2.2.2.1 s.2.2.2.2.2.2.2.1 s.2.2.2.2.2.2.2.2.1 s.2.2.2.2.2.2.2.2.2.1 s.2.2.2.2.2.2.2.2.2.2) (fun s => μ s.1 s.2.1 s.2.2.1 s.2.2.2.1 s.2.2.2.2.1 s.2.2.2.2.2.1 s.2.2.2.2.2.2.1 s.2.2.2.2.2.2.2.1 s.2.2.2.2.2.2.2.2.1 s.2.2.2.2.2.2.2.2.2.1 s.2.2.2.2.2.2.2.2.2.2) (fun n s hI hk => hs n s.1 s.2.1 s.2.2.1 s.2.2.2.1 s.2.2.2.2.1 s.2.2.2.2.2.1 s.2.2.2.2.2.2.1 s.2.2.2.2.2.2.2.1 s.2.2.2.2.2.2.2.2.1 s.2.2.2.2.2.2.2.2.2.1 s.2.2.2.2.2.2.2.2.2.2 hI (fun b1 b2 b3 b4 b5 b6 b7 b8 b9 b10 b11 h9 hm => hk (b1, b2, b3, b4, b5, b6, b7, b8, b9, b10, b11) h9 hm)) (a1, a2, a3, a4, a5, a6, a7, a8, a9, a10, a11) h
theorem lp12 {A1 A2 A3 A4 A5 A6 A7 A8 A9 A10 A11 A12 : Type} (W : Nat → A1 → A2 → A3 → A4 → A5 → A6 → A7 → A8 → A9 → A10 → A11 → A12 → Prop) (I : A1 → A2 → A3 → A4 → A5 → A6 → A7 → A8 → A9 → A10 → A11 → A12 → Prop) (μ : A1 → A2 → A3 → A4 → A5 → A6 → A7 → A8 → A9 → A10 → A11 → A12 → Nat) (hs : ∀ (n : Nat) (a1 : A1) (a2 : A2) (a3 : A3) (a4 : A4) (a5 : A5) (a6 : A6) (a7 : A7) (a8 : A8) (a9 : A9) (a10 : A10) (a11 : A11) (a12 : A12), I a1 a2 a3 a4 a5 a6 a7 a8 a9 a10 a11 a12 → (∀ (b1 : A1) (b2 : A2) (b3 : A3) (b4 : A4) (b5 : A5) (b6 : A6) (b7 : A7) (b8 : A8) (b9 : A9) (b10 : A10) (b11 : A11) (b12 : A12), I b1 b2 b3 b4 b5 b6 b7 b8 b9 b10 b11 b12 → μ b1 b2 b3 b4 b5 b6 b7 b8 b9 b10 b11 b12 < μ a1 a2 a3 a4 a5 a6 a7 a8 a9 a10 a11 a12 → W n b1 b2 b3 b4 b5 b6 b7 b8 b9 b10 b11 b12) → W (n + 1) a1 a2 a3 a4 a5 a6 a7 a8 a9 a10 a11 a12) (a1 : A1) (a2 : A2) (a3 : A3) (a4 : A4) (a5 : A5) (a6 : A6) (a7 : A7) (a8 : A8) (a9 : A9) (a10 : A10) (a11 : A11) (a12 : A12) (h : I a1 a2 a3 a4 a5 a6 a7 a8 a9 a10 a11 a12) : ∃ n, W n a1 a2 a3 a4 a5 a6 a7 a8 a9 a10 a11 a12 :=
  loop_m (σ := A1 × A2 × A3 × A4 × A5 × A6 × A7 × A8 × A9 × A10 × A11 × A12) (fun n s => W n s.1 s.2.1 s.2.2.1 s.2.2.2.1 s.2.2.2.2.1 s.2.2.2.2.2.1 s.2.2.2.2.2.2.1 s.2.2.2.2.2.2.2.1 s.2.2.2.2.2.2.2.2.1 s.2.2.2.2.2.2.2.2.2.1 s.2.2.2.2.2.2.2.2.2.2.1 s.2.2.2.2.2.2.2.2.2.2.2) (fun s => I s.1 s.2.1 s.2.2.1 s.2.2.2.1 s.2.2.2.2.1 s.2.2.2.2.2.1 s.2.2.2.2.2.2.1 s.2.2.2.2.2.2.2.1 s.2.2.2.2.2.2.2.2.1 s.2.2.2.2.2.2.2.2.2.1 s.2.2.2.2.2.2.2.2.2.2.1 s.2.2.2.2.2.2.2.2.2.2.2) (fun s => μ s.1 s.2.1 s.2.2.1 s.2.2.2.1 s.2.2.2.2.1 s.2.2.2.2.2.1 s.2.2.2.2.2.2.1 s.2.2.2.2.2.2.2.1 s.2.2.2.2.2.2.2.2.1 s.2.2.2.2.2.2.2.2.2.1 s.2.2.2.2.2.2.2.2.2.2.1 s.2.2.2.2.2.2.2.2.2.2.2) (fun n s hI hk => hs n s.1 s.2.1 s.2.2.1 s.2.2.2.1 s.2.2.2.2.1 s.2.2.2.2.2.1 s.2.2.2.2.2.2.1 s.2.2.2.2.2.2.2.1 s.2.2.2.2.2.2.2.2.1 s.2.2.2.2.2.2.2.2.2.1 s.2.2.2.2.2.2.2.2.2.2.1 s.2.2.2.2.2.2.2.2.2.2.2 hI (fun b1 b2 b3 b4 b5 b6 b7 b8 b9 b10 b11 b12 h9 hm => hk (b1, b2, b3, b4, b5, b6, b7, b8, b9, b10, b11, b12) h9 hm)) (a1, a2, a3, a4, a5, a6, a7, a8, a9, a10, a11, a12) h
theorem lp13 {A1 A2 A3 A4 A5 A6 A7 A8 A9 A10 A11 A12 A13 : Type} (W : Nat → A1 → A2 → A3 → A4 → A5 → A6 → A7 → A8 → A9 → A10 → A11 → A12 → A13 → Prop) (I : A1 → A2 → A3 → A4 → A5 → A6 → A7 → A8 → A9 → A10 → A11 → A12 → A13 → Prop) (μ : A1 → A2 → A3 → A4 → A5 → A6 → A7 → A8 → A9 → A10 → A11 → A12 → A13 → Nat) (hs : ∀ (n : Nat) (a1 : A1) (a2 : A2) (a3 : A3) (a4 : A4) (a5 : A5) (a6 : A6) (a7 : A7) (a8 : A8) (a9 : A9) (a10 : A10) (a11 : A11) (a12 : A12) (a13 : A13), I a1 a2 a3 a4 a5 a6 a7 a8 a9 a10 a11 a12 a13 → (∀ (b1 : A1) (b2 : A2) (b3 : A3) (b4 : A4) (b5 : A5) (b6 : A6) (b7 : A7) (b8 : A8) (b9 : A9) (b10 : A10) (b11 : A11) (b12 : A12) (b13 : A13), I b1 b2 b3 b4 b5 b6 b7 b8 b9 b10 b11 b12 b13 → μ b1 b2 b3 b4 b5 b6 b7 b8 b9 b10 b11 b12 b13 < μ a1 a2 a3 a4 a5 a6 a7 a8 a9 a10 a11 a12 a13 → W n b1 b2 b3 b4 b5 b6 b7 b8 b9 b10 b11 b12 b13) → W (n + 1) a1 a2 a3 a4 a5 a6 a7 a8 a9 a10 a11 a12 a13) (a1 : A1) (a2 : A2) (a3 : A3) (a4 : A4) (a5 : A5) (a6 : A6) (a7 : A7) (a8 : A8) (a9 : A9) (a10 : A10) (a11 : A11) (a12 : A12) (a13 : A13) (h : I a1 a2 a3 a4 a5 a6 a7 a8 a9 a10 a11 a12 a13) : ∃ n, W n a1 a2 a3 a4 a5 a6 a7 a8 a9 a10 a11 a12 a13 :=
  loop_m (σ := A1 × A2 × A3 × A4 × A5 × A6 × A7 × A8 × A9 × A10 × A11 × A12 × A13) (fun n s => W n s.1 s.2.1 s.2.2.1 s.2.2.2.1 s.2.2.2.2.1 s.2.2.2.2.2.1 s.2.2.2.2.2.2.1 s.2.2.2.2.2.2.2.1 s.2.2.2.2.2.2.2.2.1 s.2.2.2.2.2.2.2.2.2.1 s.2.2.2.2.2.2.2.2.2.2.1 s.2.2.2.2.2.2.2.2.2.2.2.1 s.2.2.2.2.2.2.2.2.2.2.2.2) (fun s => I s.1 s.2.1 s.2.2.1 s.2.2.2.1 s.2.2.2.2.1 s.2.2.2.2.2.1 s.2.2.2.2.2.2.1 s.2.2.2.2.2.2.2.1 s.2.2.2.2.2.2.2.2.1 s.2.2.2.2.2.2.2.2.2.1 s.2.2.2.2.2.2.2.2.2.2.1 s.2.2.2.2.2.2.2.2.2.2.2.1 s.2.2.2.2.2.2.2.2.2.2.2.2) (fun s => μ s.1 s.2.1 s.2.2.1 s.2.2.2.1 s.2.2.2.2.1 s.2.2.2.2.2.1 s.2.2.2.2.2.2.1 s.2.2.2.2.2.2.2.1 s.2.2.2.2.2.2.2.2.1 s.2.2.2.2.2.2.2.2.2.1 s.2.2.2.2.2.2.2.2.2.2.1 s.2.2.2.2.2.2.2.2.2.2.2.1 s.2.2.2.2.2.2.2.2.2.2.2.2) (fun n s hI hk => hs n s.1 s.2.1 s.2.2.1 s.2.2.2.1 s.2.2.2.2.1 s.2.2.2.2.2.1 s.2.2.2.2.2.2.1 s.2.2.2.2.2.2.2.1 s.2.2.2.2.2.2.2.2.1 s.2.2.2.2.2.2.2.2.2.1 s.2.2.2.2.2.2.2.2.2.2.1 s.2.2.2.2.2.2.2.2.2.2.2.1 s.2.2.2.2.2.2.2.2.2.2.2.2 hI (fun b1 b2 b3 b4 b5 b6 b7 b8 b9 b10 b11 b12 b13 h9 hm => hk (b1, b2, b3, b4, b5, b6, b7, b8, b9, b10, b11, b12, b13) h9 hm)) (a1, a2, a3, a4, a5, a6, a7, a8, a9, a10, a11, a12, a13) h
theorem lp14 {A1 A2 A3 A4 A5 A6 A7 A8 A9 A10 A11 A12 A13 A14 : Type} (W : Nat → A1 → A2 → A3 → A4 → A5 → A6 → A7 → A8 → A9 → A10 → A11 → A12 → A13 → A14 → Prop) (I : A1 → A2 → A3 → A4 → A5 → A6 → A7 → A8 → A9 → A10 → A11 → A12 → A13 → A14 → Prop) (μ : A1 → A2 → A3 → A4 → A5 → A6 → A7 → A8 → A9 → A10 → A11 → A12 → A13 → A14 → Nat) (hs : ∀ (n : Nat) (a1 : A1) (a2 : A2) (a3 : A3) (a4 : A4) (a5 : A5) (a6 : A6) (a7 : A7) (a8 : A8) (a9 : A9) (a10 : A10) (a11 : A11) (a12 : A12) (a13 : A13) (a14 : A14), I a1 a2 a3 a4 a5 a6 a7 a8 a9 a10 a11 a12 a13 a14 → (∀ (b1 : A1) (b2 : A2) (b3 : A3) (b4 : A4) (b5 : A5) (b6 : A6) (b7 : A7) (b8 : A8) (b9 : A9) (b10 : A10) (b11 : A11) (b12 : A12) (b13 : A13) (b14 : A14), I b1 b2 b3 b4 b5 b6 b7 b8 b9 b10 b11 b12 b13 b14 → μ b1 b2 b3 b4 b5 b6 b7 b8 b9 b10 b11 b12 b13 b14 < μ a1 a2 a3 a4 a5 a6 a7 a8 a9 a10 a11 a12 a13 a14 → W n b1 b2 b3 b4 b5 b6 b7 b8 b9 b10 b11 b12 b13 b14) → W (n + 1) a1 a2 a3 a4 a5 a6 a7 a8 a9 a10 a11 a12 a13 a14) (a1 : A1) (a2 : A2) (a3 : A3) (a4 : A4) (a5 : A5) (a6 : A6) (a7 : A7) (a8 : A8) (a9 : A9) (a10 : A10) (a11 : A11) (a12 : A12) (a13 : A13) (a14 : A14) (h : I a1 a2 a3 a4 a5 a6 a7 a8 a9 a10 a11 a12 a13 a14) : ∃ n, W n a1 a2 a3 a4 a5 a6 a7 a8 a9 a10 a11 a12 a13 a14 :=
  loop_m (σ := A1 × A2 × A3 × A4 × A5 × A6 × A7 × A8 × A9 × A10 × A11 × A12 × A13 × A14) (fun n s => W n s.1 s.2.1 s.2.2.1 s.2.2.2.1 s.2.2.2.2.1 s.2.2.2.2.2.1 s.2.2.2.2.2.2.1 s.2.2.2.2.2.2.2.1 s.2.2.2.2.2.2.2.2.1 s.2.2.2.2.2.2.2.2.2.1 s.2.2.2.2.2.2.2.2.2.2.1 s.2.2.2.2.2.2.2.2.2.2.2.1 s.2.2.2.2.2.2.2.2.2.2.2.2.1 s.2.2.2.2.2.2.2.2.2.2.2.2.2) (fun s => I s.1 s.2.1 s.2.2.1 s.2.2.2.1 s.2.2.2.2.1 s.2.2.2.2.2.1 s.2.2.2.2.2.2.1 s.2.2.2.2.2.2.2.1 s.2.2.2.2.2.2.2.2.1 s.2.2.2.2.2.2.2.2.2.1 s.2.2.2.2.2.2.2.2.2.2.1 s.2.2.2.2.2.2.2.2.2.2.2.1 s.2.2.2.2.2.2.2.2.2.2.2.2.1 s.2.2.2.2.2.2.2.2.2.2.2.2.2) (fun s => μ s.1 s.2.1 s.2.2.1 s.2.2.2.1 s.2.2.2.2.1 s.2.2.2.2.2.1 s.2.2.2.2.2.2.1 s.2.2.2.2.2.2.2.1 s.2.2.2.2.2.2.2.2.1 s.2.2.2.2.2.2.2.2.2.1 s.2.2.2.2.2.2.2.2.2.2.1 s.2.2.2.2.2.2.2.2.2.2.2.1 s.2.2.2.2.2.2.2.2.2.2.2.2.1 s.2.2.2.2.2.2.2.2.2.2.2.2.2) (fun n s hI hk => hs n s.1 s.2.1 s.2.2.1 s.2.2.2.1 s.2.2.2.2.1 s.2.2.2.2.2.1 s.2.2.2.2.2.2.1 s.2.2.2.2.2.2.2.1 s.2.2.2.2.2.2.2.2.1 s.2.2.2.2.2.2.2.2.2.1 s.2.2.2.2.2.2.2.2.2.2.1 s.2.2.2.2.2.2.2.2.2.2.2.1 s.2.2.2.2.2.2.2.2.2.2.2.2.1 s.2.2.2.2.2.2.2.2.2.2.2.2.2 hI (fun b1 b2 b3 b4 b5 b6 b7 b8 b9 b10 b11 b12 b13 b14 h9 hm => hk (b1, b2, b3, b4, b5, b6, b7, b8, b9, b10, b11, b12, b13, b14) h9 hm)) (a1, a2, a3, a4, a5, a6, a7, a8, a9, a10, a11, a12, a13, a14) h
theorem lp15 {A1 A2 A3 A4 A5 A6 A7 A8 A9 A10 A11 A12 A13 A14 A15 : Type} (W : Nat → A1 → A2 → A3 → A4 → A5 → A6 → A7 → A8 → A9 → A10 → A11 → A12 → A13 → A14 → A15 → Prop) (I : A1 → A2 → A3 → A4 → A5 → A6 → A7 → A8 → A9 → A10 → A11 → A12 → A13 → A14 → A15 → Prop) (μ : A1 → A2 → A3 → A4 → A5 → A6 → A7 → A8 → A9 → A10 → A11 → A12 → A13 → A14 → A15 → Nat) (hs : ∀ (n : Nat) (a1 : A1) (a2 : A2) (a3 : A3) (a4 : A4) (a5 : A5) (a6 : A6) (a7 : A7) (a8 : A8) (a9 : A9) (a10 : A10) (a11 : A11) (a12 : A12) (a13 : A13) (a14 : A14) (a15 : A15), I a1 a2 a3 a4 a5 a6 a7 a8 a9 a10 a11 a12 a13 a14 a15 → (∀ (b1 : A1) (b2 : A2) (b3 : A3) (b4 : A4) (b5 : A5) (b6 : A6) (b7 : A7) (b8 : A8) (b9 : A9) (b10 : A10) (b11 : A11) (b12 : A12) (b13 : A13) (b14 : A14) (b15 : A15), I b1 b2 b3 b4 b5 b6 b7 b8 b9 b10 b11 b12 b13 b14 b15 → μ b1 b2 b3 b4 b5 b6 b7 b8 b9 b10 b11 b12 b13 b14 b15 < μ a1 a2 a3 a4 a5 a6 a7 a8 a9 a10 a11 a12 a13 a14 a15 → W n b1 b2 b3 b4 b5 b6 b7 b8 b9 b10 b11 b12 b13 b14 b15) → W (n + 1) a1 a2 a3 a4 a5 a6 a7 a8 a9 a10 a11 a12 a13 a14 a15) (a1 : A1) (a2 : A2) (a3 : A3) (a4 : A4) (a5 : A5) (a6 : A6) (a7 : A7) (a8 : A8) (a9 : A9) (a10 : A10) (a11 : A11) (a12 : A12) (a13 : A13) (a14 : A14) (a15 : A15) (h : I a1 a2 a3 a4 a5 a6 a7 a8 a9 a10 a11 a12 a13 a14 a15) : ∃ n, W n a1 a2 a3 a4 a5 a6 a7 a8 a9 a10 a11 a12 a13 a14 a15 :=
  loop_m (σ := A1 × A2 × A3 × A4 × A5 × A6 × A7 × A8 × A9 × A10 × A11 × A12 × A13 × A14 × A15) (fun n s => W n s.1 s.2.1 s.2.2.1 s.2.2.2.1 s.2.2.2.2.1 s.2.2.2.2.2.1 s.2.2.2.2.2.2.1 s.2.2.2.2.2.2.2.1 s.2.2.2.2.2.2.2.2.1 s.2.2.2.2.2.2.2.2.2.1 s.2.2.2.2.2.2.2.2.2.2.1 s.2.2.2.2.2.2.2.2.2.2.2.1 s.2.2.2.2.2.2.2.2.2.2.2.2.1 s.2.2.2.2.2.2.2.2.2.2.2.2.2.1 s.2.2.2.2.2.2.2.2.2.2.2.2.2.2) (fun s => I s.1 s.2.1 s.2.2.1 s.2.2.2.1 s.2.2.2.2.1 s.2.2.2.2.2.1 s.2.2.2.2.2.2.1 s.2.2.2.2.2.2.2.1 s.2.2.2.2.2.2.2.2.1 s.2.2.2.2.2.2.2.2.2.1 s.2.2.2.2.2.2.2.2.2.2.1 s.2.2.2.2.2.2.2.2.2.2.2.1 s.2.2.2.2.2.2.2.2.2.2.2.2.1 s.2.2.2.2.2.2.2.2.2.2.2.2.2.1 s.2.2.2.2.2.2.2.2.2.2.2.2.2.2) (fun s => μ s.1 s.2.1 s.2.2.1 s.2.2.2.1 s.2.2.2.2.1 s.2.2.2.2.2.1 s.2.2.2.2.2.2.1 s.2.2.2.2.2.2.2.1 s.2.2.2.2.2.2.2.2.1 s.2.2.2.2.2.2.2.2.2.1 s.2.2.2.2.2.2.2.2.2.2.1 s.2.2.2.2.2.2.2.2.2.2.2.1 s.2.2.2.2.2.2.2.2.2.2.2.2.1 s.2.2.2.2.2.2.2.2.2.2.2.2.2.1 s.2.2.2.2.2.2.2.2.2.2.2.2.2.2) (fun n s hI hk => hs n s.1 s.2.1 s.2.2.1 s.2.2.2.1 s.2.2.2.2.1 s.2.2.2.2.2.1 s.2.2.2.2.2.2.1 s.2.2.2.2.2.2.2.1 s.2.2.2.2.2.2.2.2.1 s.2.2.2.2.2.2.2.2.2.1 s.2.2.2.2.2.2.2.2.2.2.1 s.2.2.2.2.2.2.2.2.2.2.2.1 s.2.2.2.2.2.2.2.2.2.2.2.2.1 s.2.2.2.2.2.2.2.2.2.2.2.2.2.1 s.2.2.2.2.2.2.2.2.2.2.2.2.2.2 hI (fun b1 b2 b3 b4 b5 b6 b7 b8 b9 b10 b11 b12 b13 b14 b15 h9 hm => hk (b1, b2, b3, b4, b5, b6, b7, b8, b9, b10, b11, b12, b13, b14, b15) h9 hm)) (a1, a2, a3, a4, a5, a6, a7, a8, a9, a10, a11, a12, a13, a14, a15) h
theorem lp16 {A1 A2 A3 A4 A5 A6 A7 A8 A9 A10 A11 A12 A13 A14 A15 A16 : Type} (W : Nat → A1 → A2 → A3 → A4 → A5 → A6 → A7 → A8 → A9 → A10 → A11 → A12 → A13 → A14 → A15 → A16 → Prop) (I : A1 → A2 → A3 → A4 → A5 → A6 → A7 → A8 → A9 → A10 → A11 → A12 → A13 → A14 → A15 → A16 → Prop) (μ : A1 → A2 → A3 → A4 → A5 → A6 → A7 → A8 → A9 → A10 → A11 → A12 → A13 → A14 → A15 → A16 → Nat) (hs : ∀ (n : Nat) (a1 : A1) (a2 : A2) (a3 : A3) (a4 : A4) (a5 : A5) (a6 : A6) (a7 : A7) (a8 : A8) (a9 : A9) (a10 : A10) (a11 : A11) (a12 : A12) (a13 : A13) (a14 : A14) (a15 : A15) (a16 : A16), I a1 a2 a3 a4 a5 a6 a7 a8 a9 a10 a11 a12 a13 a14 a15 a16 → (∀ (b1 : A1) (b2 : A2) (b3 : A3) (b4 : A4) (b5 : A5) (b6 : A6) (b7 : A7) (b8 : A8) (b9 : A9) (b10 : A10) (b11 : A11) (b12 : A12) (b13 : A13) (b14 : A14) (b15 : A15) (b16 : A16), I b1 b2 b3 b4 b5 b6 b7 b8 b9 b10 b11 b12 b13 b14 b15 b16 → μ b1 b2 b3 b4 b5 b6 b7 b8 b9 b10 b11 b12 b13 b14 b15 b16 < μ a1 a2 a3 a4 a5 a6 a7 a8 a9 a10 a11 a12 a13 a14 a15 a16 → W n b1 b2 b3 b4 b5 b6 b7 b8 b9 b10 b11 b12 b13 b14 b15 b16) → W (n + 1) a1 a2 a3 a4 a5 a6 a7 a8 a9 a10 a11 a12 a13 a14 a15 a16) (a1 : A1) (a2 : A2) (a3 : A3) (a4 : A4) (a5 : A5) (a6 : A6) (a7 : A7) (a8 : A8) (a9 : A9) (a10 : A10) (a11 : A11) (a12 : A12) (a13 : A13) (a14 : A14) (a15 : A15) (a16 : A16) (h : I a1 a2 a3 a4 a5 a6 a7 a8 a9 a10 a11 a12 a13 a14 a15 a16) : ∃ n, W n a1 a2 a3 a4 a5 a6 a7 a8 a9 a10 a11 a12 a13 a14 a15 a16 :=
  loop_m (σ := A1 × A2 × A3 × A4 × A5 × A6 × A7 × A8 × A9 × A10 × A11 × A12 × A13 × A14 × A15 × A16) (fun n s => W n s.1 s.2.1 s.2.2.1 s.2.2.2.1 s.2.2.2.2.1 s.2.2.2.2.2.1 s.2.2.2.2.2.2.1 s.2.2.2.2.2.2.2.1 s.2.2.2.2.2.2.2.2.1 s.2.2.2.2.2.2.2.2.2.1 s.2.2.2.2.2.2.2.2.2.2.1 s.2.2.2.2.2.2.2.2.2.2.2.1 s.2.2.2.2.2.2.2.2.2.2.2.2.1 s.2.2.2.2.2.2.2.2.2.2.2.2.2.1 s.2.2.2.2.2.2.2.2.2.2.2.2.2.2.1 s.2.2.2.2.2.2.2.2.2.2.2.2.2.2.2) (fun s => I s.1 s.2.1 s.2.2.1 s.2.2.2.1 s.2.2.2.2.1 s.2.2.2.2.2.1 s.2.2.2.2.2.2.1 s.2.2.2.2.2.2.2.1 s.2.2.2.2.2.2.2.2.1 s.2.2.2.2.2.2.2.2.2.1 s.2.2.2.2.2.2.2.2.2.2.1 s.2.2.2.2.2.2.2.2.2.2.2.1 s.2.2.2.2.2.2.2.2.2.2.2.2.1 s.2.2.2.2.2.2.2.2.2.2.2.2.2.1 s.2.2.2.2.2.2.2.2.2.2.2.2.2.2.1 s.2.2.2.2.2.2.2.2.2.2.2.2.2.2.2) (fun s => μ s.1 s.2.1 s.2.2.1 s.2.2.2.1 s.2.2.2.2.1 s.2.2.2.2.2.1 s.2.2.2.2.2.2.1 s.2.2.2.2.2.2.2.1 s.2.2.2.2.2.2.2.2.1 s.2.2.2.2.2.2.2.2.2.1 s.2.2.2.2.2.2.2.2.2.2.1 s.2.2.2.2.2.2.2.2.2.2.2.1 s.2.2.2.2.2.2.2.2.2.2.2.2.1 s.2.2.2.2.2.2.2.2.2.2.2.2.2.1 s.2.2.2.2.2.2.2.2.2.2.2.2.2.2.1 s.2.2.2.2.2.2.2.2.2.2.2.2.2.2.2) (fun n s hI hk => hs n s.1 s.2.1 s.2.2.1 s.2.2.2.1 s.2.2.2.2.1 s.2.2.2.2.2.1 s.2.2.2.2.2.2.1 s.2.2.2.2.2.2.2.1 s.2.2.2.2.2.2.2.2.1 s.2.2.2.2.2.2.2.2.2.1 s.2.2.2.2.2.2.2.2.2.2.1 s.2.2.2.2.2.2.2.2.2.2.2.1 s.2.2.2.2.2.2.2.2.2.2.2.2.1 s.2.2.2.2.2.2.2.2.2.2.2.2.2.1 s.2.2.2.2.2.2.2.2.2.2.2.2.2.2.1 s.2.2.2.2.2.2.2.2.2.2.2.2.2.2.2 hI (fun b1 b2 b3 b4 b5 b6 b7 b8 b9 b10 b11 b12 b13 b14 b15 b16 h9 hm => hk (b1, b2, b3, b4, b5, b6, b7, b8, b9, b10, b11, b12, b13, b14, b15, b16) h9 hm)) (a1, a2, a3, a4, a5, a6, a7, a8, a9, a10, a11, a12, a13, a14, a15, a16) h
theorem pk_least (P : Nat → Prop) (h : ∃ k, P k) : ∃ k, P k ∧ ∀ j, j < k → ¬ P j := by
  obtain ⟨k, hk⟩ := h
  induction k using Nat.strongRecOn with
  | ind k ih =>
    by_cases e : ∃ j, j < k ∧ P j
    · obtain ⟨j, hj, pj⟩ := e
      exact ih j hj pj
    · exact ⟨k, hk, fun j hj pj => e ⟨j, hj, pj⟩⟩
theorem rp1 {ρ A1 : Type} (W : Nat → (ρ → Prop) → A1 → Prop) (ok : A1 → Prop) (μ : A1 → Nat) (val : A1 → ρ)
    (hs : ∀ (d : Nat) (post : ρ → Prop) (a1 : A1), ok a1 → post (val a1) → (∀ (post' : ρ → Prop) (b1 : A1), ok b1 → μ b1 < μ a1 → post' (val b1) → W d post' b1) → W (d + 1) post a1) :
    ∀ (d : Nat) (post : ρ → Prop) (a1 : A1), ok a1 → μ a1 < d → post (val a1) → W d post a1 := by
  intro d
  induction d with
  | zero => intro post a1 _ h; omega
  | succ d ih =>
    intro post a1 ho hm hp
    exact hs d post a1 ho hp (fun post' b1 ho' hm' hp' => ih post' b1 ho' (by omega) hp')
theorem rp2 {ρ A1 A2 : Type} (W : Nat → (ρ → Prop) → A1 → A2 → Prop) (ok : A1 → A2 → Prop) (μ : A1 → A2 → Nat) (val : A1 → A2 → ρ)
    (hs : ∀ (d : Nat) (post : ρ → Prop) (a1 : A1) (a2 : A2), ok a1 a2 → post (val a1 a2) → (∀ (post' : ρ → Prop) (b1 : A1) (b2 : A2), ok b1 b2 → μ b1 b2 < μ a1 a2 → post' (val b1 b2) → W d post' b1 b2) → W (d + 1) post a1 a2) :
    ∀ (d : Nat) (post : ρ → Prop) (a1 : A1) (a2 : A2), ok a1 a2 → μ a1 a2 < d → post (val a1 a2) → W d post a1 a2 := by
  intro d
  induction d with
  | zero => intro post a1 a2 _ h; omega
  | succ d ih =>
    intro post a1 a2 ho hm hp
    exact hs d post a1 a2 ho hp (fun post' b1 b2 ho' hm' hp' => ih post' b1 b2 ho' (by omega) hp')
theorem rp3 {ρ A1 A2 A3 : Type} (W : Nat → (ρ → Prop) → A1 → A2 → A3 → Prop) (ok : A1 → A2 → A3 → Prop) (μ : A1 → A2 → A3 → Nat) (val : A1 → A2 → A3 → ρ)
    (hs : ∀ (d : Nat) (post : ρ → Prop) (a1 : A1) (a2 : A2) (a3 : A3), ok a1 a2 a3 → post (val a1 a2 a3) → (∀ (post' : ρ → Prop) (b1 : A1) (b2 : A2) (b3 : A3), ok b1 b2 b3 → μ b1 b2 b3 < μ a1 a2 a3 → post' (val b1 b2 b3) → W d post' b1 b2 b3) → W (d + 1) post a1 a2 a3) :
    ∀ (d : Nat) (post : ρ → Prop) (a1 : A1) (a2 : A2) (a3 : A3), ok a1 a2 a3 → μ a1 a2 a3 < d → post (val a1 a2 a3) → W d post a1 a2 a3 := by
  intro d
  induction d with
  | zero => intro post a1 a2 a3 _ h; omega
  | succ d ih =>
    intro post a1 a2 a3 ho hm hp
    exact hs d post a1 a2 a3 ho hp (fun post' b1 b2 b3 ho' hm' hp' => ih post' b1 b2 b3 ho' (by omega) hp')
theorem rp4 {ρ A1 A2 A3 A4 : Type} (W : Nat → (ρ → Prop) → A1 → A2 → A3 → A4 → Prop) (ok : A1 → A2 → A3 → A4 → Prop) (μ : A1 → A2 → A3 → A4 → Nat) (val : A1 → A2 → A3 → A4 → ρ)
    (hs : ∀ (d : Nat) (post : ρ → Prop) (a1 : A1) (a2 : A2) (a3 : A3) (a4 : A4), ok a1 a2 a3 a4 → post (val a1 a2 a3 a4) → (∀ (post' : ρ → Prop) (b1 : A1) (b2 : A2) (b3 : A3) (b4 : A4), ok b1 b2 b3 b4 → μ b1 b2 b3 b4 < μ a1 a2 a3 a4 → post' (val b1 b2 b3 b4) → W d post' b1 b2 b3 b4) → W (d + 1) post a1 a2 a3 a4) :
    ∀ (d : Nat) (post : ρ → Prop) (a1 : A1) (a2 : A2) (a3 : A3) (a4 : A4), ok a1 a2 a3 a4 → μ a1 a2 a3 a4 < d → post (val a1 a2 a3 a4) → W d post a1 a2 a3 a4 := by
  intro d
  induction d with
  | zero => intro post a1 a2 a3 a4 _ h; omega
  | succ d ih =>
    intro post a1 a2 a3 a4 ho hm hp
    exact hs d post a1 a2 a3 a4 ho hp (fun post' b1 b2 b3 b4 ho' hm' hp' => ih post' b1 b2 b3 b4 ho' (by omega) hp')
theorem rp5 {ρ A1 A2 A3 A4 A5 : Type} (W : Nat → (ρ → Prop) → A1 → A2 → A3 → A4 → A5 → Prop) (ok : A1 → A2 → A3 → A4 → A5 → Prop) (μ : A1 → A2 → A3 → A4 → A5 → Nat) (val : A1 → A2 → A3 → A4 → A5 → ρ)
    (hs : ∀ (d : Nat) (post : ρ → Prop) (a1 : A1) (a2 : A2) (a3 : A3) (a4 : A4) (a5 : A5), ok a1 a2 a3 a4 a5 → post (val a1 a2 a3 a4 a5) → (∀ (post' : ρ → Prop) (b1 : A1) (b2 : A2) (b3 : A3) (b4 : A4) (b5 : A5), ok b1 b2 b3 b4 b5 → μ b1 b2 b3 b4 b5 < μ a1 a2 a3 a4 a5 → post' (val b1 b2 b3 b4 b5) → W d post' b1 b2 b3 b4 b5) → W (d + 1) post a1 a2 a3 a4 a5) :
    ∀ (d : Nat) (post : ρ → Prop) (a1 : A1) (a2 : A2) (a3 : A3) (a4 : A4) (a5 : A5), ok a1 a2 a3 a4 a5 → μ a1 a2 a3 a4 a5 < d → post (val a1 a2 a3 a4 a5) → W d post a1 a2 a3 a4 a5 := by
  intro d
  induction d with
  | zero => intro post a1 a2 a3 a4 a5 _ h; omega
  | succ d ih =>
    intro post a1 a2 a3 a4 a5 ho hm hp
    exact hs d post a1 a2 a3 a4 a5 ho hp (fun post' b1 b2 b3 b4 b5 ho' hm' hp' => ih post' b1 b2 b3 b4 b5 ho' (by omega) hp')
theorem rp6 {ρ A1 A2 A3 A4 A5 A6 : Type} (W : Nat → (ρ → Prop) → A1 → A2 → A3 → A4 → A5 → A6 → Prop) (ok : A1 → A2 → A3 → A4 → A5 → A6 → Prop) (μ : A1 → A2 → A3 → A4 → A5 → A6 → Nat) (val : A1 → A2 → A3 → A4 → A5 → A6 → ρ)
    (hs : ∀ (d : Nat) (post : ρ → Prop) (a1 : A1) (a2 : A2) (a3 : A3) (a4 : A4) (a5 : A5) (a6 : A6), ok a1 a2 a3 a4 a5 a6 → post (val a1 a2 a3 a4 a5 a6) → (∀ (post' : ρ → Prop) (b1 : A1) (b2 : A2) (b3 : A3) (b4 : A4) (b5 : A5) (b6 : A6), ok b1 b2 b3 b4 b5 b6 → μ b1 b2 b3 b4 b5 b6 < μ a1 a2 a3 a4 a5 a6 → post' (val b1 b2 b3 b4 b5 b6) → W d post' b1 b2 b3 b4 b5 b6) → W (d + 1) post a1 a2 a3 a4 a5 a6) :
    ∀ (d : Nat) (post : ρ → Prop) (a1 : A1) (a2 : A2) (a3 : A3) (a4 : A4) (a5 : A5) (a6 : A6), ok a1 a2 a3 a4 a5 a6 → μ a1 a2 a3 a4 a5 a6 < d → post (val a1 a2 a3 a4 a5 a6) → W d post a1 a2 a3 a4 a5 a6 := by
  intro d
  induction d with
  | zero => intro post a1 a2 a3 a4 a5 a6 _ h; omega
  | succ d ih =>
    intro post a1 a2 a3 a4 a5 a6 ho hm hp
    exact hs d post a1 a2 a3 a4 a5 a6 ho hp (fun post' b1 b2 b3 b4 b5 b6 ho' hm' hp' => ih post' b1 b2 b3 b4 b5 b6 ho' (by omega) hp')
theorem rec_p {σ ρ : Type} (W : Nat → (ρ → Prop) → σ → Prop) (ok : σ → Prop) (μ : σ → Nat) (val : σ → ρ)
    (hs : ∀ d s post, ok s → post (val s) → (∀ s' post', ok s' → μ s' < μ s → post' (val s') → W d post' s') → W (d + 1) post s) :
    ∀ d s post, ok s → μ s < d → post (val s) → W d post s := by
  intro d
  induction d with
  | zero => intro s post _ h; omega
  | succ d ih =>
    intro s post ho hm hp
    exact hs d s post ho hp (fun s' post' ho' hm' hp' => ih s' post' ho' (by omega) hp')
theorem rec_q {σ ρ : Type} (W : Nat → (ρ → Prop) → σ → Prop) (ok : σ → Prop) (μ : σ → Nat) (Q : σ → ρ → Prop)
    (hs : ∀ d s post, ok s → (∀ r, Q s r → post r) → (∀ s' post', ok s' → μ s' < μ s → (∀ r, Q s' r → post' r) → W d post' s') → W (d + 1) post s) :
    ∀ d s post, ok s → μ s < d → (∀ r, Q s r → post r) → W d post s := by
  intro d
  induction d with
  | zero => intro s post _ h; omega
  | succ d ih =>
    intro s post ho hm hp
    exact hs d s post ho hp (fun s' post' ho' hm' hp' => ih s' post' ho' (by omega) hp')
def bx_sum (f : Nat → Int32) : Nat → Int32
  | 0 => 0
  | n + 1 => bx_sum f n + f n
theorem ek_u {A : Prop} {B : Nat → Prop} {k N : Nat} (hk : k < N) (h : B k) : (some k = none → A) ∧ (∀ y : Nat, some k = some y → (y < N ∧ B y)) :=
  ⟨fun z => absurd z (Option.some_ne_none k), fun _ e => (by cases e; exact ⟨hk, h⟩)⟩
theorem ek_nu {A : Prop} {B : Nat → Prop} (h : A) : ((none : Option Nat) = none → A) ∧ (∀ y : Nat, (none : Option Nat) = some y → B y) :=
  ⟨fun _ => h, fun _ e => (by cases e)⟩
theorem ek_if {c d A B : Prop} (e : c ↔ d) (f : d → A) (g : ¬ d → B) : (c → A) ∧ (¬ c → B) :=
  ⟨fun z => f (e.mp z), fun z => g (fun y => z (e.mpr y))⟩
theorem ek_v {α : Sort _} {P : α → Prop} {a b : α} (e : a = b) (h : P b) : P a := e ▸ h
theorem co_some {x : Option Nat} {A : Prop} {B : Nat → Prop} (i : Nat) (h : B i) (hx : x = some i := by rfl) : (x = none → A) ∧ (∀ y : Nat, x = some y → B y) := by
  subst hx
  exact ⟨fun e => (nomatch e), fun y e => Option.some.inj e ▸ h⟩
theorem co_none {x : Option Nat} {A : Prop} {B : Nat → Prop} (h : A) (hx : x = none := by rfl) : (x = none → A) ∧ (∀ y : Nat, x = some y → B y) := by
  subst hx
  exact ⟨fun _ => h, fun y e => (nomatch e)⟩
theorem co_any {x : Option Nat} {A : Prop} {B : Nat → Prop} (hn : x = none → A) (hs : ∀ i : Nat, x = some i → B i) : (x = none → A) ∧ (∀ y : Nat, x = some y → B y) := ⟨hn, hs⟩
theorem co_2 {P : Nat → Prop} (h0 : P 0) (h1 : P 1) {i : Nat} (hi : i < 2) : P i :=
  match i, hi with
  | 0, _ => h0
  | 1, _ => h1
theorem co_3 {P : Nat → Prop} (h0 : P 0) (h1 : P 1) (h2 : P 2) {i : Nat} (hi : i < 3) : P i :=
  match i, hi with
  | 0, _ => h0
  | 1, _ => h1
  | 2, _ => h2
theorem co_4 {P : Nat → Prop} (h0 : P 0) (h1 : P 1) (h2 : P 2) (h3 : P 3) {i : Nat} (hi : i < 4) : P i :=
  match i, hi with
  | 0, _ => h0
  | 1, _ => h1
  | 2, _ => h2
  | 3, _ => h3
theorem co_dec {N : Nat} {P : Nat → Prop} [DecidablePred P] (h : (List.range N).all (fun i => decide (P i)) = true) {i : Nat} (hi : i < N) : P i := by
  have := List.all_eq_true.mp h i (List.mem_range.mpr hi)
  exact of_decide_eq_true this
theorem co_tab {α : Type} {l : List α} {d : α} {P : α → Prop} (h : ∀ a, a ∈ l → P a) {i : Nat} (hi : i < l.length) : P (l.getD i d) := by
  rw [List.getD_eq_getElem?_getD, List.getElem?_eq_getElem hi]
  exact h _ (List.getElem_mem hi)
theorem pk_mu {x : Int32} {L : Nat} (h0 : ¬ x < 0) (h : ¬ nI L ≤ x) (hL : L < 2 ^ 31) : ∃ j : Nat, j < L ∧ x = nI j ∧ x + 1 = nI (j + 1) ∧ x.toNatClampNeg = j ∧ L - (x + 1).toNatClampNeg < L - x.toNatClampNeg := by
  obtain ⟨j, hj, rfl⟩ := nI_of h0
  have hl : j < L := Nat.not_le.mp fun q => h (nI_le q hj)
  refine ⟨j, hl, rfl, nI_1 j, nI_clamp hj, ?_⟩
  rw [nI_1, nI_clamp (by omega), nI_clamp hj]
  omega
theorem op_s {α : Type} {r : Option α} {A : Prop} {B : α → Prop} {y : α} (h : r = some y) (b : B y) : (r = none → A) ∧ ∀ z, r = some z → B z :=
  ⟨fun e => (by rw [h] at e; cases e), fun z e => (by rw [h] at e; cases e; exact b)⟩
def l_holds {α : Type} (a : Nat → Option Nat) (LP : List Nat) (p : Nat → α) (c : Nat) (b : Nat → α) : Prop :=
  ∀ j, j < c → ∃ y, a j = some y ∧ y ∈ LP ∧ p y = b j
theorem l_holds_0 {α : Type} {a : Nat → Option Nat} {LP : List Nat} {p b : Nat → α} : l_holds a LP p 0 b := fun j h => absurd h (Nat.not_lt_zero j)
theorem l_in_new (LP : List Nat) (q : Nat) : q ∈ LP ++ [q] := List.mem_append.mpr (Or.inr (List.mem_singleton.mpr rfl))
def l_sum (b : Nat → Int32) : Nat → Int32
  | 0 => 0
  | k + 1 => l_sum b k + b k
theorem sb_shr0 (x : Int32) : x >>> ((0 : Int32) &&& 31) = x := by
  rw [show ((0 : Int32) &&& 31) = 0 by decide]
  simp
theorem sb_shl0 (x : Int32) : x <<< ((0 : Int32) &&& 31) = x := by
  rw [show ((0 : Int32) &&& 31) = 0 by decide]
  simp
theorem sb_cl0 : (0 : Int32).toNatClampNeg = 0 := by decide
theorem sb_m1 {p : Nat} (h : 0 < p) : nI p + (-1) = nI (p - 1) := by
  obtain ⟨q, rfl⟩ : ∃ q, p = q + 1 := ⟨p - 1, by omega⟩
  exact pk_m1 q
def sb_b (c : Nat) : Int32 := (nI c).toInt8.toInt32
theorem sb_byte : ∀ c, c < 256 → sb_b c &&& 255 = nI c ∧ ((nI c).toUInt32 % 65536).toInt32 = nI c ∧ nI c ≤ 255 := by decide +kernel
def sb_Fit (a : Nat → Int32) : Prop := ∀ j, fits .byte (.int (a j)) = true
def sb_Lat (t : Nat → Nat) (n : Nat) (a : Nat → Int32) : Prop := ∀ j, j < n → t j < 256 ∧ a j = sb_b (t j)
theorem sb_fitB (c : Nat) : fits .byte (.int (sb_b c)) = true := pk_fb _
theorem sb_fit0 : sb_Fit (fun _ => 0) := fun _ => by
  show fits .byte (.int 0) = true
  decide
theorem sb_fitU {a : Nat → Int32} {k : Nat} {x : Int32} (h : sb_Fit a) (hx : fits .byte (.int x) = true) : sb_Fit (upd a k x) := by
  intro j
  by_cases e : j = k
  · subst e
    rw [pk_us]
    exact hx
  · rw [pk_un e]
    exact h j
def sb_cat (t : Nat → Nat) (n : Nat) (s : Nat → Nat) : Nat → Nat := fun j => if j < n then t j else s (j - n)
theorem sb_cat_lo {t s : Nat → Nat} {n j : Nat} (h : j < n) : sb_cat t n s j = t j := if_pos h
theorem sb_cat_hi {t s : Nat → Nat} {n j : Nat} : sb_cat t n s (n + j) = s j := by
  show (if n + j < n then t (n + j) else s (n + j - n)) = s j
  rw [if_neg (by omega), Nat.add_sub_cancel_left]
theorem sb_latPut {t s : Nat → Nat} {n w : Nat} {a a' : Nat → Int32} (h : sb_Lat t n a) (hk : ∀ j, j < n → a' j = a j) (hs : ∀ i, i < w → s i < 256 ∧ a' (n + i) = sb_b (s i)) : sb_Lat (sb_cat t n s) (n + w) a' := by
  intro j hj
  by_cases e : j < n
  · rw [sb_cat_lo e, hk j e]
    exact h j e
  · obtain ⟨i, rfl⟩ : ∃ i, j = n + i := ⟨j - n, by omega⟩
    rw [sb_cat_hi]
    exact hs i (by omega)
theorem sb_latKeep {t : Nat → Nat} {n : Nat} {a a' : Nat → Int32} (h : sb_Lat t n a) (hk : ∀ j, j < n → a' j = a j) : sb_Lat t n a' := fun j hj => by
  rw [hk j hj]
  exact h j hj
def sb_cap (q m : Nat) : Nat := if q ≤ m then m else if 2 * m + 2 < q then q else 2 * m + 2
def sb_Room (q m mc ms : Nat) : Prop := q ≤ m ∨ (1 ≤ mc ∧ sb_cap q m ≤ ms ∧ sb_cap q m ≤ 65536)
theorem sb_cap_ge (q m : Nat) : q ≤ sb_cap q m := by
  unfold sb_cap
  split
  · omega
  · split <;> omega
theorem sb_cap_gem (q m : Nat) : m ≤ sb_cap q m := by
  unfold sb_cap
  split
  · omega
  · split <;> omega
theorem sb_cap_le {q m mc ms : Nat} (hm : m ≤ 65536) (hr : sb_Room q m mc ms) : sb_cap q m ≤ 65536 := by
  rcases hr with h | h
  · rw [sb_cap, if_pos h]
    exact hm
  · exact h.2.2
theorem sb_at {P : Int32 → Prop} {x y : Int32} (e : x = y) (h : P y) : P x := e ▸ h
def sb_dg (w : Nat) : Nat := if w < 10 then 1 else if w < 100 then 2 else if w < 1000 then 3 else if w < 10000 then 4 else if w < 100000 then 5 else if w < 1000000 then 6 else if w < 10000000 then 7 else if w < 100000000 then 8 else if w < 1000000000 then 9 else 10
def sb_dec (v : Nat) : Nat → Nat := fun i => 48 + v / 10 ^ (sb_dg v - 1 - i) % 10
theorem sb_dg_in (w : Nat) : 1 ≤ sb_dg w ∧ sb_dg w ≤ 10 := by
  unfold sb_dg
  constructor <;> (repeat' split) <;> omega
theorem sb_dg100 {w : Nat} (h : 100 ≤ w) (hw : w < 2 ^ 31) : sb_dg w = sb_dg (w / 100) + 2 := by
  rw [sb_dg, sb_dg, if_neg (show ¬ w < 10 by omega), if_neg (show ¬ w < 100 by omega)]
  by_cases h3 : w < 1000
  · rw [if_pos h3, if_pos (show w / 100 < 10 by omega)]
  rw [if_neg h3, if_neg (show ¬ w / 100 < 10 by omega)]
  by_cases h4 : w < 10000
  · rw [if_pos h4, if_pos (show w / 100 < 100 by omega)]
  rw [if_neg h4, if_neg (show ¬ w / 100 < 100 by omega)]
  by_cases h5 : w < 100000
  · rw [if_pos h5, if_pos (show w / 100 < 1000 by omega)]
  rw [if_neg h5, if_neg (show ¬ w / 100 < 1000 by omega)]
  by_cases h6 : w < 1000000
  · rw [if_pos h6, if_pos (show w / 100 < 10000 by omega)]
  rw [if_neg h6, if_neg (show ¬ w / 100 < 10000 by omega)]
  by_cases h7 : w < 10000000
  · rw [if_pos h7, if_pos (show w / 100 < 100000 by omega)]
  rw [if_neg h7, if_neg (show ¬ w / 100 < 100000 by omega)]
  by_cases h8 : w < 100000000
  · rw [if_pos h8, if_pos (show w / 100 < 1000000 by omega)]
  rw [if_neg h8, if_neg (show ¬ w / 100 < 1000000 by omega)]
  by_cases h9 : w < 1000000000
  · rw [if_pos h9, if_pos (show w / 100 < 10000000 by omega)]
  rw [if_neg h9, if_neg (show ¬ w / 100 < 10000000 by omega)]
  rw [if_pos (show w / 100 < 100000000 by omega)]
theorem sb_negT {w : Nat} (h : w < 2 ^ 31) : (-nI w).toInt = -(w : Int) := by
  rw [Int32.toInt_neg, nI_toInt h]
  exact Int.bmod_eq_of_le (by omega) (by omega)
theorem sb_nle {a b : Nat} (ha : a < 2 ^ 31) (hb : b < 2 ^ 31) : -nI a ≤ -nI b ↔ b ≤ a := by
  rw [Int32.le_iff_toInt_le, sb_negT ha, sb_negT hb]
  omega
theorem sb_nlt {a b : Nat} (ha : a < 2 ^ 31) (hb : b < 2 ^ 31) : -nI a < -nI b ↔ b < a := by
  rw [Int32.lt_iff_toInt_lt, sb_negT ha, sb_negT hb]
  omega
theorem sb_cmp {A B : Prop} {x : Int32} (v c : Nat) (f : c ≤ v → A) (g : v < c → B) (hv : v < 2 ^ 31) (hx : x = -nI c := by rfl) (hc : c < 2 ^ 31 := by omega) : (-nI v ≤ x → A) ∧ (¬ -nI v ≤ x → B) := by
  subst hx
  rw [sb_nle hv hc]
  exact ⟨f, fun z => g (by omega)⟩
theorem sb_ndiv {w : Nat} (hw : w < 2 ^ 31) : (-nI w) / 100 = -nI (w / 100) := by
  apply Int32.toInt_inj.mp
  have h100 : (100 : Int32).toInt = 100 := by decide
  rw [Int32.toInt_div, sb_negT hw, h100, sb_negT (by omega), Int.neg_tdiv, Int.tdiv_eq_ediv_of_nonneg (by omega), Int.bmod_eq_of_le (by omega) (by omega)]
  omega
theorem sb_nrem {w : Nat} (hw : w < 2 ^ 31) : (-nI (w / 100)) * 100 - (-nI w) = nI (w % 100) := by
  have h := pk_rem (a := w) (d := 100) hw (by decide) (by decide)
  rw [pk_div hw (by decide) (by decide)] at h
  rw [← h]
  show (-nI (w / 100)) * nI 100 - (-nI w) = nI w - nI (w / 100) * nI 100
  rw [Int32.neg_mul, Int32.sub_neg, Int32.add_comm, ← Int32.sub_eq_add_neg]
end
section
/-! small rows: narrowing, optional nodes, the free list, lists of entries -/
theorem ps_i16 {n : Nat} (h : n < 32768) : (nI n).toInt16.toInt32 = nI n :=
  lg_i2s_small (by rw [nI_toInt (by omega)]; omega) (by rw [nI_toInt (by omega)]; omega)
theorem ps_i8 {n : Nat} (h : n < 128) : (nI n).toInt8.toInt32 = nI n :=
  lg_i2b_small (by rw [nI_toInt (by omega)]; omega) (by rw [nI_toInt (by omega)]; omega)
theorem ps_i16m : (-1 : Int32).toInt16.toInt32 = -1 := by decide
theorem ps_i8m : (-1 : Int32).toInt8.toInt32 = -1 := by decide
theorem ps_s {n : Nat} (h : n < 32768) : vp_nar .short (nI n) = nI n := by rw [vp_nar_short, ps_i16 h]
theorem ps_ss {n : Nat} (h : n < 32768) : vp_nar .short (nI n).toInt16.toInt32 = nI n := by rw [ps_i16 h, ps_s h]
theorem ps_sm : vp_nar .short (-1) = -1 := by rw [vp_nar_short, ps_i16m]
theorem ps_ssm : vp_nar .short (-1 : Int32).toInt16.toInt32 = -1 := by rw [ps_i16m, ps_sm]
theorem ps_b {n : Nat} (h : n < 128) : vp_nar .byte (nI n) = nI n := by rw [vp_nar_byte, ps_i8 h]
theorem ps_bb {n : Nat} (h : n < 128) : vp_nar .byte (nI n).toInt8.toInt32 = nI n := by rw [ps_i8 h, ps_b h]
theorem ps_bm : vp_nar .byte (-1) = -1 := by rw [vp_nar_byte, ps_i8m]
theorem ps_b0 : vp_nar .byte 0 = 0 := by rw [vp_nar_byte]; decide
/-- a node's number, or -1 -/
def ps_o (N : Nat) (x : Int32) : Prop := x = -1 ∨ ∃ n, n < N ∧ x = nI n
theorem ps_os {N : Nat} {x : Int32} (hN : N ≤ 32768) (h : ps_o N x) : vp_nar .short x = x := by
  rcases h with rfl | ⟨n, hn, rfl⟩
  · exact ps_sm
  · exact ps_s (by omega)
theorem ps_oss {N : Nat} {x : Int32} (hN : N ≤ 32768) (h : ps_o N x) : vp_nar .short x.toInt16.toInt32 = x := by
  rcases h with rfl | ⟨n, hn, rfl⟩
  · exact ps_ssm
  · exact ps_ss (by omega)
theorem ps_m1lt : (-1 : Int32) < 0 := by decide
theorem ps_m1nle : ¬ (0 : Int32) ≤ -1 := by decide
theorem ps_m1ne {n : Nat} (h : n < 2 ^ 31) : (-1 : Int32) ≠ nI n := by
  intro e
  have h1 : (-1 : Int32).toInt = (nI n).toInt := by rw [← e]
  rw [nI_toInt h] at h1
  have h2 : (-1 : Int32).toInt = -1 := by decide
  omega
theorem ps_inj {a b : Nat} (ha : a < 2 ^ 31) (hb : b < 2 ^ 31) (h : nI a = nI b) : a = b := (nI_eq ha hb).mp h
/-- nobody has it no more: a node that is not among the r free ones -/
def ps_F (fr : Nat → Int32) (r : Nat) (n : Nat) : Prop := ∀ i, i < r → fr i ≠ nI n
/-- the free list: r different nodes -/
def ps_I (fr : Nat → Int32) (N r : Nat) : Prop :=
  r ≤ N ∧ (∀ i, i < r → ∃ n, n < N ∧ fr i = nI n) ∧ ∀ i j, i < r → j < r → fr i = fr j → i = j
theorem ps_Fm {fr : Nat → Int32} {r r' n : Nat} (h : r' ≤ r) (hF : ps_F fr r n) : ps_F fr r' n := fun i hi => hF i (by omega)
theorem ps_Im {fr : Nat → Int32} {N r r' : Nat} (h : r' ≤ r) (hI : ps_I fr N r) : ps_I fr N r' :=
  ⟨by have := hI.1; omega, fun i hi => hI.2.1 i (by omega), fun i j hi hj => hI.2.2 i j (by omega) (by omega)⟩
/-- taking one -/
theorem ps_pop {fr : Nat → Int32} {N r : Nat} (hN : N < 2 ^ 31) (hI : ps_I fr N (r + 1)) :
    ∃ n, n < N ∧ fr r = nI n ∧ ps_F fr r n ∧ ∀ m, ps_F fr (r + 1) m → m ≠ n := by
  obtain ⟨n, hn, e⟩ := hI.2.1 r (by omega)
  refine ⟨n, hn, e, fun i hi ei => ?_, fun m hm em => ?_⟩
  · have := hI.2.2 i r (by omega) (by omega) (ei.trans e.symm)
    omega
  · exact hm r (by omega) (em ▸ e)
theorem ps_max (a b : Nat) : (max a b = a ∧ b ≤ a) ∨ (max a b = b ∧ a ≤ b) := by omega
end
section
/-! the trees of lists: pl_L F h x k xs says that the tree at x (its nodes in F) has height k and contents xs -/
abbrev LH : Type := (Nat → Int32) × (Nat → Int32) × (Nat → Int32) × (Nat → Int32) × (Nat → Int32) × (Nat → Int64)
def pl_sum : List Int32 → Int64
  | [] => 0
  | x :: xs => x.toInt64 + pl_sum xs
theorem pl_sum_app (a b : List Int32) : pl_sum (a ++ b) = pl_sum a + pl_sum b := by
  induction a with
  | nil => simp [pl_sum]
  | cons x a ih => simp only [List.cons_append, pl_sum, ih, Int64.add_assoc]
/-- a node's own facts -/
def pl_N (F : Nat → Prop) (h : LH) (n kl kr : Nat) (xl xr : List Int32) (k : Nat) (xs : List Int32) : Prop :=
  n < 640 ∧ F n ∧ kl ≤ kr + 1 ∧ kr ≤ kl + 1 ∧ k = max kl kr + 1 ∧ xs = xl ++ h.2.2.2.2.1 n :: xr ∧ h.2.2.1 n = nI k ∧
    h.2.2.2.1 n = nI xs.length ∧ h.2.2.2.2.2 n = pl_sum xs
def pl_T (F : Nat → Prop) (h : LH) : Nat → Int32 → Nat → List Int32 → Prop
  | 0 => fun x k xs => x = -1 ∧ k = 0 ∧ xs = []
  | d + 1 => fun x k xs => (x = -1 ∧ k = 0 ∧ xs = []) ∨
      ∃ n kl kr xl xr, x = nI n ∧ pl_N F h n kl kr xl xr k xs ∧ pl_T F h d (h.1 n) kl xl ∧ pl_T F h d (h.2.1 n) kr xr
def pl_L (F : Nat → Prop) (h : LH) (x : Int32) (k : Nat) (xs : List Int32) : Prop := ∃ d, pl_T F h d x k xs
theorem pl_T_s {F : Nat → Prop} {h : LH} : ∀ {d : Nat} {x : Int32} {k : Nat} {xs : List Int32}, pl_T F h d x k xs → pl_T F h (d + 1) x k xs := by
  intro d
  induction d with
  | zero => intro x k xs H; exact Or.inl H
  | succ d ih =>
    intro x k xs H
    rcases H with H | ⟨n, kl, kr, xl, xr, e, hN, hl, hr⟩
    · exact Or.inl H
    · exact Or.inr ⟨n, kl, kr, xl, xr, e, hN, ih hl, ih hr⟩
theorem pl_T_le {F : Nat → Prop} {h : LH} {d d' : Nat} {x : Int32} {k : Nat} {xs : List Int32} (hd : d ≤ d') (H : pl_T F h d x k xs) : pl_T F h d' x k xs := by
  induction hd with
  | refl => exact H
  | step _ ih => exact pl_T_s ih
theorem pl_nil {F : Nat → Prop} {h : LH} : pl_L F h (-1) 0 [] := ⟨0, rfl, rfl, rfl⟩
theorem pl_mk {F : Nat → Prop} {h : LH} {n kl kr k : Nat} {xl xr xs : List Int32} (hN : pl_N F h n kl kr xl xr k xs)
    (hl : pl_L F h (h.1 n) kl xl) (hr : pl_L F h (h.2.1 n) kr xr) : pl_L F h (nI n) k xs := by
  obtain ⟨d, hl⟩ := hl
  obtain ⟨e, hr⟩ := hr
  exact ⟨max d e + 1, Or.inr ⟨n, kl, kr, xl, xr, rfl, hN, pl_T_le (by omega) hl, pl_T_le (by omega) hr⟩⟩
theorem pl_cases {F : Nat → Prop} {h : LH} {x : Int32} {k : Nat} {xs : List Int32} (H : pl_L F h x k xs) :
    (x = -1 ∧ k = 0 ∧ xs = []) ∨ ∃ n kl kr xl xr, x = nI n ∧ pl_N F h n kl kr xl xr k xs ∧ pl_L F h (h.1 n) kl xl ∧ pl_L F h (h.2.1 n) kr xr := by
  obtain ⟨d, H⟩ := H
  cases d with
  | zero => exact Or.inl H
  | succ d =>
    rcases H with H | ⟨n, kl, kr, xl, xr, e, hN, hl, hr⟩
    · exact Or.inl H
    · exact Or.inr ⟨n, kl, kr, xl, xr, e, hN, ⟨d, hl⟩, ⟨d, hr⟩⟩
theorem pl_ind {F : Nat → Prop} {h : LH} {P : Int32 → Nat → List Int32 → Prop} (h0 : P (-1) 0 [])
    (hs : ∀ n kl kr xl xr k xs, pl_N F h n kl kr xl xr k xs → pl_L F h (h.1 n) kl xl → P (h.1 n) kl xl →
      pl_L F h (h.2.1 n) kr xr → P (h.2.1 n) kr xr → P (nI n) k xs) {x : Int32} {k : Nat} {xs : List Int32} (H : pl_L F h x k xs) : P x k xs := by
  obtain ⟨d, H⟩ := H
  induction d generalizing x k xs with
  | zero => obtain ⟨rfl, rfl, rfl⟩ := H; exact h0
  | succ d ih =>
    rcases H with H | ⟨n, kl, kr, xl, xr, rfl, hN, hl, hr⟩
    · obtain ⟨rfl, rfl, rfl⟩ := H; exact h0
    · exact hs n kl kr xl xr k xs hN ⟨d, hl⟩ (ih hl) ⟨d, hr⟩ (ih hr)
/-- the store has grown: what was in use is as it was -/
def pl_X (F : Nat → Prop) (h : LH) (F' : Nat → Prop) (h' : LH) : Prop :=
  (∀ n, F n → F' n) ∧ ∀ n, n < 640 → F n → h'.1 n = h.1 n ∧ h'.2.1 n = h.2.1 n ∧ h'.2.2.1 n = h.2.2.1 n ∧ h'.2.2.2.1 n = h.2.2.2.1 n ∧
    h'.2.2.2.2.1 n = h.2.2.2.2.1 n ∧ h'.2.2.2.2.2 n = h.2.2.2.2.2 n
theorem pl_X_r {F : Nat → Prop} {h : LH} : pl_X F h F h := ⟨fun _ z => z, fun _ _ _ => ⟨rfl, rfl, rfl, rfl, rfl, rfl⟩⟩
theorem pl_X_t {F F' F'' : Nat → Prop} {h h' h'' : LH} (a : pl_X F h F' h') (b : pl_X F' h' F'' h'') : pl_X F h F'' h'' := by
  refine ⟨fun n z => b.1 n (a.1 n z), fun n hn z => ?_⟩
  obtain ⟨a1, a2, a3, a4, a5, a6⟩ := a.2 n hn z
  obtain ⟨b1, b2, b3, b4, b5, b6⟩ := b.2 n hn (a.1 n z)
  exact ⟨b1.trans a1, b2.trans a2, b3.trans a3, b4.trans a4, b5.trans a5, b6.trans a6⟩
theorem pl_mono {F F' : Nat → Prop} {h h' : LH} (X : pl_X F h F' h') {x : Int32} {k : Nat} {xs : List Int32} (H : pl_L F h x k xs) : pl_L F' h' x k xs := by
  refine pl_ind (P := fun x k xs => pl_L F' h' x k xs) pl_nil ?_ H
  intro n kl kr xl xr k xs hN _ hl _ hr
  obtain ⟨n1, n2, n3, n4, n5, n6, n7, n8, n9⟩ := hN
  obtain ⟨e1, e2, e3, e4, e5, e6⟩ := X.2 n n1 n2
  refine pl_mk (kl := kl) (kr := kr) (xl := xl) (xr := xr) ⟨n1, X.1 n n2, n3, n4, n5, ?_, ?_, ?_, ?_⟩ ?_ ?_
  · rw [e5]; exact n6
  · rw [e3]; exact n7
  · rw [e4]; exact n8
  · rw [e6]; exact n9
  · rw [e1]; exact hl
  · rw [e2]; exact hr
theorem pl_o {F : Nat → Prop} {h : LH} {x : Int32} {k : Nat} {xs : List Int32} (H : pl_L F h x k xs) : ps_o 640 x := by
  rcases pl_cases H with ⟨rfl, _⟩ | ⟨n, kl, kr, xl, xr, rfl, hN, _⟩
  · exact Or.inl rfl
  · exact Or.inr ⟨n, hN.1, rfl⟩
/-- an AVL tree of height k has at least pl_mn k elements -/
def pl_mn : Nat → Nat
  | 0 => 0
  | 1 => 1
  | k + 2 => pl_mn (k + 1) + pl_mn k + 1
theorem pl_mn_s (k : Nat) : pl_mn k ≤ pl_mn (k + 1) := by
  cases k with
  | zero => decide
  | succ k => simp only [pl_mn]; omega
theorem pl_mn_le {a b : Nat} (h : a ≤ b) : pl_mn a ≤ pl_mn b := by
  induction h with
  | refl => exact Nat.le_refl _
  | step _ ih => exact Nat.le_trans ih (pl_mn_s _)
theorem pl_mn_k (k : Nat) : k ≤ pl_mn k ∧ k + 1 ≤ pl_mn (k + 1) := by
  induction k with
  | zero => decide
  | succ k ih => refine ⟨ih.2, ?_⟩; simp only [pl_mn]; omega
theorem pl_len {F : Nat → Prop} {h : LH} {x : Int32} {k : Nat} {xs : List Int32} (H : pl_L F h x k xs) : pl_mn k ≤ xs.length := by
  refine pl_ind (P := fun x k xs => pl_mn k ≤ xs.length) (Nat.le_refl _) ?_ H
  intro n kl kr xl xr k xs hN _ hl _ hr
  obtain ⟨n1, n2, n3, n4, n5, n6, n7, n8, n9⟩ := hN
  rw [n6, List.length_append, List.length_cons, n5]
  rcases Nat.lt_trichotomy kl kr with hh | hh | hh
  · have e : kr = kl + 1 := by omega
    have e2 : max kl kr + 1 = kl + 2 := by omega
    rw [e2]; subst e; simp only [pl_mn]; omega
  · have e2 : max kl kr + 1 = kl + 1 := by omega
    rw [e2]; subst hh
    cases kl with
    | zero => simp only [pl_mn]; omega
    | succ kl => simp only [pl_mn] at hl hr ⊢; have := pl_mn_s kl; omega
  · have e : kl = kr + 1 := by omega
    have e2 : max kl kr + 1 = kr + 2 := by omega
    rw [e2]; subst e; simp only [pl_mn]; omega
theorem pl_k7 {F : Nat → Prop} {h : LH} {x : Int32} {k : Nat} {xs : List Int32} (H : pl_L F h x k xs) (hl : xs.length ≤ 48) : k ≤ 7 := by
  have h1 := pl_len H
  by_cases c : k ≤ 7
  · exact c
  · have h2 := pl_mn_le (a := 8) (b := k) (by omega)
    have h3 : pl_mn 8 = 54 := by decide
    omega
theorem pl_kl {F : Nat → Prop} {h : LH} {x : Int32} {k : Nat} {xs : List Int32} (H : pl_L F h x k xs) : k ≤ xs.length :=
  Nat.le_trans (pl_mn_k k).1 (pl_len H)
/-- what tall and length read -/
def pl_at (a : Nat → Int32) (x : Int32) (k : Nat) : Prop := (x = -1 ∧ k = 0) ∨ ∃ n, n < 640 ∧ x = nI n ∧ a n = nI k
theorem pl_at_h {F : Nat → Prop} {h : LH} {x : Int32} {k : Nat} {xs : List Int32} (H : pl_L F h x k xs) : pl_at h.2.2.1 x k := by
  rcases pl_cases H with ⟨rfl, rfl, _⟩ | ⟨n, kl, kr, xl, xr, rfl, hN, _⟩
  · exact Or.inl ⟨rfl, rfl⟩
  · exact Or.inr ⟨n, hN.1, rfl, hN.2.2.2.2.2.2.1⟩
theorem pl_at_s {F : Nat → Prop} {h : LH} {x : Int32} {k : Nat} {xs : List Int32} (H : pl_L F h x k xs) : pl_at h.2.2.2.1 x xs.length := by
  rcases pl_cases H with ⟨rfl, _, rfl⟩ | ⟨n, kl, kr, xl, xr, rfl, hN, _⟩
  · exact Or.inl ⟨rfl, rfl⟩
  · exact Or.inr ⟨n, hN.1, rfl, hN.2.2.2.2.2.2.2.1⟩
/-- what total says -/
def pl_tt (a : Nat → Int64) (x : Int32) (s : Int64) : Prop := (x = -1 ∧ s = 0) ∨ ∃ n, n < 640 ∧ x = nI n ∧ a n = s
theorem pl_tt_s {F : Nat → Prop} {h : LH} {x : Int32} {k : Nat} {xs : List Int32} (H : pl_L F h x k xs) : pl_tt h.2.2.2.2.2 x (pl_sum xs) := by
  rcases pl_cases H with ⟨rfl, _, rfl⟩ | ⟨n, kl, kr, xl, xr, rfl, hN, _⟩
  · exact Or.inl ⟨rfl, rfl⟩
  · exact Or.inr ⟨n, hN.1, rfl, hN.2.2.2.2.2.2.2.2⟩
end
section
/-! tall, length, listNode, balanced -/
theorem ps_1a (k : Nat) : (1 : Int32) + nI k = nI (k + 1) := by rw [Int32.add_comm, nI_1]
theorem ps_d1 {a b : Nat} (ha : a < 2 ^ 30) (hb : b < 2 ^ 30) : nI a - nI b ≤ 1 ↔ a ≤ b + 1 := by
  rw [Int32.le_iff_toInt_le, pk_sub_toInt ha hb, show (1 : Int32).toInt = 1 from by decide]; omega
theorem ps_d2 {a b : Nat} (ha : a < 2 ^ 30) (hb : b < 2 ^ 30) : -1 ≤ nI a - nI b ↔ b ≤ a + 1 := by
  rw [Int32.le_iff_toInt_le, pk_sub_toInt ha hb, show (-1 : Int32).toInt = -1 from by decide]; omega
section
variable {f_mapRoom f_listRoom f_depth f_many f_first f_second : Int32} {a_held a_root a_data a_links a_more a_keys a_values a_mapMark a_mapFree a_left a_right a_height a_size a_element a_listMark a_listFree a_path a_turns a_stack a_other a_gathered a_worth a_spareKey a_spareValue a_low a_high a_before a_behind : Nat → Int32} {a_total : Nat → Int64}
theorem xl_tall {post : Int32 → Prop} {x : Int32} {k : Nat} (h : pl_at a_height x k) (hp : post (nI k)) : wpX_tall post (f_mapRoom, f_listRoom, f_depth, f_many, f_first, f_second, a_held, a_root, a_data, a_links, a_more, a_keys, a_values, a_mapMark, a_mapFree, a_left, a_right, a_height, a_size, a_element, a_total, a_listMark, a_listFree, a_path, a_turns, a_stack, a_other, a_gathered, a_worth, a_spareKey, a_spareValue, a_low, a_high, a_before, a_behind) x := by
  rcases h with ⟨rfl, rfl⟩ | ⟨n, hn, rfl, e⟩
  · exact br_f ps_m1nle hp
  · refine br_t (nI_pos' (by omega)) ⟨vp_in_nI hn (by omega), ?_⟩
    rw [nI_clamp (by omega), e]; exact hp
theorem xl_length {post : Int32 → Prop} {x : Int32} {k : Nat} (h : pl_at a_size x k) (hp : post (nI k)) : wpX_length post (f_mapRoom, f_listRoom, f_depth, f_many, f_first, f_second, a_held, a_root, a_data, a_links, a_more, a_keys, a_values, a_mapMark, a_mapFree, a_left, a_right, a_height, a_size, a_element, a_total, a_listMark, a_listFree, a_path, a_turns, a_stack, a_other, a_gathered, a_worth, a_spareKey, a_spareValue, a_low, a_high, a_before, a_behind) x := by
  rcases h with ⟨rfl, rfl⟩ | ⟨n, hn, rfl, e⟩
  · exact br_f ps_m1nle hp
  · refine br_t (nI_pos' (by omega)) ⟨vp_in_nI hn (by omega), ?_⟩
    rw [nI_clamp (by omega), e]; exact hp
theorem xl_n123 {post : Int32 → SX → Prop} {x3 x4 : Int32} {z0 z1 s : Int64} {n : Nat} (hn : n < 640) (h : pl_tt a_total x3 s)
    (hp : post x4 (f_mapRoom, f_listRoom, f_depth, f_many, f_first, f_second, a_held, a_root, a_data, a_links, a_more, a_keys, a_values, a_mapMark, a_mapFree, a_left, a_right, a_height, a_size, a_element, vp_updL a_total n ((z1 + z0) + s), a_listMark, a_listFree, a_path, a_turns, a_stack, a_other, a_gathered, a_worth, a_spareKey, a_spareValue, a_low, a_high, a_before, a_behind)) : wX_listNode_123 post x3 x4 z0 z1 (nI n) f_mapRoom f_listRoom f_depth f_many f_first f_second a_held a_root a_data a_links a_more a_keys a_values a_mapMark a_mapFree a_left a_right a_height a_size a_element a_total a_listMark a_listFree a_path a_turns a_stack a_other a_gathered a_worth a_spareKey a_spareValue a_low a_high a_before a_behind := by
  rcases h with ⟨rfl, rfl⟩ | ⟨m, hm, rfl, e⟩
  · refine br_f ps_m1nle ⟨vp_in_nI hn (by omega), ?_⟩
    rw [nI_clamp (by omega)]
    exact nm_e hp
  · refine br_t (nI_pos' (by omega)) ⟨vp_in_nI hm (by omega), vp_in_nI hn (by omega), ?_⟩
    rw [nI_clamp (by omega), nI_clamp (by omega), e]
    exact nm_e hp
theorem xl_n77 {post : Int32 → SX → Prop} {x1 x2 x3 : Int32} {s1 s2 : Int64} {n k l1 l2 : Nat} (hn : n < 640) (hk : k < 120) (hl : l1 + l2 < 120)
    (a1 : pl_at a_size x1 l1) (a2 : pl_at a_size x3 l2) (t1 : pl_tt a_total x1 s1) (t2 : pl_tt a_total x3 s2)
    (hp : post (nI n) (f_mapRoom, f_listRoom, f_depth, f_many, f_first, f_second, a_held, a_root, a_data, a_links, a_more, a_keys, a_values, a_mapMark, a_mapFree, a_left, a_right, upd a_height n (nI (k + 1)), upd a_size n (nI (1 + l1 + l2)), a_element, vp_updL a_total n ((x2.toInt64 + s1) + s2), a_listMark, a_listFree, a_path, a_turns, a_stack, a_other, a_gathered, a_worth, a_spareKey, a_spareValue, a_low, a_high, a_before, a_behind)) :
    wX_listNode_77 post x1 x2 x3 (nI n) (nI k) 1 (nI n) f_mapRoom f_listRoom f_depth f_many f_first f_second a_held a_root a_data a_links a_more a_keys a_values a_mapMark a_mapFree a_left a_right a_height a_size a_element a_total a_listMark a_listFree a_path a_turns a_stack a_other a_gathered a_worth a_spareKey a_spareValue a_low a_high a_before a_behind := by
  refine And.intro (vp_in_nI hn (by omega)) (nm_r (e' := upd a_height n (nI (k + 1))) (by rw [nI_clamp (by omega), ps_1a, ps_bb (by omega)]) ?_)
  refine xl_length a1 (xl_length a2 ⟨vp_in_nI hn (by omega), nm_r (e' := upd a_size n (nI (1 + l1 + l2))) ?_ ?_⟩)
  · rw [nI_clamp (by omega), ps_1a, nI_add, ps_bb (by omega)]
    exact congrArg _ (congrArg nI (by omega))
  · rcases t1 with ⟨rfl, rfl⟩ | ⟨m, hm, rfl, e⟩
    · exact br_f ps_m1nle (xl_n123 hn t2 hp)
    · refine br_t (nI_pos' (by omega)) ⟨vp_in_nI hm (by omega), ?_⟩
      rw [nI_clamp (by omega), e]
      exact xl_n123 hn t2 hp
end
section
variable {f_mapRoom f_listRoom f_depth f_many f_first f_second : Int32} {a_held a_root a_data a_links a_more a_keys a_values a_mapMark a_mapFree a_left a_right a_height a_size a_element a_listMark a_listFree a_path a_turns a_stack a_other a_gathered a_worth a_spareKey a_spareValue a_low a_high a_before a_behind : Nat → Int32} {a_total : Nat → Int64}
variable {post : Int32 → SX → Prop} {fr : Nat → Int32} {r : Nat} {h : LH} {x1 v x2 : Int32} {k1 k2 : Nat} {xs1 xs2 : List Int32}
theorem xl_node (hI : ps_I fr 640 (r + 1)) (h1 : pl_L (ps_F fr (r + 1)) h x1 k1 xs1) (h2 : pl_L (ps_F fr (r + 1)) h x2 k2 xs2)
    (b1 : k1 ≤ k2 + 1) (b2 : k2 ≤ k1 + 1) (hl : xs1.length + xs2.length < 100)
    (hp : ∀ x h', pl_X (ps_F fr (r + 1)) h (ps_F fr r) h' → pl_L (ps_F fr r) h' x (max k1 k2 + 1) (xs1 ++ v :: xs2) → post x (f_mapRoom, nI r, f_depth, f_many, f_first, f_second, a_held, a_root, a_data, a_links, a_more, a_keys, a_values, a_mapMark, a_mapFree, h'.1, h'.2.1, h'.2.2.1, h'.2.2.2.1, h'.2.2.2.2.1, h'.2.2.2.2.2, a_listMark, fr, a_path, a_turns, a_stack, a_other, a_gathered, a_worth, a_spareKey, a_spareValue, a_low, a_high, a_before, a_behind)) :
    wpX_listNode post (f_mapRoom, nI (r + 1), f_depth, f_many, f_first, f_second, a_held, a_root, a_data, a_links, a_more, a_keys, a_values, a_mapMark, a_mapFree, h.1, h.2.1, h.2.2.1, h.2.2.2.1, h.2.2.2.2.1, h.2.2.2.2.2, a_listMark, fr, a_path, a_turns, a_stack, a_other, a_gathered, a_worth, a_spareKey, a_spareValue, a_low, a_high, a_before, a_behind) x1 v x2 := by
  obtain ⟨n, hn, en, hF, hne⟩ := ps_pop (by omega) hI
  have hr := hI.1
  have q1 := pl_kl h1
  have q2 := pl_kl h2
  have hX : pl_X (ps_F fr (r + 1)) h (ps_F fr r) (upd h.1 n x1, upd h.2.1 n x2, upd h.2.2.1 n (nI (max k1 k2 + 1)), upd h.2.2.2.1 n (nI (1 + xs1.length + xs2.length)), upd h.2.2.2.2.1 n v, vp_updL h.2.2.2.2.2 n ((v.toInt64 + pl_sum xs1) + pl_sum xs2)) := by
    refine ⟨fun m hm => ps_Fm (by omega) hm, fun m _ hm => ?_⟩
    have z := hne m hm
    exact ⟨pk_un z, pk_un z, pk_un z, pk_un z, pk_un z, pk_uLn z⟩
  have hL : pl_L (ps_F fr r) (upd h.1 n x1, upd h.2.1 n x2, upd h.2.2.1 n (nI (max k1 k2 + 1)), upd h.2.2.2.1 n (nI (1 + xs1.length + xs2.length)), upd h.2.2.2.2.1 n v, vp_updL h.2.2.2.2.2 n ((v.toInt64 + pl_sum xs1) + pl_sum xs2)) (nI n) (max k1 k2 + 1) (xs1 ++ v :: xs2) := by
    refine pl_mk (kl := k1) (kr := k2) (xl := xs1) (xr := xs2) ⟨hn, hF, b1, b2, rfl, ?_, pk_us, ?_, ?_⟩ ?_ ?_
    · show _ = xs1 ++ upd h.2.2.2.2.1 n v n :: xs2
      rw [pk_us]
    · show upd h.2.2.2.1 n (nI (1 + xs1.length + xs2.length)) n = _
      rw [pk_us]
      exact congrArg nI (by simp; omega)
    · show vp_updL h.2.2.2.2.2 n ((v.toInt64 + pl_sum xs1) + pl_sum xs2) n = _
      rw [pk_uLs, pl_sum_app, pl_sum, Int64.add_comm v.toInt64, Int64.add_assoc]
    · show pl_L _ _ (upd h.1 n x1 n) _ _
      rw [pk_us]; exact pl_mono hX h1
    · show pl_L _ _ (upd h.2.1 n x2 n) _ _
      rw [pk_us]; exact pl_mono hX h2
  refine nm_r (nI_pred r) ⟨by rw [nI_pred]; exact vp_in_nI (by omega) (by omega), nm_r (e' := nI n) (by rw [nI_pred, nI_clamp (by omega)]; exact en) ?_⟩
  refine ⟨vp_in_nI hn (by omega), nm_r (e' := upd h.1 n x1) (by rw [nI_clamp (by omega), ps_oss (by omega) (pl_o h1)]) ?_⟩
  refine ⟨vp_in_nI hn (by omega), nm_r (e' := upd h.2.1 n x2) (by rw [nI_clamp (by omega), ps_oss (by omega) (pl_o h2)]) ?_⟩
  refine ⟨vp_in_nI hn (by omega), nm_r (e' := upd h.2.2.2.2.1 n v) (by rw [nI_clamp (by omega)]) ?_⟩
  refine xl_tall (pl_at_h h1) (xl_tall (pl_at_h h2) (pk_le k1 k2 (fun c => ?_) (fun c => ?_)))
  · refine xl_tall (pl_at_h h2) (xl_n77 (s1 := pl_sum xs1) (s2 := pl_sum xs2) hn (by omega) (by omega) (pl_at_s h1) (pl_at_s h2) (pl_tt_s h1) (pl_tt_s h2) ?_)
    have e : max k1 k2 = k2 := by omega
    rw [e] at hX hL
    exact hp _ _ hX (by rw [e]; exact hL)
  · refine xl_tall (pl_at_h h1) (xl_n77 (s1 := pl_sum xs1) (s2 := pl_sum xs2) hn (by omega) (by omega) (pl_at_s h1) (pl_at_s h2) (pl_tt_s h1) (pl_tt_s h2) ?_)
    have e : max k1 k2 = k1 := by omega
    rw [e] at hX hL
    exact hp _ _ hX (by rw [e]; exact hL)
theorem xl_balanced (hI : ps_I fr 640 (r + 3)) (h1 : pl_L (ps_F fr (r + 3)) h x1 k1 xs1) (h2 : pl_L (ps_F fr (r + 3)) h x2 k2 xs2)
    (b1 : k1 ≤ k2 + 2) (b2 : k2 ≤ k1 + 2) (hl : xs1.length + xs2.length < 100)
    (hp : ∀ x h' r' k, r ≤ r' → r' ≤ r + 3 → pl_X (ps_F fr (r + 3)) h (ps_F fr r') h' → pl_L (ps_F fr r') h' x k (xs1 ++ v :: xs2) →
      max k1 k2 ≤ k → k ≤ max k1 k2 + 1 → (k1 ≤ k2 + 1 → k2 ≤ k1 + 1 → k = max k1 k2 + 1) → post x (f_mapRoom, nI r', f_depth, f_many, f_first, f_second, a_held, a_root, a_data, a_links, a_more, a_keys, a_values, a_mapMark, a_mapFree, h'.1, h'.2.1, h'.2.2.1, h'.2.2.2.1, h'.2.2.2.2.1, h'.2.2.2.2.2, a_listMark, fr, a_path, a_turns, a_stack, a_other, a_gathered, a_worth, a_spareKey, a_spareValue, a_low, a_high, a_before, a_behind)) :
    wpX_balanced post (f_mapRoom, nI (r + 3), f_depth, f_many, f_first, f_second, a_held, a_root, a_data, a_links, a_more, a_keys, a_values, a_mapMark, a_mapFree, h.1, h.2.1, h.2.2.1, h.2.2.2.1, h.2.2.2.2.1, h.2.2.2.2.2, a_listMark, fr, a_path, a_turns, a_stack, a_other, a_gathered, a_worth, a_spareKey, a_spareValue, a_low, a_high, a_before, a_behind) x1 v x2 := by
  have q1 := pl_kl h1
  have q2 := pl_kl h2
  unfold wpX_balanced
  refine xl_tall (pl_at_h h1) ?_
  refine xl_tall (pl_at_h h2) ?_
  refine nm_e ?_
  rw [ps_d1 (by omega) (by omega), ps_d2 (by omega) (by omega)]
  refine br_c (fun c1 => br_c (fun c2 => ?_) (fun c2 => ?_)) (fun c1 => ?_)
  · exact xl_node hI h1 h2 c1 c2 hl (fun x h' X L => hp x h' (r + 2) _ (by omega) (by omega) X L (by omega) (by omega) (fun _ _ => rfl))
  · rcases pl_cases h2 with ⟨rfl, rfl, rfl⟩ | ⟨n, kl, kr, xl, xr, rfl, hN, gl, gr⟩
    · omega
    obtain ⟨n1, n2, n3, n4, n5, n6, n7, n8, n9⟩ := hN
    have hlen : xs2.length = xl.length + 1 + xr.length := by rw [n6]; simp; omega
    refine ⟨vp_in_nI n1 (by omega), nm_r (e' := h.1 n) (by rw [nI_clamp (by omega)]) ⟨vp_in_nI n1 (by omega), nm_r (e' := h.2.1 n) (by rw [nI_clamp (by omega)]) ?_⟩⟩
    refine xl_tall (pl_at_h gr) (xl_tall (pl_at_h gl) (pk_lt kr kl (fun c => ?_) (fun c => ?_) rfl rfl (by have := pl_kl gr; omega) (by have := pl_kl gl; omega)))
    · rcases pl_cases gl with ⟨_, e0, _⟩ | ⟨m, ml, mr, xml, xmr, em, hM, hml, hmr⟩
      · omega
      obtain ⟨m1, m2, m3, m4, m5, m6, m7, m8, m9⟩ := hM
      have hlm : xl.length = xml.length + 1 + xmr.length := by rw [m6]; simp; omega
      rw [em, nI_clamp (n := m) (by omega)]
      refine ⟨vp_in_nI m1 (by omega), ?_⟩
      refine xl_node (r := r + 2) hI h1 hml (by omega) (by omega) (by omega) (fun y h' X L => ?_)
      have X2 := X.2 m m1 m2
      have X3 := X.2 n n1 n2
      refine ⟨vp_in_nI m1 (by omega), vp_in_nI n1 (by omega), ?_⟩
      rw [nI_clamp (n := n) (by omega), X2.2.1, X3.2.2.2.2.1]
      refine xl_node (r := r + 1) (ps_Im (by omega) hI) (pl_mono X hmr) (pl_mono X gr) (by omega) (by omega) (by omega) (fun z h'' X' L' => ?_)
      refine ⟨vp_in_nI m1 (by omega), ?_⟩
      have X4 := (pl_X_t X X').2 m m1 m2
      rw [X4.2.2.2.2.1]
      refine xl_node (r := r) (ps_Im (by omega) hI) (pl_mono X' L) L' (by omega) (by omega) (by simp; omega) (fun w h3 X'' L'' => ?_)
      refine hp w h3 r (max (max k1 ml + 1) (max mr kr + 1) + 1) (by omega) (by omega) (pl_X_t X (pl_X_t X' X'')) ?_ (by omega) (by omega) (by omega)
      have e : xs1 ++ v :: xs2 = (xs1 ++ v :: xml) ++ h.2.2.2.2.1 m :: (xmr ++ h.2.2.2.2.1 n :: xr) := by rw [n6, m6]; simp
      rw [e]; exact L''
    · refine xl_node (r := r + 2) hI h1 gl (by omega) (by omega) (by omega) (fun y h' X L => ?_)
      have X3 := X.2 n n1 n2
      refine ⟨vp_in_nI n1 (by omega), ?_⟩
      rw [nI_clamp (n := n) (by omega), X3.2.2.2.2.1]
      refine xl_node (r := r + 1) (ps_Im (by omega) hI) L (pl_mono X gr) (by omega) (by omega) (by simp; omega) (fun z h'' X' L' => ?_)
      refine hp z h'' (r + 1) (max (max k1 kl + 1) kr + 1) (by omega) (by omega) (pl_X_t X X') ?_ (by omega) (by omega) (by omega)
      have e : xs1 ++ v :: xs2 = (xs1 ++ v :: xl) ++ h.2.2.2.2.1 n :: xr := by rw [n6]; simp
      rw [e]; exact L'
  · rcases pl_cases h1 with ⟨rfl, rfl, rfl⟩ | ⟨n, kl, kr, xl, xr, rfl, hN, gl, gr⟩
    · omega
    obtain ⟨n1, n2, n3, n4, n5, n6, n7, n8, n9⟩ := hN
    have hlen : xs1.length = xl.length + 1 + xr.length := by rw [n6]; simp; omega
    refine ⟨vp_in_nI n1 (by omega), nm_r (e' := h.1 n) (by rw [nI_clamp (by omega)]) ⟨vp_in_nI n1 (by omega), nm_r (e' := h.2.1 n) (by rw [nI_clamp (by omega)]) ?_⟩⟩
    refine xl_tall (pl_at_h gl) (xl_tall (pl_at_h gr) (pk_lt kl kr (fun c => ?_) (fun c => ?_) rfl rfl (by have := pl_kl gl; omega) (by have := pl_kl gr; omega)))
    · rcases pl_cases gr with ⟨_, e0, _⟩ | ⟨m, ml, mr, xml, xmr, em, hM, hml, hmr⟩
      · omega
      obtain ⟨m1, m2, m3, m4, m5, m6, m7, m8, m9⟩ := hM
      have hlm : xr.length = xml.length + 1 + xmr.length := by rw [m6]; simp; omega
      rw [em, nI_clamp (n := m) (by omega), nI_clamp (n := n) (by omega)]
      refine ⟨vp_in_nI n1 (by omega), vp_in_nI m1 (by omega), ?_⟩
      refine xl_node (r := r + 2) hI gl hml (by omega) (by omega) (by omega) (fun y h' X L => ?_)
      have X2 := X.2 m m1 m2
      refine ⟨vp_in_nI m1 (by omega), ?_⟩
      rw [X2.2.1]
      refine xl_node (r := r + 1) (ps_Im (by omega) hI) (pl_mono X hmr) (pl_mono X h2) (by omega) (by omega) (by omega) (fun z h'' X' L' => ?_)
      refine ⟨vp_in_nI m1 (by omega), ?_⟩
      have X4 := (pl_X_t X X').2 m m1 m2
      rw [X4.2.2.2.2.1]
      refine xl_node (r := r) (ps_Im (by omega) hI) (pl_mono X' L) L' (by omega) (by omega) (by simp; omega) (fun w h3 X'' L'' => ?_)
      refine hp w h3 r (max (max kl ml + 1) (max mr k2 + 1) + 1) (by omega) (by omega) (pl_X_t X (pl_X_t X' X'')) ?_ (by omega) (by omega) (by omega)
      have e : xs1 ++ v :: xs2 = (xl ++ h.2.2.2.2.1 n :: xml) ++ h.2.2.2.2.1 m :: (xmr ++ v :: xs2) := by rw [n6, m6]; simp
      rw [e]; exact L''
    · refine xl_node (r := r + 2) hI gr h2 (by omega) (by omega) (by omega) (fun y h' X L => ?_)
      have X3 := X.2 n n1 n2
      refine ⟨vp_in_nI n1 (by omega), ?_⟩
      rw [nI_clamp (n := n) (by omega), X3.2.2.2.2.1]
      refine xl_node (r := r + 1) (ps_Im (by omega) hI) (pl_mono X gl) L (by omega) (by omega) (by simp; omega) (fun z h'' X' L' => ?_)
      refine hp z h'' (r + 1) (max kl (max kr k2 + 1) + 1) (by omega) (by omega) (pl_X_t X X') ?_ (by omega) (by omega) (by omega)
      have e : xs1 ++ v :: xs2 = xl ++ h.2.2.2.2.1 n :: (xr ++ v :: xs2) := by rw [n6]; simp
      rw [e]; exact L'
end
end
section
/-! link: down the higher side, and up again -/
def pl_ZL (F : Nat → Prop) (h : LH) (o : Nat → Int32) (K : Nat) : Nat → List Int32 → Nat → Prop
  | 0 => fun P k => P = [] ∧ k = K
  | s + 1 => fun P k => ∃ n kl xl P', n < 640 ∧ o s = nI n ∧ F n ∧ pl_L F h (h.1 n) kl xl ∧ kl ≤ k + 1 ∧ k ≤ kl + 1 ∧
      P = P' ++ (xl ++ [h.2.2.2.2.1 n]) ∧ pl_ZL F h o K s P' (max kl k + 1)
def pl_ZR (F : Nat → Prop) (h : LH) (o : Nat → Int32) (K : Nat) : Nat → List Int32 → Nat → Prop
  | 0 => fun P k => P = [] ∧ k = K
  | s + 1 => fun P k => ∃ n kl xl P', n < 640 ∧ o s = nI n ∧ F n ∧ pl_L F h (h.2.1 n) kl xl ∧ kl ≤ k + 1 ∧ k ≤ kl + 1 ∧
      P = (h.2.2.2.2.1 n :: xl) ++ P' ∧ pl_ZR F h o K s P' (max kl k + 1)
theorem pl_ZL_m {F F' : Nat → Prop} {h h' : LH} (X : pl_X F h F' h') {o : Nat → Int32} {K : Nat} : ∀ {s : Nat} {P : List Int32} {k : Nat}, pl_ZL F h o K s P k → pl_ZL F' h' o K s P k := by
  intro s
  induction s with
  | zero => exact fun z => z
  | succ s ih =>
    rintro P k ⟨n, kl, xl, P', n1, eo, n2, hl, b1, b2, eP, hZ⟩
    obtain ⟨e1, e2, e3, e4, e5, e6⟩ := X.2 n n1 n2
    exact ⟨n, kl, xl, P', n1, eo, X.1 n n2, by rw [e1]; exact pl_mono X hl, b1, b2, by rw [e5]; exact eP, ih hZ⟩
theorem pl_ZL_c {F : Nat → Prop} {h : LH} {o o' : Nat → Int32} {K : Nat} : ∀ {s : Nat} {P : List Int32} {k : Nat}, (∀ i, i < s → o' i = o i) → pl_ZL F h o K s P k → pl_ZL F h o' K s P k := by
  intro s
  induction s with
  | zero => exact fun _ z => z
  | succ s ih =>
    rintro P k ho ⟨n, kl, xl, P', n1, eo, n2, hl, b1, b2, eP, hZ⟩
    exact ⟨n, kl, xl, P', n1, (ho s (by omega)).trans eo, n2, hl, b1, b2, eP, ih (fun i hi => ho i (by omega)) hZ⟩
section
variable {f_mapRoom f_listRoom f_depth f_many f_first f_second : Int32} {a_held a_root a_data a_links a_more a_keys a_values a_mapMark a_mapFree a_left a_right a_height a_size a_element a_listMark a_listFree a_path a_turns a_stack a_other a_gathered a_worth a_spareKey a_spareValue a_low a_high a_before a_behind : Nat → Int32} {a_total : Nat → Int64}
variable {post : Int32 → SX → Prop} {fr : Nat → Int32} {v b : Int32} {kb K : Nat} {xb : List Int32}
theorem xl_upL : ∀ (s : Nat) {N R k k' : Nat} {h : LH} {x : Int32} {P ys : List Int32} {o : Nat → Int32}, s < N → s ≤ 64 → ps_I fr 640 R → 3 * s ≤ R → pl_ZL (ps_F fr R) h o K s P k →
    pl_L (ps_F fr R) h x k' ys → k ≤ k' → k' ≤ k + 1 → P.length + ys.length < 100 →
    (∀ x h' r' K', R ≤ r' + 3 * s → r' ≤ R → pl_X (ps_F fr R) h (ps_F fr r') h' → pl_L (ps_F fr r') h' x K' (P ++ ys) → K ≤ K' → K' ≤ K + 1 → post x (f_mapRoom, nI r', f_depth, f_many, f_first, f_second, a_held, a_root, a_data, a_links, a_more, a_keys, a_values, a_mapMark, a_mapFree, h'.1, h'.2.1, h'.2.2.1, h'.2.2.2.1, h'.2.2.2.2.1, h'.2.2.2.2.2, a_listMark, fr, a_path, a_turns, a_stack, o, a_gathered, a_worth, a_spareKey, a_spareValue, a_low, a_high, a_before, a_behind)) →
    wX_link_126 post 1 N (nI s) x f_mapRoom (nI R) f_depth f_many f_first f_second a_held a_root a_data a_links a_more a_keys a_values a_mapMark a_mapFree h.1 h.2.1 h.2.2.1 h.2.2.2.1 h.2.2.2.2.1 h.2.2.2.2.2 a_listMark fr a_path a_turns a_stack o a_gathered a_worth a_spareKey a_spareValue a_low a_high a_before a_behind := by
  intro s
  induction s with
  | zero =>
    intro N R k k' h x P ys o hN _ hI _ hZ hx c1 c2 _ hp
    obtain ⟨rfl, rfl⟩ := hZ
    cases N with
    | zero => omega
    | succ N =>
      refine br_t (by decide) ?_
      exact hp x h R k' (by omega) (by omega) pl_X_r hx c1 c2
  | succ s ih =>
    intro N R k k' h x P ys o hN hs hI hR hZ hx c1 c2 hlen hp
    obtain ⟨n, kl, xl, P', n1, eo, n2, hl, b1, b2, eP, hZ⟩ := hZ
    have hlP : P.length = P'.length + xl.length + 1 := by rw [eP]; simp; omega
    obtain ⟨r0, rfl⟩ : ∃ r0, R = r0 + 3 := ⟨R - 3, by omega⟩
    cases N with
    | zero => omega
    | succ N =>
      refine br_f (nI_nle (by omega) (by omega)) (nm_r (pk_m1 s) ⟨vp_in_nI (by omega) (by omega), nm_r (e' := nI n) (by rw [nI_clamp (by omega)]; exact eo) (br_f (by decide) ⟨vp_in_nI n1 (by omega), vp_in_nI n1 (by omega), ?_⟩)⟩)
      rw [nI_clamp (n := n) (by omega)]
      refine xl_balanced hI hl hx (by omega) (by omega) (by omega) (fun x' h' r' k'' g1 g2 X L d1 d2 d3 => ?_)
      refine ih (N := N) (R := r') (P := P') (ys := xl ++ h.2.2.2.2.1 n :: ys) (k := max kl k + 1) (k' := k'') (by omega) (by omega) (ps_Im (by omega) hI) (by omega) (pl_ZL_m X hZ) L ?_ ?_ ?_ ?_
      · rcases Nat.lt_or_ge (kl + 1) k' with z | z
        · omega
        · rcases Nat.lt_or_ge (k' + 1) kl with z2 | z2
          · omega
          · have := d3 (by omega) (by omega); omega
      · omega
      · simp; omega
      · intro y h3 r3 K3 g3 g4 X3 L3 c3 c4
        refine hp y h3 r3 K3 (by omega) (by omega) (pl_X_t X X3) ?_ c3 c4
        have e : P ++ ys = P' ++ (xl ++ h.2.2.2.2.1 n :: ys) := by rw [eP]; simp
        rw [e]; exact L3
theorem xl_downL : ∀ (N : Nat) {s R ka : Nat} {h : LH} {a : Int32} {P xa : List Int32} {o : Nat → Int32}, ka < N → s + ka ≤ 60 → ps_I fr 640 R → 1 + 3 * (s + (ka - kb - 1)) ≤ R → pl_ZL (ps_F fr R) h o K s P ka →
    pl_L (ps_F fr R) h a ka xa → pl_L (ps_F fr R) h b kb xb → kb ≤ ka → P.length + xa.length + xb.length < 99 →
    (∀ x h' r' o' K', R ≤ r' + (1 + 3 * (s + (ka - kb - 1))) → r' ≤ R → pl_X (ps_F fr R) h (ps_F fr r') h' → pl_L (ps_F fr r') h' x K' (P ++ xa ++ v :: xb) → K ≤ K' → K' ≤ K + 1 → post x (f_mapRoom, nI r', f_depth, f_many, f_first, f_second, a_held, a_root, a_data, a_links, a_more, a_keys, a_values, a_mapMark, a_mapFree, h'.1, h'.2.1, h'.2.2.1, h'.2.2.2.1, h'.2.2.2.2.1, h'.2.2.2.2.2, a_listMark, fr, a_path, a_turns, a_stack, o', a_gathered, a_worth, a_spareKey, a_spareValue, a_low, a_high, a_before, a_behind)) →
    wX_link_29 post v 1 f_mapRoom (nI R) f_depth f_many f_first f_second N (nI s) a b a_held a_root a_data a_links a_more a_keys a_values a_mapMark a_mapFree h.1 h.2.1 h.2.2.1 h.2.2.2.1 h.2.2.2.2.1 h.2.2.2.2.2 a_listMark fr a_path a_turns a_stack o a_gathered a_worth a_spareKey a_spareValue a_low a_high a_before a_behind := by
  intro N
  induction N with
  | zero => intros; omega
  | succ N ih =>
    intro s R ka h a P xa o hN hs hI hR hZ ha hb hab hlen hp
    have q1 := pl_kl ha
    have q2 := pl_kl hb
    have dn : kb + 2 ≤ ka → wX_link_63 post (wX_link_29 post v 1 f_mapRoom (nI R) f_depth f_many f_first f_second N) v (nI s) a b 1 f_mapRoom (nI R) f_depth f_many f_first f_second a_held a_root a_data a_links a_more a_keys a_values a_mapMark a_mapFree h.1 h.2.1 h.2.2.1 h.2.2.2.1 h.2.2.2.2.1 h.2.2.2.2.2 a_listMark fr a_path a_turns a_stack o a_gathered a_worth a_spareKey a_spareValue a_low a_high a_before a_behind := by
      intro c
      rcases pl_cases ha with ⟨_, e0, _⟩ | ⟨n, kl, kr, xl, xr, rfl, hN2, gl, gr⟩
      · omega
      obtain ⟨n1, n2, n3, n4, n5, n6, n7, n8, n9⟩ := hN2
      have hlx : xa.length = xl.length + 1 + xr.length := by rw [n6]; simp; omega
      refine nm_r (nI_1 s) (br_f (by decide) (And.intro (vp_in_nI (by omega) (by omega)) (nm_r (e' := upd o s (nI n)) (by rw [nI_clamp (by omega), ps_ss (by omega)]) (br_f (by decide) ⟨vp_in_nI n1 (by omega), nm_r (e' := h.2.1 n) (by rw [nI_clamp (by omega)]) ?_⟩))))
      refine ih (s := s + 1) (P := P ++ (xl ++ [h.2.2.2.2.1 n])) (xa := xr) (ka := kr) (by omega) (by omega) hI (by omega) ?_ gr hb (by omega) (by simp; omega) ?_
      · refine ⟨n, kl, xl, P, n1, pk_us, n2, gl, by omega, by omega, rfl, ?_⟩
        have e : max kl kr + 1 = ka := by omega
        rw [e]
        exact pl_ZL_c (fun i hi => pk_un (by omega)) hZ
      · intro y h3 r3 o3 K3 g3 g4 X3 L3 c3 c4
        refine hp y h3 r3 o3 K3 (by omega) (by omega) X3 ?_ c3 c4
        have e : P ++ xa ++ v :: xb = (P ++ (xl ++ [h.2.2.2.2.1 n])) ++ xr ++ v :: xb := by rw [n6]; simp
        rw [e]; exact L3
    unfold wX_link_29
    refine xl_tall (pl_at_h ha) (xl_tall (pl_at_h hb) (pk_lt (kb + 1) ka (fun c => dn (by omega)) (fun c => ?_) (nI_1 kb) rfl (by omega) (by omega)))
    refine xl_tall (pl_at_h hb) (xl_tall (pl_at_h ha) (pk_le kb (ka + 1) (fun c2 => ?_) (fun c2 => absurd c2 (by omega)) rfl (nI_1 ka) (by omega) (by omega)))
    obtain ⟨r0, rfl⟩ : ∃ r0, R = r0 + 1 := ⟨R - 1, by omega⟩
    refine xl_node hI ha hb (by omega) (by omega) (by omega) (fun x h' X L => ?_)
    refine ⟨s + 1, xl_upL s (by omega) (by omega) (ps_Im (by omega) hI) (by omega) (pl_ZL_m X hZ) L (by omega) (by omega) (by simp; omega) ?_⟩
    intro y h3 r3 K3 g3 g4 X3 L3 c3 c4
    refine hp y h3 r3 o K3 (by omega) (by omega) (pl_X_t X X3) ?_ c3 c4
    rw [List.append_assoc]; exact L3
end
theorem pl_ZR_m {F F' : Nat → Prop} {h h' : LH} (X : pl_X F h F' h') {o : Nat → Int32} {K : Nat} : ∀ {s : Nat} {P : List Int32} {k : Nat}, pl_ZR F h o K s P k → pl_ZR F' h' o K s P k := by
  intro s
  induction s with
  | zero => exact fun z => z
  | succ s ih =>
    rintro P k ⟨n, kl, xl, P', n1, eo, n2, hl, b1, b2, eP, hZ⟩
    obtain ⟨e1, e2, e3, e4, e5, e6⟩ := X.2 n n1 n2
    exact ⟨n, kl, xl, P', n1, eo, X.1 n n2, by rw [e2]; exact pl_mono X hl, b1, b2, by rw [e5]; exact eP, ih hZ⟩
theorem pl_ZR_c {F : Nat → Prop} {h : LH} {o o' : Nat → Int32} {K : Nat} : ∀ {s : Nat} {P : List Int32} {k : Nat}, (∀ i, i < s → o' i = o i) → pl_ZR F h o K s P k → pl_ZR F h o' K s P k := by
  intro s
  induction s with
  | zero => exact fun _ z => z
  | succ s ih =>
    rintro P k ho ⟨n, kl, xl, P', n1, eo, n2, hl, b1, b2, eP, hZ⟩
    exact ⟨n, kl, xl, P', n1, (ho s (by omega)).trans eo, n2, hl, b1, b2, eP, ih (fun i hi => ho i (by omega)) hZ⟩
section
variable {f_mapRoom f_listRoom f_depth f_many f_first f_second : Int32} {a_held a_root a_data a_links a_more a_keys a_values a_mapMark a_mapFree a_left a_right a_height a_size a_element a_listMark a_listFree a_path a_turns a_stack a_other a_gathered a_worth a_spareKey a_spareValue a_low a_high a_before a_behind : Nat → Int32} {a_total : Nat → Int64}
variable {post : Int32 → SX → Prop} {fr : Nat → Int32} {v b : Int32} {kb K : Nat} {xb : List Int32}
theorem xl_upR : ∀ (s : Nat) {N R k k' : Nat} {h : LH} {x : Int32} {P ys : List Int32} {o : Nat → Int32}, s < N → s ≤ 64 → ps_I fr 640 R → 3 * s ≤ R → pl_ZR (ps_F fr R) h o K s P k →
    pl_L (ps_F fr R) h x k' ys → k ≤ k' → k' ≤ k + 1 → P.length + ys.length < 100 →
    (∀ x h' r' K', R ≤ r' + 3 * s → r' ≤ R → pl_X (ps_F fr R) h (ps_F fr r') h' → pl_L (ps_F fr r') h' x K' (ys ++ P) → K ≤ K' → K' ≤ K + 1 → post x (f_mapRoom, nI r', f_depth, f_many, f_first, f_second, a_held, a_root, a_data, a_links, a_more, a_keys, a_values, a_mapMark, a_mapFree, h'.1, h'.2.1, h'.2.2.1, h'.2.2.2.1, h'.2.2.2.2.1, h'.2.2.2.2.2, a_listMark, fr, a_path, a_turns, a_stack, o, a_gathered, a_worth, a_spareKey, a_spareValue, a_low, a_high, a_before, a_behind)) →
    wX_link_126 post 0 N (nI s) x f_mapRoom (nI R) f_depth f_many f_first f_second a_held a_root a_data a_links a_more a_keys a_values a_mapMark a_mapFree h.1 h.2.1 h.2.2.1 h.2.2.2.1 h.2.2.2.2.1 h.2.2.2.2.2 a_listMark fr a_path a_turns a_stack o a_gathered a_worth a_spareKey a_spareValue a_low a_high a_before a_behind := by
  intro s
  induction s with
  | zero =>
    intro N R k k' h x P ys o hN _ hI _ hZ hx c1 c2 _ hp
    obtain ⟨rfl, rfl⟩ := hZ
    cases N with
    | zero => omega
    | succ N =>
      refine br_t (by decide) ?_
      exact hp x h R k' (by omega) (by omega) pl_X_r (by rw [List.append_nil]; exact hx) c1 c2
  | succ s ih =>
    intro N R k k' h x P ys o hN hs hI hR hZ hx c1 c2 hlen hp
    obtain ⟨n, kl, xl, P', n1, eo, n2, hl, b1, b2, eP, hZ⟩ := hZ
    have hlP : P.length = P'.length + xl.length + 1 := by rw [eP]; simp; omega
    obtain ⟨r0, rfl⟩ : ∃ r0, R = r0 + 3 := ⟨R - 3, by omega⟩
    cases N with
    | zero => omega
    | succ N =>
      refine br_f (nI_nle (by omega) (by omega)) (nm_r (pk_m1 s) ⟨vp_in_nI (by omega) (by omega), nm_r (e' := nI n) (by rw [nI_clamp (by omega)]; exact eo) (br_t rfl ⟨vp_in_nI n1 (by omega), vp_in_nI n1 (by omega), ?_⟩)⟩)
      rw [nI_clamp (n := n) (by omega)]
      refine xl_balanced hI hx hl (by omega) (by omega) (by omega) (fun x' h' r' k'' g1 g2 X L d1 d2 d3 => ?_)
      refine ih (N := N) (R := r') (P := P') (ys := ys ++ h.2.2.2.2.1 n :: xl) (k := max kl k + 1) (k' := k'') (by omega) (by omega) (ps_Im (by omega) hI) (by omega) (pl_ZR_m X hZ) L ?_ ?_ ?_ ?_
      · rcases Nat.lt_or_ge (kl + 1) k' with z | z
        · omega
        · rcases Nat.lt_or_ge (k' + 1) kl with z2 | z2
          · omega
          · have := d3 (by omega) (by omega); omega
      · omega
      · simp; omega
      · intro y h3 r3 K3 g3 g4 X3 L3 c3 c4
        refine hp y h3 r3 K3 (by omega) (by omega) (pl_X_t X X3) ?_ c3 c4
        have e : ys ++ P = (ys ++ h.2.2.2.2.1 n :: xl) ++ P' := by rw [eP]; simp
        rw [e]; exact L3
theorem xl_downR : ∀ (N : Nat) {s R ka : Nat} {h : LH} {a : Int32} {P xa : List Int32} {o : Nat → Int32}, ka < N → s + ka ≤ 60 → ps_I fr 640 R → 1 + 3 * (s + (ka - kb - 1)) ≤ R → pl_ZR (ps_F fr R) h o K s P ka →
    pl_L (ps_F fr R) h a ka xa → pl_L (ps_F fr R) h b kb xb → kb ≤ ka → P.length + xa.length + xb.length < 99 →
    (∀ x h' r' o' K', R ≤ r' + (1 + 3 * (s + (ka - kb - 1))) → r' ≤ R → pl_X (ps_F fr R) h (ps_F fr r') h' → pl_L (ps_F fr r') h' x K' (xb ++ v :: (xa ++ P)) → K ≤ K' → K' ≤ K + 1 → post x (f_mapRoom, nI r', f_depth, f_many, f_first, f_second, a_held, a_root, a_data, a_links, a_more, a_keys, a_values, a_mapMark, a_mapFree, h'.1, h'.2.1, h'.2.2.1, h'.2.2.2.1, h'.2.2.2.2.1, h'.2.2.2.2.2, a_listMark, fr, a_path, a_turns, a_stack, o', a_gathered, a_worth, a_spareKey, a_spareValue, a_low, a_high, a_before, a_behind)) →
    wX_link_29 post v 0 f_mapRoom (nI R) f_depth f_many f_first f_second N (nI s) b a a_held a_root a_data a_links a_more a_keys a_values a_mapMark a_mapFree h.1 h.2.1 h.2.2.1 h.2.2.2.1 h.2.2.2.2.1 h.2.2.2.2.2 a_listMark fr a_path a_turns a_stack o a_gathered a_worth a_spareKey a_spareValue a_low a_high a_before a_behind := by
  intro N
  induction N with
  | zero => intros; omega
  | succ N ih =>
    intro s R ka h a P xa o hN hs hI hR hZ ha hb hab hlen hp
    have q1 := pl_kl ha
    have q2 := pl_kl hb
    have dn : kb + 2 ≤ ka → wX_link_63 post (wX_link_29 post v 0 f_mapRoom (nI R) f_depth f_many f_first f_second N) v (nI s) b a 0 f_mapRoom (nI R) f_depth f_many f_first f_second a_held a_root a_data a_links a_more a_keys a_values a_mapMark a_mapFree h.1 h.2.1 h.2.2.1 h.2.2.2.1 h.2.2.2.2.1 h.2.2.2.2.2 a_listMark fr a_path a_turns a_stack o a_gathered a_worth a_spareKey a_spareValue a_low a_high a_before a_behind := by
      intro c
      rcases pl_cases ha with ⟨_, e0, _⟩ | ⟨n, kl, kr, xl, xr, rfl, hN2, gl, gr⟩
      · omega
      obtain ⟨n1, n2, n3, n4, n5, n6, n7, n8, n9⟩ := hN2
      have hlx : xa.length = xl.length + 1 + xr.length := by rw [n6]; simp; omega
      refine nm_r (nI_1 s) (br_t rfl (And.intro (vp_in_nI (by omega) (by omega)) (nm_r (e' := upd o s (nI n)) (by rw [nI_clamp (by omega), ps_ss (by omega)]) (br_t rfl ⟨vp_in_nI n1 (by omega), nm_r (e' := h.1 n) (by rw [nI_clamp (by omega)]) ?_⟩))))
      refine ih (s := s + 1) (P := (h.2.2.2.2.1 n :: xr) ++ P) (xa := xl) (ka := kl) (by omega) (by omega) hI (by omega) ?_ gl hb (by omega) (by simp; omega) ?_
      · refine ⟨n, kr, xr, P, n1, pk_us, n2, gr, by omega, by omega, rfl, ?_⟩
        have e : max kr kl + 1 = ka := by omega
        rw [e]
        exact pl_ZR_c (fun i hi => pk_un (by omega)) hZ
      · intro y h3 r3 o3 K3 g3 g4 X3 L3 c3 c4
        refine hp y h3 r3 o3 K3 (by omega) (by omega) X3 ?_ c3 c4
        have e : xb ++ v :: (xa ++ P) = xb ++ v :: (xl ++ ((h.2.2.2.2.1 n :: xr) ++ P)) := by rw [n6]; simp
        rw [e]; exact L3
    unfold wX_link_29
    refine xl_tall (pl_at_h hb) (xl_tall (pl_at_h ha) (pk_lt (ka + 1) kb (fun c => absurd c (by omega)) (fun c => ?_) (nI_1 ka) rfl (by omega) (by omega)))
    refine xl_tall (pl_at_h ha) (xl_tall (pl_at_h hb) (pk_le ka (kb + 1) (fun c2 => ?_) (fun c2 => dn (by omega)) rfl (nI_1 kb) (by omega) (by omega)))
    obtain ⟨r0, rfl⟩ : ∃ r0, R = r0 + 1 := ⟨R - 1, by omega⟩
    refine xl_node hI hb ha (by omega) (by omega) (by omega) (fun x h' X L => ?_)
    refine ⟨s + 1, xl_upR s (by omega) (by omega) (ps_Im (by omega) hI) (by omega) (pl_ZR_m X hZ) L (by omega) (by omega) (by simp; omega) ?_⟩
    intro y h3 r3 K3 g3 g4 X3 L3 c3 c4
    refine hp y h3 r3 o K3 (by omega) (by omega) (pl_X_t X X3) ?_ c3 c4
    rw [List.append_assoc] at L3; exact L3
end
section
variable {f_mapRoom f_listRoom f_depth f_many f_first f_second : Int32} {a_held a_root a_data a_links a_more a_keys a_values a_mapMark a_mapFree a_left a_right a_height a_size a_element a_listMark a_listFree a_path a_turns a_stack a_other a_gathered a_worth a_spareKey a_spareValue a_low a_high a_before a_behind : Nat → Int32} {a_total : Nat → Int64}
variable {post : Int32 → SX → Prop} {fr : Nat → Int32} {R : Nat} {h : LH} {x1 v x2 : Int32} {k1 k2 : Nat} {xs1 xs2 : List Int32}
theorem xl_link (hI : ps_I fr 640 R) (h1 : pl_L (ps_F fr R) h x1 k1 xs1) (h2 : pl_L (ps_F fr R) h x2 k2 xs2) (hl : xs1.length + xs2.length < 99) (hk1 : k1 ≤ 50) (hk2 : k2 ≤ 50)
    (hR : 1 + 3 * ((k1 - k2 - 1) + (k2 - k1 - 1)) ≤ R)
    (hp : ∀ x h' r' o' k, R ≤ r' + (1 + 3 * ((k1 - k2 - 1) + (k2 - k1 - 1))) → r' ≤ R → pl_X (ps_F fr R) h (ps_F fr r') h' → pl_L (ps_F fr r') h' x k (xs1 ++ v :: xs2) →
      max k1 k2 ≤ k → k ≤ max k1 k2 + 1 → post x (f_mapRoom, nI r', f_depth, f_many, f_first, f_second, a_held, a_root, a_data, a_links, a_more, a_keys, a_values, a_mapMark, a_mapFree, h'.1, h'.2.1, h'.2.2.1, h'.2.2.2.1, h'.2.2.2.2.1, h'.2.2.2.2.2, a_listMark, fr, a_path, a_turns, a_stack, o', a_gathered, a_worth, a_spareKey, a_spareValue, a_low, a_high, a_before, a_behind)) :
    wpX_link post (f_mapRoom, nI R, f_depth, f_many, f_first, f_second, a_held, a_root, a_data, a_links, a_more, a_keys, a_values, a_mapMark, a_mapFree, h.1, h.2.1, h.2.2.1, h.2.2.2.1, h.2.2.2.2.1, h.2.2.2.2.2, a_listMark, fr, a_path, a_turns, a_stack, a_other, a_gathered, a_worth, a_spareKey, a_spareValue, a_low, a_high, a_before, a_behind) x1 v x2 := by
  unfold wpX_link
  refine xl_tall (pl_at_h h1) ?_
  refine xl_tall (pl_at_h h2) ?_
  refine pk_le k1 k2 (fun c => ?_) (fun c => ?_)
  · refine ⟨k2 + 1, xl_downR (s := 0) (P := []) (K := k2) (k2 + 1) (by omega) (by omega) hI (by omega) ⟨rfl, rfl⟩ h2 h1 c (by simp; omega) ?_⟩
    intro x h' r' o' k g1 g2 X L c1 c2
    rw [List.append_nil] at L
    exact hp x h' r' o' k (by omega) g2 X L (by omega) (by omega)
  · refine ⟨k1 + 1, xl_downL (s := 0) (P := []) (K := k1) (k1 + 1) (by omega) (by omega) hI (by omega) ⟨rfl, rfl⟩ h1 h2 (by omega) (by simp; omega) ?_⟩
    intro x h' r' o' k g1 g2 X L c1 c2
    exact hp x h' r' o' k (by omega) g2 X L (by omega) (by omega)
end
end
section
/-! split and joined -/
theorem pl_take1 {xl xr : List Int32} {e : Int32} {i : Nat} (h : i ≤ xl.length) : (xl ++ e :: xr).take i = xl.take i ∧ (xl ++ e :: xr).drop i = xl.drop i ++ e :: xr :=
  ⟨List.take_append_of_le_length h, List.drop_append_of_le_length h⟩
theorem pl_take2 {xl xr : List Int32} {e : Int32} {i : Nat} (h : xl.length < i) :
    (xl ++ e :: xr).take i = xl ++ e :: xr.take (i - (xl.length + 1)) ∧ (xl ++ e :: xr).drop i = xr.drop (i - (xl.length + 1)) := by
  obtain ⟨j, rfl⟩ : ∃ j, i = xl.length + (j + 1) := ⟨i - xl.length - 1, by omega⟩
  have e1 : xl.length + (j + 1) - (xl.length + 1) = j := by omega
  rw [e1]
  constructor
  · rw [List.take_append, List.take_of_length_le (by omega), Nat.add_sub_cancel_left, List.take_succ_cons]
  · rw [List.drop_append, List.drop_of_length_le (by omega), Nat.add_sub_cancel_left, List.drop_succ_cons, List.nil_append]
def pl_C : Nat → Nat
  | 0 => 0
  | k + 1 => pl_C k + (1 + 3 * (k - 1))
theorem pl_C_le {a b : Nat} (h : a ≤ b) : pl_C a ≤ pl_C b := by
  induction h with
  | refl => exact Nat.le_refl _
  | step _ ih => rw [pl_C]; omega
def pl_ZS (F : Nat → Prop) (h : LH) (pa tu : Nat → Int32) (K : Nat) : Nat → List Int32 → List Int32 → Nat → Prop
  | 0 => fun P S k => P = [] ∧ S = [] ∧ k = K
  | d + 1 => fun P S k => ∃ n kl kr xl xr P' S', n < 640 ∧ pa d = nI n ∧ F n ∧ pl_L F h (h.1 n) kl xl ∧ pl_L F h (h.2.1 n) kr xr ∧ kl ≤ kr + 1 ∧ kr ≤ kl + 1 ∧
      ((tu d = 1 ∧ k = kr ∧ P = P' ++ (xl ++ [h.2.2.2.2.1 n]) ∧ S = S') ∨ (tu d = 0 ∧ k = kl ∧ P = P' ∧ S = (h.2.2.2.2.1 n :: xr) ++ S')) ∧ pl_ZS F h pa tu K d P' S' (max kl kr + 1)
theorem pl_ZS_m {F F' : Nat → Prop} {h h' : LH} (X : pl_X F h F' h') {pa tu : Nat → Int32} {K : Nat} : ∀ {d : Nat} {P S : List Int32} {k : Nat}, pl_ZS F h pa tu K d P S k → pl_ZS F' h' pa tu K d P S k := by
  intro d
  induction d with
  | zero => exact fun z => z
  | succ d ih =>
    rintro P S k ⟨n, kl, kr, xl, xr, P', S', n1, eo, n2, hl, hr, b1, b2, c, hZ⟩
    obtain ⟨e1, e2, e3, e4, e5, e6⟩ := X.2 n n1 n2
    exact ⟨n, kl, kr, xl, xr, P', S', n1, eo, X.1 n n2, by rw [e1]; exact pl_mono X hl, by rw [e2]; exact pl_mono X hr, b1, b2, by rw [e5]; exact c, ih hZ⟩
theorem pl_ZS_c {F : Nat → Prop} {h : LH} {pa tu pa' tu' : Nat → Int32} {K : Nat} : ∀ {d : Nat} {P S : List Int32} {k : Nat}, (∀ i, i < d → pa' i = pa i ∧ tu' i = tu i) → pl_ZS F h pa tu K d P S k → pl_ZS F h pa' tu' K d P S k := by
  intro d
  induction d with
  | zero => exact fun _ z => z
  | succ d ih =>
    rintro P S k ho ⟨n, kl, kr, xl, xr, P', S', n1, eo, n2, hl, hr, b1, b2, c, hZ⟩
    have o := ho d (by omega)
    exact ⟨n, kl, kr, xl, xr, P', S', n1, o.1.trans eo, n2, hl, hr, b1, b2, by rw [o.2]; exact c, ih (fun i hi => ho i (by omega)) hZ⟩
theorem pl_ZS_k {F : Nat → Prop} {h : LH} {pa tu : Nat → Int32} {K : Nat} : ∀ {d : Nat} {P S : List Int32} {k : Nat}, pl_ZS F h pa tu K d P S k → k + d ≤ K := by
  intro d
  induction d with
  | zero => rintro P S k ⟨_, _, rfl⟩; omega
  | succ d ih =>
    rintro P S k ⟨n, kl, kr, xl, xr, P', S', n1, eo, n2, hl, hr, b1, b2, c, hZ⟩
    have := ih hZ
    rcases c with ⟨_, rfl, _⟩ | ⟨_, rfl, _⟩ <;> omega
section
variable {f_mapRoom f_listRoom f_depth f_many f_first f_second : Int32} {a_held a_root a_data a_links a_more a_keys a_values a_mapMark a_mapFree a_left a_right a_height a_size a_element a_listMark a_listFree a_path a_turns a_stack a_other a_gathered a_worth a_spareKey a_spareValue a_low a_high a_before a_behind : Nat → Int32} {a_total : Nat → Int64}
variable {post : SX → Prop} {fr pa tu : Nat → Int32} {K : Nat}
theorem xl_sup : ∀ (d : Nat) {N R k k1 k2 : Nat} {h : LH} {x1 x2 : Int32} {A B P S : List Int32} {o : Nat → Int32}, d < N → d ≤ 16 → K ≤ 12 → ps_I fr 640 R → pl_C K ≤ R + pl_C k →
    pl_ZS (ps_F fr R) h pa tu K d P S k → pl_L (ps_F fr R) h x1 k1 A → pl_L (ps_F fr R) h x2 k2 B → k1 ≤ k → k2 ≤ k → P.length + A.length + B.length + S.length < 98 →
    (∀ y1 y2 h' r' o' j1 j2, R + pl_C k ≤ r' + pl_C K → r' ≤ R → pl_X (ps_F fr R) h (ps_F fr r') h' → pl_L (ps_F fr r') h' y1 j1 (P ++ A) → pl_L (ps_F fr r') h' y2 j2 (B ++ S) → j1 ≤ K → j2 ≤ K →
      post (f_mapRoom, nI r', nI 0, f_many, y1, y2, a_held, a_root, a_data, a_links, a_more, a_keys, a_values, a_mapMark, a_mapFree, h'.1, h'.2.1, h'.2.2.1, h'.2.2.2.1, h'.2.2.2.2.1, h'.2.2.2.2.2, a_listMark, fr, pa, tu, a_stack, o', a_gathered, a_worth, a_spareKey, a_spareValue, a_low, a_high, a_before, a_behind)) →
    wX_split_130 post N f_mapRoom (nI R) (nI d) f_many x1 x2 a_held a_root a_data a_links a_more a_keys a_values a_mapMark a_mapFree h.1 h.2.1 h.2.2.1 h.2.2.2.1 h.2.2.2.2.1 h.2.2.2.2.2 a_listMark fr pa tu a_stack o a_gathered a_worth a_spareKey a_spareValue a_low a_high a_before a_behind := by
  intro d
  induction d with
  | zero =>
    intro N R k k1 k2 h x1 x2 A B P S o hN _ _ hI _ hZ h1 h2 c1 c2 _ hp
    obtain ⟨rfl, rfl, rfl⟩ := hZ
    cases N with
    | zero => omega
    | succ N =>
      refine br_t (by decide) ?_
      exact hp x1 x2 h R o k1 k2 (by omega) (by omega) pl_X_r h1 (by rw [List.append_nil]; exact h2) c1 c2
  | succ d ih =>
    intro N R k k1 k2 h x1 x2 A B P S o hN hd hK hI hR hZ h1 h2 c1 c2 hlen hp
    obtain ⟨n, kl, kr, xl, xr, P', S', n1, eo, n2, hl, hr, b1, b2, c, hZ⟩ := hZ
    have hk := pl_ZS_k hZ
    have m1 := pl_C_le (a := max kl kr + 1) (b := K) (by omega)
    have m2 : pl_C (max kl kr + 1) = pl_C (max kl kr) + (1 + 3 * (max kl kr - 1)) := rfl
    cases N with
    | zero => omega
    | succ N =>
      refine br_f (nI_nle (by omega) (by omega)) (nm_r (nI_pred d) ⟨by rw [nI_pred]; exact vp_in_nI (by omega) (by omega), nm_r (e' := nI n) (by rw [nI_pred, nI_clamp (by omega)]; exact eo) ⟨vp_in_nI (by omega) (by omega), ?_⟩⟩)
      rw [nI_clamp (n := d) (by omega), nI_clamp (n := n) (by omega)]
      rcases c with ⟨et, ek, rfl, rfl⟩ | ⟨et, ek, rfl, rfl⟩
      · refine br_t et ⟨vp_in_nI n1 (by omega), vp_in_nI n1 (by omega), ?_⟩
        have m3 := pl_C_le (a := k) (b := max kl kr) (by omega)
        simp only [List.length_append, List.length_cons, List.length_nil] at hlen
        refine xl_link hI hl h1 (by omega) (by omega) (by omega) (by omega) (fun x h' r' o' k g1 g2 X L d1 d2 => ?_)
        refine ih (N := N) (R := r') (P := P') (A := xl ++ h.2.2.2.2.1 n :: A) (k := max kl kr + 1) (k1 := k) (by omega) (by omega) hK (ps_Im g2 hI) (by omega) (pl_ZS_m X hZ) L (pl_mono X h2) (by omega) (by omega) (by simp; omega) ?_
        intro y1 y2 h3 r3 o3 j1 j2 g3 g4 X3 L1 L2 c3 c4
        refine hp y1 y2 h3 r3 o3 j1 j2 (by omega) (by omega) (pl_X_t X X3) ?_ L2 c3 c4
        have e : P' ++ (xl ++ [h.2.2.2.2.1 n]) ++ A = P' ++ (xl ++ h.2.2.2.2.1 n :: A) := by simp
        rw [e]; exact L1
      · refine br_f (by rw [et]; decide) ⟨vp_in_nI n1 (by omega), vp_in_nI n1 (by omega), ?_⟩
        have m3 := pl_C_le (a := k) (b := max kl kr) (by omega)
        simp only [List.length_append, List.length_cons, List.length_nil] at hlen
        refine xl_link hI h2 hr (by omega) (by omega) (by omega) (by omega) (fun x h' r' o' k g1 g2 X L d1 d2 => ?_)
        refine ih (N := N) (R := r') (S := S') (B := B ++ h.2.2.2.2.1 n :: xr) (k := max kl kr + 1) (k2 := k) (by omega) (by omega) hK (ps_Im g2 hI) (by omega) (pl_ZS_m X hZ) (pl_mono X h1) L (by omega) (by omega) (by simp; omega) ?_
        intro y1 y2 h3 r3 o3 j1 j2 g3 g4 X3 L1 L2 c3 c4
        refine hp y1 y2 h3 r3 o3 j1 j2 (by omega) (by omega) (pl_X_t X X3) L1 ?_ c3 c4
        have e : B ++ (h.2.2.2.2.1 n :: xr ++ S') = (B ++ h.2.2.2.2.1 n :: xr) ++ S' := by simp
        rw [e]; exact L2
end
section
variable {f_mapRoom f_listRoom f_depth f_many f_first f_second : Int32} {a_held a_root a_data a_links a_more a_keys a_values a_mapMark a_mapFree a_left a_right a_height a_size a_element a_listMark a_listFree a_path a_turns a_stack a_other a_gathered a_worth a_spareKey a_spareValue a_low a_high a_before a_behind : Nat → Int32} {a_total : Nat → Int64}
variable {post : SX → Prop} {fr : Nat → Int32} {K R : Nat} {h : LH} {o : Nat → Int32}
theorem xl_sdn (hI : ps_I fr 640 R) (hK : K ≤ 12) (hR : pl_C K ≤ R) : ∀ (N : Nat) {d k rest : Nat} {x : Int32} {xs P S : List Int32} {pa tu : Nat → Int32}, k < N →
    pl_ZS (ps_F fr R) h pa tu K d P S k → pl_L (ps_F fr R) h x k xs → rest ≤ xs.length → P.length + xs.length + S.length < 98 →
    (∀ y1 y2 h' r' o' pa' tu' j1 j2, R ≤ r' + pl_C K → r' ≤ R → pl_X (ps_F fr R) h (ps_F fr r') h' → pl_L (ps_F fr r') h' y1 j1 (P ++ xs.take rest) → pl_L (ps_F fr r') h' y2 j2 (xs.drop rest ++ S) → j1 ≤ K → j2 ≤ K →
      post (f_mapRoom, nI r', nI 0, f_many, y1, y2, a_held, a_root, a_data, a_links, a_more, a_keys, a_values, a_mapMark, a_mapFree, h'.1, h'.2.1, h'.2.2.1, h'.2.2.2.1, h'.2.2.2.2.1, h'.2.2.2.2.2, a_listMark, fr, pa', tu', a_stack, o', a_gathered, a_worth, a_spareKey, a_spareValue, a_low, a_high, a_before, a_behind)) →
    wX_split_10 post f_mapRoom (nI R) f_many f_first f_second N x (nI rest) (nI d) a_held a_root a_data a_links a_more a_keys a_values a_mapMark a_mapFree h.1 h.2.1 h.2.2.1 h.2.2.2.1 h.2.2.2.2.1 h.2.2.2.2.2 a_listMark fr pa tu a_stack o a_gathered a_worth a_spareKey a_spareValue a_low a_high a_before a_behind := by
  intro N
  induction N with
  | zero => intros; omega
  | succ N ih =>
    intro d k rest x xs P S pa tu hN hZ hx hrest hlen hp
    have hk := pl_ZS_k hZ
    rcases pl_cases hx with ⟨rfl, rfl, rfl⟩ | ⟨n, kl, kr, xl, xr, rfl, hN2, gl, gr⟩
    · refine br_t ps_m1lt ⟨d + 1, ?_⟩
      refine xl_sup d (by omega) (by omega) hK hI (by omega) hZ pl_nil pl_nil (by omega) (by omega) (by simp at hlen ⊢; omega) ?_
      intro y1 y2 h3 r3 o3 j1 j2 g3 g4 X3 L1 L2 c3 c4
      have e : rest = 0 := by simpa using hrest
      subst e
      exact hp y1 y2 h3 r3 o3 pa tu j1 j2 (by rw [pl_C] at g3; omega) g4 X3 L1 L2 c3 c4
    · obtain ⟨n1, n2, n3, n4, n5, n6, n7, n8, n9⟩ := hN2
      have hlx : xs.length = xl.length + 1 + xr.length := by rw [n6]; simp; omega
      refine br_f (nI_pos (by omega)) ⟨vp_in_nI (by omega) (by omega), nm_r (e' := upd pa d (nI n)) (by rw [nI_clamp (by omega), ps_ss (by omega)]) ⟨vp_in_nI n1 (by omega), ?_⟩⟩
      rw [nI_clamp (n := n) (by omega)]
      refine xl_length (pl_at_s gl) (pk_le rest xl.length (fun c => ?_) (fun c => ?_))
      · refine nm_r (nI_1 d) (br_t rfl (And.intro (vp_in_nI (by omega) (by omega)) (nm_r (e' := upd tu d 0) (by rw [nI_clamp (by omega)]; exact congrArg _ (by decide)) (br_t rfl (br_t rfl ⟨vp_in_nI n1 (by omega), nm_r (e' := h.1 n) (by rw [nI_clamp (by omega)]) ?_⟩)))))
        refine ih (d := d + 1) (P := P) (S := (h.2.2.2.2.1 n :: xr) ++ S) (k := kl) (by omega) ?_ gl c (by simp; omega) ?_
        · refine ⟨n, kl, kr, xl, xr, P, S, n1, pk_us, n2, gl, gr, n3, n4, Or.inr ⟨pk_us, rfl, rfl, rfl⟩, ?_⟩
          rw [← n5]
          exact pl_ZS_c (fun i hi => ⟨pk_un (by omega), pk_un (by omega)⟩) hZ
        · intro y1 y2 h3 r3 o3 pa3 tu3 j1 j2 g3 g4 X3 L1 L2 c3 c4
          refine hp y1 y2 h3 r3 o3 pa3 tu3 j1 j2 g3 g4 X3 ?_ ?_ c3 c4
          · rw [n6, (pl_take1 c).1]; exact L1
          · rw [n6, (pl_take1 c).2, List.append_assoc]; exact L2
      · refine nm_r (nI_1 d) (br_f (by decide) (And.intro (vp_in_nI (by omega) (by omega)) (nm_r (e' := upd tu d 1) (by rw [nI_clamp (by omega)]; exact congrArg _ (by decide)) (br_f (by decide) ⟨vp_in_nI n1 (by omega), ?_⟩))))
        rw [nI_clamp (n := n) (by omega)]
        refine xl_length (pl_at_s gl) (nm_r (e' := nI (rest - (xl.length + 1))) (by rw [nI_1, pk_sub (by omega)]) (br_f (by decide) ⟨vp_in_nI n1 (by omega), nm_r (e' := h.2.1 n) (by rw [nI_clamp (by omega)]) ?_⟩))
        refine ih (d := d + 1) (P := P ++ (xl ++ [h.2.2.2.2.1 n])) (S := S) (k := kr) (by omega) ?_ gr (by omega) (by simp; omega) ?_
        · refine ⟨n, kl, kr, xl, xr, P, S, n1, pk_us, n2, gl, gr, n3, n4, Or.inl ⟨pk_us, rfl, rfl, rfl⟩, ?_⟩
          rw [← n5]
          exact pl_ZS_c (fun i hi => ⟨pk_un (by omega), pk_un (by omega)⟩) hZ
        · intro y1 y2 h3 r3 o3 pa3 tu3 j1 j2 g3 g4 X3 L1 L2 c3 c4
          refine hp y1 y2 h3 r3 o3 pa3 tu3 j1 j2 g3 g4 X3 ?_ ?_ c3 c4
          · rw [n6, (pl_take2 c).1]
            have e : P ++ (xl ++ h.2.2.2.2.1 n :: List.take (rest - (xl.length + 1)) xr) = P ++ (xl ++ [h.2.2.2.2.1 n]) ++ List.take (rest - (xl.length + 1)) xr := by simp
            rw [e]; exact L1
          · rw [n6, (pl_take2 c).2]; exact L2
theorem xl_split {x : Int32} {i : Nat} {xs : List Int32} (hI : ps_I fr 640 R) (hK : K ≤ 12) (hR : pl_C K ≤ R) (hx : pl_L (ps_F fr R) h x K xs) (hi : i ≤ xs.length) (hlen : xs.length < 98)
    (hp : ∀ y1 y2 h' r' o' pa' tu' j1 j2, R ≤ r' + pl_C K → r' ≤ R → pl_X (ps_F fr R) h (ps_F fr r') h' → pl_L (ps_F fr r') h' y1 j1 (xs.take i) → pl_L (ps_F fr r') h' y2 j2 (xs.drop i) → j1 ≤ K → j2 ≤ K →
      post (f_mapRoom, nI r', nI 0, f_many, y1, y2, a_held, a_root, a_data, a_links, a_more, a_keys, a_values, a_mapMark, a_mapFree, h'.1, h'.2.1, h'.2.2.1, h'.2.2.2.1, h'.2.2.2.2.1, h'.2.2.2.2.2, a_listMark, fr, pa', tu', a_stack, o', a_gathered, a_worth, a_spareKey, a_spareValue, a_low, a_high, a_before, a_behind)) :
    wpX_split post (f_mapRoom, nI R, f_depth, f_many, f_first, f_second, a_held, a_root, a_data, a_links, a_more, a_keys, a_values, a_mapMark, a_mapFree, h.1, h.2.1, h.2.2.1, h.2.2.2.1, h.2.2.2.2.1, h.2.2.2.2.2, a_listMark, fr, a_path, a_turns, a_stack, o, a_gathered, a_worth, a_spareKey, a_spareValue, a_low, a_high, a_before, a_behind) x (nI i) := by
  refine ⟨K + 1, xl_sdn (d := 0) (P := []) (S := []) hI hK hR (K + 1) (by omega) ⟨rfl, rfl, rfl⟩ hx hi (by simpa using hlen) ?_⟩
  intro y1 y2 h3 r3 o3 pa3 tu3 j1 j2 g3 g4 X3 L1 L2 c3 c4
  rw [List.append_nil] at L2
  exact hp y1 y2 h3 r3 o3 pa3 tu3 j1 j2 g3 g4 X3 L1 L2 c3 c4
end
section
variable {f_mapRoom f_listRoom f_depth f_many f_first f_second : Int32} {a_held a_root a_data a_links a_more a_keys a_values a_mapMark a_mapFree a_left a_right a_height a_size a_element a_listMark a_listFree a_path a_turns a_stack a_other a_gathered a_worth a_spareKey a_spareValue a_low a_high a_before a_behind : Nat → Int32} {a_total : Nat → Int64}
variable {post : Int32 → SX → Prop} {fr : Nat → Int32} {R : Nat} {h : LH} {x1 x2 : Int32} {k1 k2 : Nat} {xs1 xs2 : List Int32}
theorem xl_joined (hI : ps_I fr 640 R) (h1 : pl_L (ps_F fr R) h x1 k1 xs1) (h2 : pl_L (ps_F fr R) h x2 k2 xs2) (hl : xs1.length + xs2.length < 98) (hk1 : k1 ≤ 12) (hk2 : k2 ≤ 12)
    (hR : pl_C k2 + (1 + 3 * (max k1 k2 - 1)) ≤ R)
    (hp : ∀ x h' r' o' pa' tu' dp fi se k, R ≤ r' + (pl_C k2 + (1 + 3 * (max k1 k2 - 1))) → r' ≤ R → pl_X (ps_F fr R) h (ps_F fr r') h' → pl_L (ps_F fr r') h' x k (xs1 ++ xs2) →
      post x (f_mapRoom, nI r', dp, f_many, fi, se, a_held, a_root, a_data, a_links, a_more, a_keys, a_values, a_mapMark, a_mapFree, h'.1, h'.2.1, h'.2.2.1, h'.2.2.2.1, h'.2.2.2.2.1, h'.2.2.2.2.2, a_listMark, fr, pa', tu', a_stack, o', a_gathered, a_worth, a_spareKey, a_spareValue, a_low, a_high, a_before, a_behind)) :
    wpX_joined post (f_mapRoom, nI R, f_depth, f_many, f_first, f_second, a_held, a_root, a_data, a_links, a_more, a_keys, a_values, a_mapMark, a_mapFree, h.1, h.2.1, h.2.2.1, h.2.2.2.1, h.2.2.2.2.1, h.2.2.2.2.2, a_listMark, fr, a_path, a_turns, a_stack, a_other, a_gathered, a_worth, a_spareKey, a_spareValue, a_low, a_high, a_before, a_behind) x1 x2 := by
  rcases pl_cases h1 with ⟨rfl, rfl, rfl⟩ | ⟨n, kl, kr, xl, xr, rfl, hN, gl, gr⟩
  · exact br_f ps_m1nle (hp _ _ _ _ _ _ _ _ _ k2 (by omega) (by omega) pl_X_r h2)
  · refine br_t (nI_pos' (by have := hN.1; omega)) ?_
    rcases pl_cases h2 with ⟨rfl, rfl, rfl⟩ | ⟨m, ml, mr, xml, xmr, rfl, hM, hml, hmr⟩
    · exact br_f ps_m1nle (hp _ _ _ _ _ _ _ _ _ k1 (by omega) (by omega) pl_X_r (by rw [List.append_nil]; exact h1))
    · refine br_t (nI_pos' (by have := hM.1; omega)) ?_
      obtain ⟨e, t, et⟩ : ∃ e t, xs2 = e :: t := by
        rw [hM.2.2.2.2.2.1]
        cases xml with
        | nil => exact ⟨_, _, rfl⟩
        | cons a b => exact ⟨_, _, rfl⟩
      subst et
      have hl2 : (e :: t).length = t.length + 1 := rfl
      refine xl_split (i := 1) hI (by omega) (by omega) h2 (by omega) (by omega) (fun y1 y2 h' r' o' pa' tu' j1 j2 g1 g2 X L1 L2 c1 c2 => ?_)
      rcases pl_cases L1 with ⟨_, _, z⟩ | ⟨q, ql, qr, xql, xqr, rfl, hQ, _, _⟩
      · exact absurd z (by simp)
      · have eq : h'.2.2.2.2.1 q = e := by
          have z := hQ.2.2.2.2.2.1
          cases xql with
          | nil => simp at z; exact z.1.symm
          | cons a b => simp at z
        refine ⟨vp_in_nI hQ.1 (by omega), nm_r (e' := e) (by rw [nI_clamp (by have := hQ.1; omega)]; exact eq) ?_⟩
        refine xl_link (ps_Im g2 hI) (pl_mono X h1) L2 (by simp; omega) (by omega) (by omega) (by omega) (fun x h3 r3 o3 k g3 g4 X3 L d1 d2 => ?_)
        exact hp x h3 r3 o3 pa' tu' _ _ _ k (by omega) (by omega) (pl_X_t X X3) L
end
end
section
/-! elementAt, sumBefore, spread -/
theorem pl_get1 {xl xr : List Int32} {e : Int32} {i : Nat} (h : i < xl.length) : (xl ++ e :: xr).getD i 0 = xl.getD i 0 := by
  rw [List.getD_eq_getElem?_getD, List.getD_eq_getElem?_getD, List.getElem?_append_left h]
theorem pl_get0 {xl xr : List Int32} {e : Int32} : (xl ++ e :: xr).getD xl.length 0 = e := by
  rw [List.getD_eq_getElem?_getD, List.getElem?_append_right (Nat.le_refl _), Nat.sub_self]; rfl
theorem pl_get2 {xl xr : List Int32} {e : Int32} {i : Nat} (h : xl.length < i) : (xl ++ e :: xr).getD i 0 = xr.getD (i - (xl.length + 1)) 0 := by
  obtain ⟨j, rfl⟩ : ∃ j, i = xl.length + (j + 1) := ⟨i - xl.length - 1, by omega⟩
  rw [List.getD_eq_getElem?_getD, List.getD_eq_getElem?_getD, List.getElem?_append_right (by omega), Nat.add_sub_cancel_left, List.getElem?_cons_succ]
  exact congrArg (fun z => (xr[z]?).getD 0) (by omega)
/-- an array holds a list -/
def ps_A (a : Nat → Int32) (xs : List Int32) : Prop := ∀ i, i < xs.length → a i = xs.getD i 0
theorem ps_A0 {a : Nat → Int32} : ps_A a [] := fun i hi => absurd hi (by simp)
theorem ps_Ap {a : Nat → Int32} {xs : List Int32} {e : Int32} (h : ps_A a xs) : ps_A (upd a xs.length e) (xs ++ [e]) := by
  intro i hi
  rw [List.length_append, List.length_cons, List.length_nil] at hi
  by_cases c : i = xs.length
  · subst c; rw [pk_us, pl_get0]
  · rw [pk_un c, pl_get1 (by omega)]; exact h i (by omega)
/-- what is still to come, by the stack -/
def pl_P (F : Nat → Prop) (h : LH) (st : Nat → Int32) : Nat → List Int32 → Prop
  | 0 => fun xs => xs = []
  | t + 1 => fun xs => ∃ n kr xr rest, n < 640 ∧ st t = nI n ∧ F n ∧ pl_L F h (h.2.1 n) kr xr ∧ xs = h.2.2.2.2.1 n :: (xr ++ rest) ∧ pl_P F h st t rest
theorem pl_P_c {F : Nat → Prop} {h : LH} {st st' : Nat → Int32} : ∀ {t : Nat} {xs : List Int32}, (∀ i, i < t → st' i = st i) → pl_P F h st t xs → pl_P F h st' t xs := by
  intro t
  induction t with
  | zero => exact fun _ z => z
  | succ t ih =>
    rintro xs ho ⟨n, kr, xr, rest, n1, eo, n2, hr, e, hP⟩
    exact ⟨n, kr, xr, rest, n1, (ho t (by omega)).trans eo, n2, hr, e, ih (fun i hi => ho i (by omega)) hP⟩
theorem pl_P_l {F : Nat → Prop} {h : LH} {st : Nat → Int32} : ∀ {t : Nat} {xs : List Int32}, pl_P F h st t xs → t ≤ xs.length := by
  intro t
  induction t with
  | zero => intros; omega
  | succ t ih =>
    rintro xs ⟨n, kr, xr, rest, n1, eo, n2, hr, e, hP⟩
    have := ih hP
    rw [e]; simp; omega
section
variable {f_mapRoom f_listRoom f_depth f_many f_first f_second : Int32} {a_held a_root a_data a_links a_more a_keys a_values a_mapMark a_mapFree a_left a_right a_height a_size a_element a_listMark a_listFree a_path a_turns a_stack a_other a_gathered a_worth a_spareKey a_spareValue a_low a_high a_before a_behind : Nat → Int32} {a_total : Nat → Int64}
variable {F : Nat → Prop} {h : LH}
theorem xl_elementAt5 {post : Int32 → Prop} : ∀ (N : Nat) {x : Int32} {k i : Nat} {xs : List Int32}, k < N → pl_L F h x k xs → i < xs.length → xs.length < 1000 → post (xs.getD i 0) → wX_elementAt_5 post f_mapRoom f_listRoom f_depth f_many f_first f_second a_held a_root a_data a_links a_more a_keys a_values a_mapMark a_mapFree h.1 h.2.1 h.2.2.1 h.2.2.2.1 h.2.2.2.2.1 h.2.2.2.2.2 a_listMark a_listFree a_path a_turns a_stack a_other a_gathered a_worth a_spareKey a_spareValue a_low a_high a_before a_behind N x (nI i) := by
  intro N
  induction N with
  | zero => intros; omega
  | succ N ih =>
    intro x k i xs hN hx hi hlen hp
    rcases pl_cases hx with ⟨rfl, rfl, rfl⟩ | ⟨n, kl, kr, xl, xr, rfl, hN2, gl, gr⟩
    · exact absurd hi (by simp)
    obtain ⟨n1, n2, n3, n4, n5, n6, n7, n8, n9⟩ := hN2
    have hlx : xs.length = xl.length + 1 + xr.length := by rw [n6]; simp; omega
    refine And.intro (vp_in_nI n1 (by omega)) ?_
    rw [nI_clamp (n := n) (by omega)]
    refine xl_length (pl_at_s gl) (pk_eq i xl.length (fun c => ⟨vp_in_nI n1 (by omega), ?_⟩) (fun c => ⟨vp_in_nI n1 (by omega), ?_⟩))
    · subst c; rw [n6, pl_get0] at hp; exact hp
    · refine xl_length (pl_at_s gl) (pk_le i xl.length (fun c2 => ?_) (fun c2 => ?_))
      · refine br_t rfl (br_t rfl ⟨vp_in_nI n1 (by omega), nm_r (e' := h.1 n) (by rw [nI_clamp (by omega)]) ?_⟩)
        refine ih (k := kl) (by omega) gl (by omega) (by omega) ?_
        rw [n6, pl_get1 (by omega)] at hp; exact hp
      · refine br_f (by decide) ⟨vp_in_nI n1 (by omega), ?_⟩
        rw [nI_clamp (n := n) (by omega)]
        refine xl_length (pl_at_s gl) (nm_r (e' := nI (i - (xl.length + 1))) (by rw [nI_1, pk_sub (by omega)]) (br_f (by decide) ⟨vp_in_nI n1 (by omega), nm_r (e' := h.2.1 n) (by rw [nI_clamp (by omega)]) ?_⟩))
        refine ih (k := kr) (by omega) gr (by omega) (by omega) ?_
        rw [n6, pl_get2 (by omega)] at hp; exact hp
theorem xl_elementAt {post : Int32 → Prop} {x : Int32} {k i : Nat} {xs : List Int32} (hx : pl_L F h x k xs) (hi : i < xs.length) (hlen : xs.length < 1000) (hp : post (xs.getD i 0)) : wpX_elementAt post (f_mapRoom, f_listRoom, f_depth, f_many, f_first, f_second, a_held, a_root, a_data, a_links, a_more, a_keys, a_values, a_mapMark, a_mapFree, h.1, h.2.1, h.2.2.1, h.2.2.2.1, h.2.2.2.2.1, h.2.2.2.2.2, a_listMark, a_listFree, a_path, a_turns, a_stack, a_other, a_gathered, a_worth, a_spareKey, a_spareValue, a_low, a_high, a_before, a_behind) x (nI i) :=
  ⟨k + 1, xl_elementAt5 (k + 1) (by omega) hx hi hlen hp⟩
theorem xl_sumBefore8 {post : Int64 → Prop} : ∀ (N : Nat) {x : Int32} {k i : Nat} {xs : List Int32} {s : Int64}, k < N → pl_L F h x k xs → i ≤ xs.length → xs.length < 1000 → post (s + pl_sum (xs.take i)) → wX_sumBefore_8 post f_mapRoom f_listRoom f_depth f_many f_first f_second a_held a_root a_data a_links a_more a_keys a_values a_mapMark a_mapFree h.1 h.2.1 h.2.2.1 h.2.2.2.1 h.2.2.2.2.1 h.2.2.2.2.2 a_listMark a_listFree a_path a_turns a_stack a_other a_gathered a_worth a_spareKey a_spareValue a_low a_high a_before a_behind N s x (nI i) := by
  intro N
  induction N with
  | zero => intros; omega
  | succ N ih =>
    intro x k i xs s hN hx hi hlen hp
    rcases pl_cases hx with ⟨rfl, rfl, rfl⟩ | ⟨n, kl, kr, xl, xr, rfl, hN2, gl, gr⟩
    · refine br_t ps_m1lt ?_
      simp only [List.take_nil, pl_sum, Int64.add_zero] at hp; exact hp
    obtain ⟨n1, n2, n3, n4, n5, n6, n7, n8, n9⟩ := hN2
    have hlx : xs.length = xl.length + 1 + xr.length := by rw [n6]; simp; omega
    refine br_f (nI_pos (by omega)) (pk_le i 0 (fun c => ?_) (fun c => ⟨vp_in_nI n1 (by omega), nm_r (e' := h.1 n) (by rw [nI_clamp (by omega)]) ?_⟩))
    · have e : i = 0 := by omega
      subst e
      simp only [List.take_zero, pl_sum, Int64.add_zero] at hp; exact hp
    · refine xl_length (pl_at_s gl) (pk_lt xl.length i (fun c2 => ⟨vp_in_nI n1 (by omega), ?_⟩) (fun c2 => ?_))
      · have go : wX_sumBefore_70 post (wX_sumBefore_8 post f_mapRoom f_listRoom f_depth f_many f_first f_second a_held a_root a_data a_links a_more a_keys a_values a_mapMark a_mapFree h.1 h.2.1 h.2.2.1 h.2.2.2.1 h.2.2.2.2.1 h.2.2.2.2.2 a_listMark a_listFree a_path a_turns a_stack a_other a_gathered a_worth a_spareKey a_spareValue a_low a_high a_before a_behind N) (nI n) (nI i) (h.1 n) (pl_sum xl) (h.2.2.2.2.1 n).toInt64 s f_mapRoom f_listRoom f_depth f_many f_first f_second a_held a_root a_data a_links a_more a_keys a_values a_mapMark a_mapFree h.1 h.2.1 h.2.2.1 h.2.2.2.1 h.2.2.2.2.1 h.2.2.2.2.2 a_listMark a_listFree a_path a_turns a_stack a_other a_gathered a_worth a_spareKey a_spareValue a_low a_high a_before a_behind := by
          refine nm_e (xl_length (pl_at_s gl) (nm_r (e' := nI (i - (xl.length + 1))) (by rw [nI_1, pk_sub (by omega)]) ⟨vp_in_nI n1 (by omega), nm_r (e' := h.2.1 n) (by rw [nI_clamp (by omega)]) ?_⟩))
          refine ih (k := kr) (by omega) gr (by omega) (by omega) ?_
          rw [n6, (pl_take2 c2).1, pl_sum_app, pl_sum] at hp
          have e : s + ((h.2.2.2.2.1 n).toInt64 + pl_sum xl) + pl_sum (List.take (i - (xl.length + 1)) xr) = s + (pl_sum xl + ((h.2.2.2.2.1 n).toInt64 + pl_sum (List.take (i - (xl.length + 1)) xr))) := by
            generalize (h.2.2.2.2.1 n).toInt64 = a; generalize pl_sum xl = b; generalize pl_sum (List.take (i - (xl.length + 1)) xr) = c
            rw [Int64.add_assoc, Int64.add_comm a b, Int64.add_assoc]
          rw [e]; exact hp
        rw [nI_clamp (n := n) (by omega)]
        rcases pl_tt_s gl with ⟨e1, e2⟩ | ⟨m, hm, e1, e2⟩
        · rw [e2] at go
          exact br_f (by rw [e1]; exact ps_m1nle) go
        · refine br_t (by rw [e1]; exact nI_pos' (by omega)) ⟨by rw [e1]; exact vp_in_nI hm (by omega), ?_⟩
          have e3 : h.2.2.2.2.2 (h.1 n).toNatClampNeg = pl_sum xl := by rw [e1, nI_clamp (by omega)]; exact e2
          rw [e3]; exact go
      · refine ih (k := kl) (by omega) gl (by omega) (by omega) ?_
        rw [n6, (pl_take1 c2).1] at hp; exact hp
theorem xl_sumBefore {post : Int64 → Prop} {x : Int32} {k i : Nat} {xs : List Int32} (hx : pl_L F h x k xs) (hi : i ≤ xs.length) (hlen : xs.length < 1000) (hp : post (pl_sum (xs.take i))) : wpX_sumBefore post (f_mapRoom, f_listRoom, f_depth, f_many, f_first, f_second, a_held, a_root, a_data, a_links, a_more, a_keys, a_values, a_mapMark, a_mapFree, h.1, h.2.1, h.2.2.1, h.2.2.2.1, h.2.2.2.2.1, h.2.2.2.2.2, a_listMark, a_listFree, a_path, a_turns, a_stack, a_other, a_gathered, a_worth, a_spareKey, a_spareValue, a_low, a_high, a_before, a_behind) x (nI i) :=
  ⟨k + 1, xl_sumBefore8 (k + 1) (by omega) hx hi hlen (by rw [Int64.zero_add]; exact hp)⟩
end
section
variable {f_mapRoom f_listRoom f_depth f_many f_first f_second : Int32} {a_held a_root a_data a_links a_more a_keys a_values a_mapMark a_mapFree a_left a_right a_height a_size a_element a_listMark a_listFree a_path a_turns a_stack a_other a_gathered a_worth a_spareKey a_spareValue a_low a_high a_before a_behind : Nat → Int32} {a_total : Nat → Int64}
variable {F : Nat → Prop} {h : LH}
theorem xl_spread17 {post : SX → Prop} {J : Int32 → Int32 → Int32 → (Nat → Int32) → (Nat → Int32) → (Nat → Int32) → (Nat → Int32) → (Nat → Int32) → (Nat → Int32) → (Nat → Int32) → (Nat → Int32) → (Nat → Int32) → (Nat → Int32) → (Nat → Int32) → (Nat → Int32) → (Nat → Int32) → (Nat → Int32) → (Nat → Int64) → (Nat → Int32) → (Nat → Int32) → (Nat → Int32) → (Nat → Int32) → (Nat → Int32) → (Nat → Int32) → (Nat → Int32) → (Nat → Int32) → (Nat → Int32) → (Nat → Int32) → (Nat → Int32) → (Nat → Int32) → (Nat → Int32) → (Nat → Int32) → Prop} {m : Nat} {g : Nat → Int32} (hm : m < 64) :
    ∀ (N : Nat) {t k : Nat} {x : Int32} {ys pd : List Int32} {st : Nat → Int32}, k < N → pl_L F h x k ys → pl_P F h st t pd → ys ++ pd ≠ [] → t + k ≤ 700 →
    (∀ t' x' k' ys' st' pd' e, ys ++ pd = e :: (ys' ++ pd') → pl_P F h st' t' pd' → pl_L F h x' k' ys' → J (nI t') x' (nI (m + 1)) a_held a_root a_data a_links a_more a_keys a_values a_mapMark a_mapFree h.1 h.2.1 h.2.2.1 h.2.2.2.1 h.2.2.2.2.1 h.2.2.2.2.2 a_listMark a_listFree a_path a_turns st' a_other (upd g m e) a_worth a_spareKey a_spareValue a_low a_high a_before a_behind) →
    wX_spread_17 post J f_mapRoom f_listRoom f_depth (nI m) f_first f_second N (nI t) x a_held a_root a_data a_links a_more a_keys a_values a_mapMark a_mapFree h.1 h.2.1 h.2.2.1 h.2.2.2.1 h.2.2.2.2.1 h.2.2.2.2.2 a_listMark a_listFree a_path a_turns st a_other g a_worth a_spareKey a_spareValue a_low a_high a_before a_behind := by
  intro N
  induction N with
  | zero => intros; omega
  | succ N ih =>
    intro t k x ys pd st hN hx hP hne htk hp
    rcases pl_cases hx with ⟨rfl, rfl, rfl⟩ | ⟨n, kl, kr, xl, xr, rfl, hN2, gl, gr⟩
    · cases t with
      | zero =>
        have e2 : pd = [] := hP
        subst e2
        exact absurd rfl hne
      | succ t =>
        obtain ⟨n, kr, xr, rest, n1, eo, n2, hr, e, hP⟩ := hP
        refine br_t ps_m1lt (nm_r (pk_m1 t) ⟨vp_in_nI (by omega) (by omega), nm_r (e' := nI n) (by rw [nI_clamp (by omega)]; exact eo) (nm_r (nI_1 m) ⟨vp_in_nI n1 (by omega), vp_in_nI hm (by omega), nm_r (e' := upd g m (h.2.2.2.2.1 n)) (by rw [nI_clamp (by omega), nI_clamp (by omega)]) ⟨vp_in_nI n1 (by omega), nm_r (e' := h.2.1 n) (by rw [nI_clamp (by omega)]) ?_⟩⟩)⟩)
        exact hp t _ kr xr st rest _ e hP hr
    · obtain ⟨n1, n2, n3, n4, n5, n6, n7, n8, n9⟩ := hN2
      refine br_f (nI_pos (by omega)) (nm_r (nI_1 t) ⟨vp_in_nI (by omega) (by omega), nm_r (e' := upd st t (nI n)) (by rw [nI_clamp (by omega), ps_ss (by omega)]) ⟨vp_in_nI n1 (by omega), nm_r (e' := h.1 n) (by rw [nI_clamp (by omega)]) ?_⟩⟩)
      refine ih (t := t + 1) (pd := h.2.2.2.2.1 n :: (xr ++ pd)) (by omega) gl ⟨n, kr, xr, pd, n1, pk_us, n2, gr, rfl, pl_P_c (fun i hi => pk_un (by omega)) hP⟩ (by simp) (by omega) ?_
      intro t' x' k' ys' st' pd' e he
      exact hp t' x' k' ys' st' pd' e (by rw [← he, n6]; simp)
theorem xl_spread9 {post : SX → Prop} : ∀ (N : Nat) {t k : Nat} {x : Int32} {ys pd dn : List Int32} {st g : Nat → Int32}, ys.length + pd.length < N → pl_L F h x k ys → pl_P F h st t pd →
    dn.length + ys.length + pd.length ≤ 64 → ps_A g dn →
    (∀ g' st', ps_A g' (dn ++ (ys ++ pd)) → post (f_mapRoom, f_listRoom, f_depth, nI (dn ++ (ys ++ pd)).length, f_first, f_second, a_held, a_root, a_data, a_links, a_more, a_keys, a_values, a_mapMark, a_mapFree, h.1, h.2.1, h.2.2.1, h.2.2.2.1, h.2.2.2.2.1, h.2.2.2.2.2, a_listMark, a_listFree, a_path, a_turns, st', a_other, g', a_worth, a_spareKey, a_spareValue, a_low, a_high, a_before, a_behind)) →
    wX_spread_9 post f_mapRoom f_listRoom f_depth f_first f_second N (nI t) x (nI dn.length) a_held a_root a_data a_links a_more a_keys a_values a_mapMark a_mapFree h.1 h.2.1 h.2.2.1 h.2.2.2.1 h.2.2.2.2.1 h.2.2.2.2.2 a_listMark a_listFree a_path a_turns st a_other g a_worth a_spareKey a_spareValue a_low a_high a_before a_behind := by
  intro N
  induction N with
  | zero => intros; omega
  | succ N ih =>
    intro t k x ys pd dn st g hN hx hP hlen hg hp
    have q1 := pl_kl hx
    have q2 := pl_P_l hP
    have go : ys ++ pd ≠ [] → ∃ n17, wX_spread_17 post (wX_spread_9 post f_mapRoom f_listRoom f_depth f_first f_second N) f_mapRoom f_listRoom f_depth (nI dn.length) f_first f_second n17 (nI t) x a_held a_root a_data a_links a_more a_keys a_values a_mapMark a_mapFree h.1 h.2.1 h.2.2.1 h.2.2.2.1 h.2.2.2.2.1 h.2.2.2.2.2 a_listMark a_listFree a_path a_turns st a_other g a_worth a_spareKey a_spareValue a_low a_high a_before a_behind := by
      intro hne
      have hpos : 0 < ys.length + pd.length := by
        rw [← List.length_append]; exact List.length_pos_iff.mpr hne
      refine ⟨k + 1, xl_spread17 (by omega) (k + 1) (by omega) hx hP hne (by omega) ?_⟩
      intro t' x' k' ys' st' pd' e he hP' hx'
      have hl2 : ys.length + pd.length = ys'.length + pd'.length + 1 := by
        rw [← List.length_append, he, List.length_cons, List.length_append]
      have hl3 : (dn ++ [e]).length = dn.length + 1 := by simp
      have K := ih (dn := dn ++ [e]) (g := upd g dn.length e) (by omega) hx' hP' (by omega) (ps_Ap hg) ?_
      · rw [hl3] at K; exact K
      · intro g' st3 hA
        have e2 : dn ++ [e] ++ (ys' ++ pd') = dn ++ (ys ++ pd) := by rw [he]; simp
        rw [e2] at hA ⊢
        exact hp g' st3 hA
    rcases pl_cases hx with ⟨rfl, rfl, rfl⟩ | ⟨n, kl, kr, xl, xr, rfl, hN2, gl, gr⟩
    · refine br_f ps_m1nle (pk_le t 0 (fun c => ?_) (fun c => go ?_))
      · have e : t = 0 := by omega
        subst e
        have e2 : pd = [] := hP
        subst e2
        have K := hp g st (by simpa using hg)
        simp only [List.append_nil] at K
        exact K
      · intro z
        have : pd.length = 0 := by rw [List.nil_append] at z; rw [z]; rfl
        omega
    · refine br_t (nI_pos' (by have := hN2.1; omega)) (go ?_)
      rw [hN2.2.2.2.2.2.1]; simp
theorem xl_spread {post : SX → Prop} {x : Int32} {k : Nat} {xs : List Int32} (hx : pl_L F h x k xs) (hl : xs.length ≤ 64)
    (hp : ∀ g' st', ps_A g' xs → post (f_mapRoom, f_listRoom, f_depth, nI xs.length, f_first, f_second, a_held, a_root, a_data, a_links, a_more, a_keys, a_values, a_mapMark, a_mapFree, h.1, h.2.1, h.2.2.1, h.2.2.2.1, h.2.2.2.2.1, h.2.2.2.2.2, a_listMark, a_listFree, a_path, a_turns, st', a_other, g', a_worth, a_spareKey, a_spareValue, a_low, a_high, a_before, a_behind)) : wpX_spread post (f_mapRoom, f_listRoom, f_depth, f_many, f_first, f_second, a_held, a_root, a_data, a_links, a_more, a_keys, a_values, a_mapMark, a_mapFree, h.1, h.2.1, h.2.2.1, h.2.2.2.1, h.2.2.2.2.1, h.2.2.2.2.2, a_listMark, a_listFree, a_path, a_turns, a_stack, a_other, a_gathered, a_worth, a_spareKey, a_spareValue, a_low, a_high, a_before, a_behind) x := by
  refine ⟨xs.length + 1, xl_spread9 (t := 0) (dn := []) (pd := []) (xs.length + 1) (by simp) hx rfl (by simpa using hl) ps_A0 ?_⟩
  intro g' st' hA
  simp only [List.nil_append, List.append_nil] at hA ⊢
  exact hp g' st' hA
end
end
section
/-! treeOf: a balanced tree of what is gathered -/
def un (f : Nat → Nat) (k x : Nat) : Nat → Nat := fun j => if j = k then x else f j
theorem un_s {f : Nat → Nat} {k x : Nat} : un f k x k = x := if_pos rfl
theorem un_n {f : Nat → Nat} {k x j : Nat} (h : j ≠ k) : un f k x j = f j := if_neg h
def pl_hb (n : Nat) : Nat := if n = 0 then 0 else Nat.log2 n + 1
theorem pl_hb_b : ∀ n, n < 65 → 1 ≤ n → pl_hb (n / 2) ≤ pl_hb (n - 1 - n / 2) + 1 ∧ pl_hb (n - 1 - n / 2) ≤ pl_hb (n / 2) + 1 ∧ max (pl_hb (n / 2)) (pl_hb (n - 1 - n / 2)) + 1 = pl_hb n := by
  decide +kernel
def pl_seg (ws : List Int32) (lo hi : Nat) : List Int32 := (ws.drop lo).take (hi - lo)
theorem pl_seg_len {ws : List Int32} {lo hi : Nat} (h : hi ≤ ws.length) : (pl_seg ws lo hi).length = hi - lo := by
  unfold pl_seg; rw [List.length_take, List.length_drop]; omega
theorem pl_seg_0 (ws : List Int32) : pl_seg ws 0 ws.length = ws := by
  unfold pl_seg; rw [List.drop_zero, Nat.sub_zero, List.take_length]
theorem pl_seg_e {ws : List Int32} {lo hi : Nat} (h : hi ≤ lo) : pl_seg ws lo hi = [] := by
  unfold pl_seg; rw [Nat.sub_eq_zero_of_le h, List.take_zero]
theorem pl_seg_c {ws : List Int32} {lo mid hi : Nat} (h1 : lo ≤ mid) (h2 : mid < hi) (h3 : hi ≤ ws.length) :
    pl_seg ws lo hi = pl_seg ws lo mid ++ ws.getD mid 0 :: pl_seg ws (mid + 1) hi := by
  apply List.ext_getElem?
  intro i
  have l1 := pl_seg_len (ws := ws) (lo := lo) (hi := mid) (by omega)
  unfold pl_seg at l1 ⊢
  rw [List.getElem?_append, l1, List.getElem?_take, List.getElem?_take, List.getElem?_drop]
  by_cases c : i < mid - lo
  · rw [if_pos c, if_pos (by omega), if_pos c]
  · rw [if_neg c]
    obtain ⟨j, rfl⟩ : ∃ j, i = mid - lo + j := ⟨i - (mid - lo), by omega⟩
    rw [Nat.add_sub_cancel_left]
    cases j with
    | zero =>
      rw [List.getElem?_cons_zero, if_pos (by omega), List.getD_eq_getElem?_getD]
      have e : lo + (mid - lo + 0) = mid := by omega
      rw [e, List.getElem?_eq_getElem (by omega)]; rfl
    | succ j =>
      rw [List.getElem?_cons_succ, List.getElem?_take, List.getElem?_drop]
      have e : lo + (mid - lo + (j + 1)) = mid + 1 + j := by omega
      rw [e]
      by_cases c2 : j < hi - (mid + 1)
      · rw [if_pos (by omega), if_pos c2]
      · rw [if_neg (by omega), if_neg c2]
/-- the sum of d terms from k on -/
def pl_S (f : Nat → Nat) : Nat → Nat → Nat
  | _, 0 => 0
  | k, d + 1 => f k + pl_S f (k + 1) d
theorem pl_S_e (f : Nat → Nat) : ∀ d k, pl_S f k (d + 1) = pl_S f k d + f (k + d) := by
  intro d
  induction d with
  | zero => intro k; simp [pl_S]
  | succ d ih =>
    intro k
    rw [pl_S, ih (k + 1), pl_S]
    have e : k + 1 + d = k + (d + 1) := by omega
    rw [e]; omega
theorem pl_S_c {f g : Nat → Nat} : ∀ d k, (∀ j, k ≤ j → j < k + d → f j = g j) → pl_S f k d = pl_S g k d := by
  intro d
  induction d with
  | zero => intros; rfl
  | succ d ih =>
    intro k h
    rw [pl_S, pl_S, h k (by omega) (by omega), ih (k + 1) (fun j h1 h2 => h j (by omega) (by omega))]
theorem pl_S_1 {f : Nat → Nat} : ∀ d k, (∀ j, k ≤ j → j < k + d → 1 ≤ f j) → d ≤ pl_S f k d := by
  intro d
  induction d with
  | zero => intros; omega
  | succ d ih =>
    intro k h
    rw [pl_S]
    have := h k (by omega) (by omega)
    have := ih (k + 1) (fun j h1 h2 => h j (by omega) (by omega))
    omega
/-- the ranges: q of them -/
def pl_R (m : Nat) (lo hi : Nat → Nat) (al ah : Nat → Int32) (q : Nat) : Prop :=
  lo 0 = 0 ∧ hi 0 = m ∧ ∀ j, j < q → al j = nI (lo j) ∧ ah j = nI (hi j) ∧ lo j < hi j ∧ hi j ≤ m
theorem pl_R_p {m q l u : Nat} {lo hi : Nat → Nat} {al ah : Nat → Int32} (h : pl_R m lo hi al ah q) (hq : 1 ≤ q) (h1 : l < u) (h2 : u ≤ m) :
    pl_R m (un lo q l) (un hi q u) (upd al q (nI l)) (upd ah q (nI u)) (q + 1) := by
  refine ⟨by rw [un_n (by omega)]; exact h.1, by rw [un_n (by omega)]; exact h.2.1, fun j hj => ?_⟩
  by_cases c : j = q
  · subst c; rw [un_s, un_s, pk_us, pk_us]; exact ⟨rfl, rfl, h1, h2⟩
  · rw [un_n c, un_n c, pk_un c, pk_un c]; exact h.2.2 j (by omega)
/-- range j leads to c, or to nothing -/
def pl_Q (lo hi : Nat → Nat) (q j l u : Nat) (x : Int32) : Prop :=
  (l < u ∧ ∃ c, j < c ∧ c < q ∧ x = nI c ∧ lo c = l ∧ hi c = u) ∨ (u ≤ l ∧ x = -1)
theorem pl_Q_p {q j l u l' u' : Nat} {lo hi : Nat → Nat} {x : Int32} (h : pl_Q lo hi q j l u x) : pl_Q (un lo q l') (un hi q u') (q + 1) j l u x := by
  rcases h with ⟨a, c, h1, h2, h3, h4, h5⟩ | h
  · exact Or.inl ⟨a, c, h1, by omega, h3, by rw [un_n (by omega)]; exact h4, by rw [un_n (by omega)]; exact h5⟩
  · exact Or.inr h
def pl_D (lo hi : Nat → Nat) (bf bh : Nat → Int32) (q j : Nat) : Prop :=
  pl_Q lo hi q j (lo j) ((lo j + hi j) / 2) (bf j) ∧ pl_Q lo hi q j ((lo j + hi j) / 2 + 1) (hi j) (bh j)
theorem pl_D_p {q j l u : Nat} {lo hi : Nat → Nat} {bf bh : Nat → Int32} (hj : j < q) (h : pl_D lo hi bf bh q j) : pl_D (un lo q l) (un hi q u) bf bh (q + 1) j := by
  unfold pl_D
  rw [un_n (by omega), un_n (by omega)]
  exact ⟨pl_Q_p h.1, pl_Q_p h.2⟩
section
variable {f_mapRoom f_listRoom f_depth f_many f_first f_second : Int32} {a_held a_root a_data a_links a_more a_keys a_values a_mapMark a_mapFree a_left a_right a_height a_size a_element a_listMark a_listFree a_path a_turns a_stack a_other a_gathered a_worth a_spareKey a_spareValue a_low a_high a_before a_behind : Nat → Int32} {a_total : Nat → Int64}
variable {post : Int32 → SX → Prop} {fr : Nat → Int32} {m q : Nat} {lo hi : Nat → Nat} {ws : List Int32} {tn : Int32}
/-- the second loop: nodes from the last range to the first -/
theorem xl_tree167 (hm : m ≤ 64) (hq : q ≤ m) (hw : ws.length = m) (hg : ∀ i, i < m → a_gathered (if tn = 0 then i else m - 1 - i) = ws.getD i 0) (hR : pl_R m lo hi a_low a_high q)
    (hD : ∀ j, j < q → pl_D lo hi a_before a_behind q j) (h1 : 1 ≤ q) : ∀ (k : Nat) {N R : Nat} {h : LH} {o : Nat → Int32}, k < N → k ≤ q → ps_I fr 640 R → k ≤ R →
    (∀ j, k ≤ j → j < q → pl_L (ps_F fr R) h (o j) (pl_hb (hi j - lo j)) (pl_seg ws (lo j) (hi j))) →
    (∀ x h' r' o', R ≤ r' + k → r' ≤ R → pl_X (ps_F fr R) h (ps_F fr r') h' → pl_L (ps_F fr r') h' x (pl_hb m) ws → post x (f_mapRoom, nI r', f_depth, nI m, f_first, f_second, a_held, a_root, a_data, a_links, a_more, a_keys, a_values, a_mapMark, a_mapFree, h'.1, h'.2.1, h'.2.2.1, h'.2.2.2.1, h'.2.2.2.2.1, h'.2.2.2.2.2, a_listMark, fr, a_path, a_turns, a_stack, o', a_gathered, a_worth, a_spareKey, a_spareValue, a_low, a_high, a_before, a_behind)) →
    wX_treeOf_167 post tn N (nI k - 1) f_mapRoom (nI R) f_depth (nI m) f_first f_second a_held a_root a_data a_links a_more a_keys a_values a_mapMark a_mapFree h.1 h.2.1 h.2.2.1 h.2.2.2.1 h.2.2.2.2.1 h.2.2.2.2.2 a_listMark fr a_path a_turns a_stack o a_gathered a_worth a_spareKey a_spareValue a_low a_high a_before a_behind := by
  intro k
  induction k with
  | zero =>
    intro N R h o hN _ hI _ hL hp
    cases N with
    | zero => omega
    | succ N =>
      refine br_t (by decide) ?_
      have K := hL 0 (by omega) (by omega)
      rw [hR.1, hR.2.1, Nat.sub_zero, ← hw, pl_seg_0, hw] at K
      exact hp _ h R o (by omega) (by omega) pl_X_r K
  | succ k ih =>
    intro N R h o hN hk hI hkR hL hp
    obtain ⟨r0, rfl⟩ : ∃ r0, R = r0 + 1 := ⟨R - 1, by omega⟩
    obtain ⟨e1, e2, c1, c2⟩ := hR.2.2 k (by omega)
    obtain ⟨d1, d2⟩ := hD k (by omega)
    have hmid : (lo k + hi k) / 2 - lo k = (hi k - lo k) / 2 ∧ hi k - ((lo k + hi k) / 2 + 1) = (hi k - lo k) - 1 - (hi k - lo k) / 2 ∧ lo k ≤ (lo k + hi k) / 2 ∧ (lo k + hi k) / 2 < hi k := by omega
    obtain ⟨b1, b2, b3⟩ := pl_hb_b (hi k - lo k) (by omega) (by omega)
    have hmin : ∀ l u x, pl_Q lo hi q k l u x → ∃ y, (x = -1 ∧ y = -1 ∨ ∃ c, c < q ∧ x = nI c ∧ y = o c) ∧ pl_L (ps_F fr (r0 + 1)) h y (pl_hb (u - l)) (pl_seg ws l u) := by
      intro l u x hQ
      rcases hQ with ⟨a, c, h1, h2, h3, h4, h5⟩ | ⟨a, h3⟩
      · have K := hL c (by omega) h2
        rw [h4, h5] at K
        exact ⟨o c, Or.inr ⟨c, h2, h3, rfl⟩, K⟩
      · refine ⟨-1, Or.inl ⟨h3, rfl⟩, ?_⟩
        rw [Nat.sub_eq_zero_of_le a, pl_seg_e a]; exact pl_nil
    obtain ⟨y1, f1, L1⟩ := hmin _ _ _ d1
    obtain ⟨y2, f2, L2⟩ := hmin _ _ _ d2
    have l1 := pl_seg_len (ws := ws) (lo := lo k) (hi := (lo k + hi k) / 2) (by omega)
    have l2 := pl_seg_len (ws := ws) (lo := (lo k + hi k) / 2 + 1) (hi := hi k) (by omega)
    rw [hmid.1] at L1
    rw [hmid.2.1] at L2
    cases N with
    | zero => omega
    | succ N =>
      rw [nI_pred]
      have last : ∀ z0 : Int32, z0 = nI (if tn = 0 then (lo k + hi k) / 2 else m - 1 - (lo k + hi k) / 2) → wX_treeOf_272 post (wX_treeOf_167 post tn N) tn (nI k) y2 z0 y1 (nI k) f_mapRoom (nI (r0 + 1)) f_depth (nI m) f_first f_second a_held a_root a_data a_links a_more a_keys a_values a_mapMark a_mapFree h.1 h.2.1 h.2.2.1 h.2.2.2.1 h.2.2.2.2.1 h.2.2.2.2.2 a_listMark fr a_path a_turns a_stack o a_gathered a_worth a_spareKey a_spareValue a_low a_high a_before a_behind := by
        rintro z0 rfl
        have hb : (if tn = 0 then (lo k + hi k) / 2 else m - 1 - (lo k + hi k) / 2) < 64 := by split <;> omega
        refine And.intro (vp_in_nI hb (by omega)) ?_
        rw [nI_clamp (n := if tn = 0 then (lo k + hi k) / 2 else m - 1 - (lo k + hi k) / 2) (by omega), hg ((lo k + hi k) / 2) (by omega)]
        refine xl_node hI L1 L2 b1 b2 (by omega) (fun x h' X L => ?_)
        refine ⟨vp_in_nI (by omega) (by omega), nm_r (e' := upd o k x) (by rw [nI_clamp (by omega), ps_oss (by omega) (pl_o L)]) (nm_r (e' := nI k - 1) (by rw [Int32.sub_eq_add_neg]) ?_)⟩
        rw [b3, ← pl_seg_c hmid.2.2.1 hmid.2.2.2 (by omega)] at L
        refine ih (by omega) (by omega) (ps_Im (by omega) hI) (by omega) ?_ ?_
        · intro j j1 j2
          by_cases c : j = k
          · subst c; rw [pk_us]; exact L
          · rw [pk_un c]; exact pl_mono X (hL j (by omega) j2)
        · intro x3 h3 r3 o3 g1 g2 X3 L3
          exact hp x3 h3 r3 o3 (by omega) (by omega) (pl_X_t X X3) L3
      have mid : wX_treeOf_240 post (wX_treeOf_167 post tn N) tn (nI k) (nI ((lo k + hi k) / 2)) y1 y2 f_mapRoom (nI (r0 + 1)) f_depth (nI m) f_first f_second a_held a_root a_data a_links a_more a_keys a_values a_mapMark a_mapFree h.1 h.2.1 h.2.2.1 h.2.2.2.1 h.2.2.2.2.1 h.2.2.2.2.2 a_listMark fr a_path a_turns a_stack o a_gathered a_worth a_spareKey a_spareValue a_low a_high a_before a_behind := by
        refine br_c (fun c => last _ (by rw [if_pos c])) (fun c => last _ ?_)
        rw [if_neg c, show (1 : Int32) = nI 1 from by decide, pk_sub (by omega), pk_sub (by omega)]
      have beh : wX_treeOf_213 post (wX_treeOf_167 post tn N) tn (nI k) (nI ((lo k + hi k) / 2)) y1 f_mapRoom (nI (r0 + 1)) f_depth (nI m) f_first f_second a_held a_root a_data a_links a_more a_keys a_values a_mapMark a_mapFree h.1 h.2.1 h.2.2.1 h.2.2.2.1 h.2.2.2.2.1 h.2.2.2.2.2 a_listMark fr a_path a_turns a_stack o a_gathered a_worth a_spareKey a_spareValue a_low a_high a_before a_behind := by
        refine And.intro (vp_in_nI (by omega) (by omega)) ?_
        rw [nI_clamp (n := k) (by omega)]
        rcases f2 with ⟨f3, rfl⟩ | ⟨c, f3, f4, rfl⟩
        · rw [f3]; exact br_t rfl mid
        · rw [f4]
          refine br_f (fun z => ps_m1ne (by omega) z.symm) ⟨vp_in_nI (by omega) (by omega), vp_in_nI (by omega) (by omega), ?_⟩
          rw [nI_clamp (n := c) (by omega)]; exact mid
      refine br_f (nI_pos (by omega)) ⟨vp_in_nI (by omega) (by omega), vp_in_nI (by omega) (by omega), by decide, nm_r (e' := nI ((lo k + hi k) / 2)) ?_ ⟨vp_in_nI (by omega) (by omega), ?_⟩⟩
      · rw [nI_clamp (by omega), e1, e2, nI_add]; exact pk_div (d := 2) (by omega) (by omega) (by omega)
      · rw [nI_clamp (n := k) (by omega)]
        rcases f1 with ⟨f3, rfl⟩ | ⟨c, f3, f4, rfl⟩
        · rw [f3]; exact br_t rfl beh
        · rw [f4]
          refine br_f (fun z => ps_m1ne (by omega) z.symm) ⟨vp_in_nI (by omega) (by omega), vp_in_nI (by omega) (by omega), ?_⟩
          rw [nI_clamp (n := c) (by omega)]; exact beh
end
section
variable {f_mapRoom f_listRoom f_depth f_many f_first f_second : Int32} {a_held a_root a_data a_links a_more a_keys a_values a_mapMark a_mapFree a_left a_right a_height a_size a_element a_listMark a_listFree a_path a_turns a_stack a_other a_gathered a_worth a_spareKey a_spareValue a_low a_high a_before a_behind : Nat → Int32} {a_total : Nat → Int64}
variable {post : Int32 → SX → Prop} {fr : Nat → Int32} {m : Nat} {ws : List Int32} {tn : Int32} {R : Nat} {h : LH}
/-- the first loop: ranges from the whole to the single ones -/
theorem xl_tree31 (hm : m ≤ 64) (hm1 : 1 ≤ m) (hw : ws.length = m) (hg : ∀ i, i < m → a_gathered (if tn = 0 then i else m - 1 - i) = ws.getD i 0) (hI : ps_I fr 640 R) (hR : m ≤ R)
    (hp : ∀ x h' r' o' al ah bf bh, R ≤ r' + m → r' ≤ R → pl_X (ps_F fr R) h (ps_F fr r') h' → pl_L (ps_F fr r') h' x (pl_hb m) ws → post x (f_mapRoom, nI r', f_depth, nI m, f_first, f_second, a_held, a_root, a_data, a_links, a_more, a_keys, a_values, a_mapMark, a_mapFree, h'.1, h'.2.1, h'.2.2.1, h'.2.2.2.1, h'.2.2.2.2.1, h'.2.2.2.2.2, a_listMark, fr, a_path, a_turns, a_stack, o', a_gathered, a_worth, a_spareKey, a_spareValue, al, ah, bf, bh)) :
    ∀ (N : Nat) {k q : Nat} {lo hi : Nat → Nat} {al ah bf bh : Nat → Int32}, m < N + k → k ≤ q → 1 ≤ q → pl_R m lo hi al ah q → k + pl_S (fun j => hi j - lo j) k (q - k) = m →
    (∀ j, j < k → pl_D lo hi bf bh q j) →
    wX_treeOf_31 post tn f_mapRoom (nI R) f_depth (nI m) f_first f_second N (nI q) (nI k) a_held a_root a_data a_links a_more a_keys a_values a_mapMark a_mapFree h.1 h.2.1 h.2.2.1 h.2.2.2.1 h.2.2.2.2.1 h.2.2.2.2.2 a_listMark fr a_path a_turns a_stack a_other a_gathered a_worth a_spareKey a_spareValue al ah bf bh := by
  intro N
  induction N with
  | zero =>
    intro k q lo hi al ah bf bh hN hk hq hRg hS hD
    omega
  | succ N ih =>
    intro k q lo hi al ah bf bh hN hk hq hRg hS hD
    have hcnt : q ≤ m := by
      have := pl_S_1 (f := fun j => hi j - lo j) (q - k) k (fun j h1 h2 => by have := (hRg.2.2 j (by omega)).2.2.1; show 1 ≤ hi j - lo j; omega)
      omega
    refine pk_le q k (fun c => ?_) (fun c => ?_)
    · have e : k = q := by omega
      subst e
      refine nm_e ⟨k + 1, xl_tree167 hm hcnt hw hg hRg hD hq k (by omega) (by omega) hI (by omega) (fun j h1 h2 => by omega) ?_⟩
      intro x h' r' o' g1 g2 X L
      exact hp x h' r' o' al ah bf bh (by omega) g2 X L
    · obtain ⟨e1, e2, c1, c2⟩ := hRg.2.2 k c
      obtain ⟨d, hd⟩ : ∃ d, q - k = d + 1 := ⟨q - k - 1, by omega⟩
      rw [hd, pl_S] at hS
      have hsm : (hi k - lo k) + pl_S (fun j => hi j - lo j) (k + 1) d + k = m := by
        have : (fun j => hi j - lo j) k = hi k - lo k := rfl
        omega
      have hq' : q = k + 1 + d := by omega
      -- the second half, for any q
      have half : ∀ {q' : Nat} {lo' hi' : Nat → Nat} {al' ah' bf' bh' : Nat → Int32}, q ≤ q' → q' ≤ q + 1 → pl_R m lo' hi' al' ah' q' → lo' k = lo k → hi' k = hi k →
          pl_S (fun j => hi' j - lo' j) (k + 1) (q' - (k + 1)) = pl_S (fun j => hi j - lo j) (k + 1) d + ((lo k + hi k) / 2 - lo k) →
          (∀ j, j < k → pl_D lo' hi' bf' bh' q' j) → pl_Q lo' hi' q' k (lo k) ((lo k + hi k) / 2) (bf' k) → bh' k = -1 →
          wX_treeOf_110 post (wX_treeOf_31 post tn f_mapRoom (nI R) f_depth (nI m) f_first f_second N) tn (nI q') (nI k) (nI ((lo k + hi k) / 2)) f_mapRoom (nI R) f_depth (nI m) f_first f_second a_held a_root a_data a_links a_more a_keys a_values a_mapMark a_mapFree h.1 h.2.1 h.2.2.1 h.2.2.2.1 h.2.2.2.2.1 h.2.2.2.2.2 a_listMark fr a_path a_turns a_stack a_other a_gathered a_worth a_spareKey a_spareValue al' ah' bf' bh' := by
        intro q' lo' hi' al' ah' bf' bh' q1 q2 hR' l1 u1 hS' hD' hQ' hB'
        obtain ⟨e3, e4, c3, c4⟩ := hR'.2.2 k (by omega)
        refine And.intro (vp_in_nI (by omega) (by omega)) ?_
        rw [nI_clamp (n := k) (by omega), e4, u1]
        refine pk_le (hi k) ((lo k + hi k) / 2 + 1) (fun z => ?_) (fun z => ?_) rfl (nI_1 _)
        · refine nm_r (nI_1 k) ?_
          refine ih (k := k + 1) (q := q') (by omega) (by omega) (by omega) hR' (by rw [hS']; omega) ?_
          refine fun j hj => if hjk : j = k then ?_ else hD' j (by omega)
          subst hjk
          unfold pl_D
          rw [l1, u1]
          exact ⟨hQ', Or.inr ⟨by omega, hB'⟩⟩
        · have q3 : q' ≤ 63 := by
            have := pl_S_1 (f := fun j => hi' j - lo' j) (q' - (k + 1)) (k + 1) (fun j h1 h2 => by have := (hR'.2.2 j (by omega)).2.2.1; show 1 ≤ hi' j - lo' j; omega)
            omega
          refine ⟨vp_in_nI (by omega) (by omega), nm_r (e' := upd al' q' (nI ((lo k + hi k) / 2 + 1))) (by rw [nI_clamp (by omega), nI_1, ps_bb (by omega)]) ⟨vp_in_nI (by omega) (by omega), vp_in_nI (by omega) (by omega), nm_r (e' := upd ah' q' (nI (hi k))) (by rw [nI_clamp (by omega), ps_b (by omega)]) (nm_r (nI_1 q') ⟨vp_in_nI (by omega) (by omega), nm_r (e' := upd bh' k (nI q')) (by rw [ps_bb (by omega)]) (nm_r (nI_1 k) ?_)⟩)⟩⟩
          refine ih (k := k + 1) (q := q' + 1) (by omega) (by omega) (by omega) (pl_R_p hR' (by omega) (by omega) (by omega)) ?_ ?_
          · have e5 : q' + 1 - (k + 1) = (q' - (k + 1)) + 1 := by omega
            have e6 : k + 1 + (q' - (k + 1)) = q' := by omega
            rw [e5, pl_S_e, e6]
            have e7 : pl_S (fun j => un hi' q' (hi k) j - un lo' q' ((lo k + hi k) / 2 + 1) j) (k + 1) (q' - (k + 1)) = pl_S (fun j => hi' j - lo' j) (k + 1) (q' - (k + 1)) :=
              pl_S_c _ _ (fun j h1 h2 => by show un hi' q' (hi k) j - un lo' q' ((lo k + hi k) / 2 + 1) j = hi' j - lo' j; rw [un_n (by omega), un_n (by omega)])
            rw [e7, hS']
            show k + 1 + (_ + (un hi' q' (hi k) q' - un lo' q' ((lo k + hi k) / 2 + 1) q')) = m
            rw [un_s, un_s]; omega
          · refine fun j hj => if hjk : j = k then ?_ else ?_
            · subst hjk
              unfold pl_D
              rw [un_n (by omega), un_n (by omega), l1, u1, pk_us]
              exact ⟨pl_Q_p hQ', Or.inl ⟨by omega, q', by omega, by omega, rfl, un_s, un_s⟩⟩
            · have K := pl_D_p (l := (lo k + hi k) / 2 + 1) (u := hi k) (by omega) (hD' j (by omega))
              unfold pl_D at K ⊢
              rw [pk_un hjk]; exact K
      refine ⟨vp_in_nI (by omega) (by omega), vp_in_nI (by omega) (by omega), by decide, nm_r (e' := nI ((lo k + hi k) / 2)) ?_ ⟨vp_in_nI (by omega) (by omega), nm_r (e' := upd bf k (-1)) (by rw [nI_clamp (by omega), ps_bm]) ⟨vp_in_nI (by omega) (by omega), nm_r (e' := upd bh k (-1)) (by rw [nI_clamp (by omega), ps_bm]) ⟨vp_in_nI (by omega) (by omega), ?_⟩⟩⟩⟩
      · rw [nI_clamp (by omega), e1, e2, nI_add]; exact pk_div (d := 2) (by omega) (by omega) (by omega)
      · have hDk : ∀ j, j < k → pl_D lo hi (upd bf k (-1)) (upd bh k (-1)) q j := by
          intro j hj
          have K := hD j hj
          unfold pl_D at K ⊢
          rw [pk_un (by omega), pk_un (by omega)]; exact K
        rw [nI_clamp (n := k) (by omega), e1]
        refine pk_le ((lo k + hi k) / 2) (lo k) (fun z => ?_) (fun z => ?_)
        · exact half (Nat.le_refl _) (by omega) hRg rfl rfl (by rw [show q - (k + 1) = d by omega]; omega) hDk (Or.inr ⟨z, pk_us⟩) pk_us
        · have q3 : q ≤ 63 := by
            have := pl_S_1 (f := fun j => hi j - lo j) d (k + 1) (fun j h1 h2 => by have := (hRg.2.2 j (by omega)).2.2.1; show 1 ≤ hi j - lo j; omega)
            omega
          refine ⟨vp_in_nI (by omega) (by omega), vp_in_nI (by omega) (by omega), nm_r (e' := upd al q (nI (lo k))) (by rw [nI_clamp (by omega), ps_b (by omega)]) ⟨vp_in_nI (by omega) (by omega), nm_r (e' := upd ah q (nI ((lo k + hi k) / 2))) (by rw [nI_clamp (by omega), ps_bb (by omega)]) (nm_r (nI_1 q) ⟨vp_in_nI (by omega) (by omega), nm_r (e' := upd (upd bf k (-1)) k (nI q)) (by rw [ps_bb (by omega)]) ?_⟩)⟩⟩
          refine half (q' := q + 1) (by omega) (by omega) (pl_R_p hRg (by omega) z (by omega)) (un_n (by omega)) (un_n (by omega)) ?_ ?_ ?_ pk_us
          · have e5 : q + 1 - (k + 1) = d + 1 := by omega
            have e6 : k + 1 + d = q := by omega
            rw [e5, pl_S_e, e6]
            have e7 : pl_S (fun j => un hi q ((lo k + hi k) / 2) j - un lo q (lo k) j) (k + 1) d = pl_S (fun j => hi j - lo j) (k + 1) d :=
              pl_S_c _ _ (fun j h1 h2 => by show un hi q ((lo k + hi k) / 2) j - un lo q (lo k) j = hi j - lo j; rw [un_n (by omega), un_n (by omega)])
            rw [e7]
            show _ + (un hi q ((lo k + hi k) / 2) q - un lo q (lo k) q) = _
            rw [un_s, un_s]
          · intro j hj
            have K := pl_D_p (l := lo k) (u := (lo k + hi k) / 2) (by omega) (hDk j hj)
            unfold pl_D at K ⊢
            rw [pk_un (by omega)]; exact K
          · rw [pk_us]
            exact Or.inl ⟨z, q, by omega, by omega, rfl, un_s, un_s⟩
theorem xl_treeOf (hm : m ≤ 64) (hw : ws.length = m) (hg : ∀ i, i < m → a_gathered (if tn = 0 then i else m - 1 - i) = ws.getD i 0) (hI : ps_I fr 640 R) (hR : m ≤ R)
    (hp : ∀ x h' r' o' al ah bf bh k, R ≤ r' + m → r' ≤ R → pl_X (ps_F fr R) h (ps_F fr r') h' → pl_L (ps_F fr r') h' x k ws → post x (f_mapRoom, nI r', f_depth, nI m, f_first, f_second, a_held, a_root, a_data, a_links, a_more, a_keys, a_values, a_mapMark, a_mapFree, h'.1, h'.2.1, h'.2.2.1, h'.2.2.2.1, h'.2.2.2.2.1, h'.2.2.2.2.2, a_listMark, fr, a_path, a_turns, a_stack, o', a_gathered, a_worth, a_spareKey, a_spareValue, al, ah, bf, bh)) :
    wpX_treeOf post (f_mapRoom, nI R, f_depth, nI m, f_first, f_second, a_held, a_root, a_data, a_links, a_more, a_keys, a_values, a_mapMark, a_mapFree, h.1, h.2.1, h.2.2.1, h.2.2.2.1, h.2.2.2.2.1, h.2.2.2.2.2, a_listMark, fr, a_path, a_turns, a_stack, a_other, a_gathered, a_worth, a_spareKey, a_spareValue, a_low, a_high, a_before, a_behind) tn := by
  refine pk_eq m 0 (fun c => ?_) (fun c => ?_)
  · have e : ws = [] := by cases ws with | nil => rfl | cons a b => simp at hw; omega
    exact hp _ _ _ _ _ _ _ _ 0 (by omega) (by omega) pl_X_r (by rw [e]; exact pl_nil)
  · refine nm_r (e' := upd a_low 0 (nI 0)) (by rw [ps_b0]; rfl) (nm_r (e' := upd a_high 0 (nI m)) (by rw [ps_bb (by omega)]) ⟨m + 1, ?_⟩)
    refine xl_tree31 hm (by omega) hw hg hI hR (fun x h' r' o' al ah bf bh g1 g2 X L => hp x h' r' o' al ah bf bh _ g1 g2 X L) (m + 1) (k := 0) (q := 1) (lo := fun _ => 0) (hi := fun _ => m) (by omega) (by omega) (by omega) ?_ ?_ (fun j hj => absurd hj (by omega))
    · refine ⟨rfl, rfl, fun j hj => ?_⟩
      have e : j = 0 := by omega
      subst e
      exact ⟨pk_us, pk_us, by show 0 < m; omega, by show m ≤ m; omega⟩
    · simp [pl_S]
end
end
section
/-! the sweep of lists: what is marked is closed, the others are free -/
def ps_cn (mk : Nat → Int32) : Nat → Nat
  | 0 => 0
  | n + 1 => ps_cn mk n + (if mk n = 0 then 0 else 1)
theorem ps_cn_0 {mk : Nat → Int32} : ∀ n, (∀ j, j < n → mk j = 0) → ps_cn mk n = 0 := by
  intro n
  induction n with
  | zero => intro _; rfl
  | succ n ih => intro h; rw [ps_cn, ih (fun j hj => h j (by omega)), if_pos (h n (by omega))]
theorem ps_cn_u {mk : Nat → Int32} {k : Nat} (hk : mk k = 0) : ∀ n, ps_cn (upd mk k 1) n = ps_cn mk n + (if k < n then 1 else 0) := by
  intro n
  induction n with
  | zero => rfl
  | succ n ih =>
    rw [ps_cn, ps_cn, ih]
    by_cases c : n = k
    · subst c
      rw [pk_us, hk, if_neg (show ¬ (1 : Int32) = 0 by decide), if_pos (rfl : (0 : Int32) = 0), if_neg (show ¬ n < n by omega), if_pos (show n < n + 1 by omega)]
    · rw [pk_un c]
      by_cases c2 : k < n
      · rw [if_pos c2, if_pos (show k < n + 1 by omega)]; omega
      · rw [if_neg c2, if_neg (show ¬ k < n + 1 by omega)]; omega
/-- the free ones among those from k on -/
def ps_B (mk fr : Nat → Int32) (N k r : Nat) : Prop :=
  r + k ≤ N ∧ (∀ i, i < r → ∃ n, k ≤ n ∧ n < N ∧ fr i = nI n ∧ mk n = 0) ∧ (∀ i j, i < r → j < r → fr i = fr j → i = j) ∧
    (∀ n, k ≤ n → n < N → mk n = 0 → ∃ i, i < r ∧ fr i = nI n) ∧ r + ps_cn mk N + k = N + ps_cn mk k
theorem ps_B_0 {mk fr : Nat → Int32} {N : Nat} : ps_B mk fr N N 0 :=
  ⟨by omega, fun i hi => absurd hi (by omega), fun i j hi => absurd hi (by omega), fun n h1 h2 => absurd h1 (by omega), by omega⟩
theorem ps_B_n {mk fr : Nat → Int32} {N k r : Nat} (hk : mk k ≠ 0) (h : ps_B mk fr N (k + 1) r) : ps_B mk fr N k r := by
  obtain ⟨a, b, c, d, e⟩ := h
  refine ⟨by omega, fun i hi => ?_, c, fun n h1 h2 h3 => ?_, ?_⟩
  · obtain ⟨n, q1, q2⟩ := b i hi; exact ⟨n, by omega, q2⟩
  · by_cases z : n = k
    · subst z; exact absurd h3 hk
    · exact d n (by omega) h2 h3
  · rw [ps_cn, if_neg hk] at e; omega
theorem ps_B_y {mk fr : Nat → Int32} {N k r : Nat} (hN : N < 2 ^ 31) (hk : mk k = 0) (h : ps_B mk fr N (k + 1) r) : ps_B mk (upd fr r (nI k)) N k (r + 1) := by
  obtain ⟨a, b, c, d, e⟩ := h
  have old : ∀ i, i < r → fr i ≠ nI k := by
    intro i hi z
    obtain ⟨n, q1, q2, q3, q4⟩ := b i hi
    have := ps_inj (by omega) (by omega) (q3.symm.trans z)
    omega
  refine ⟨by omega, fun i hi => ?_, fun i j hi hj z => ?_, fun n h1 h2 h3 => ?_, ?_⟩
  · by_cases z : i = r
    · subst z; exact ⟨k, by omega, by omega, pk_us, hk⟩
    · obtain ⟨n, q1, q2, q3, q4⟩ := b i (by omega); exact ⟨n, by omega, q2, by rw [pk_un z]; exact q3, q4⟩
  · by_cases z1 : i = r
    · by_cases z2 : j = r
      · omega
      · subst z1; rw [pk_us, pk_un z2] at z; exact absurd z.symm (old j (by omega))
    · by_cases z2 : j = r
      · subst z2; rw [pk_us, pk_un z1] at z; exact absurd z (old i (by omega))
      · rw [pk_un z1, pk_un z2] at z; exact c i j (by omega) (by omega) z
  · by_cases z : n = k
    · subst z; exact ⟨r, by omega, pk_us⟩
    · obtain ⟨i, q1, q2⟩ := d n (by omega) h2 h3; exact ⟨i, by omega, by rw [pk_un (by omega)]; exact q2⟩
  · rw [ps_cn, if_pos hk] at e; omega
theorem ps_B_I {mk fr : Nat → Int32} {N r : Nat} (hN : N < 2 ^ 31) (h : ps_B mk fr N 0 r) : ps_I fr N r ∧ (∀ n, n < N → mk n ≠ 0 → ps_F fr r n) ∧ r + ps_cn mk N = N := by
  obtain ⟨a, b, c, d, e⟩ := h
  refine ⟨⟨by omega, fun i hi => ?_, c⟩, fun n hn hm i hi z => ?_, by rw [ps_cn] at e; omega⟩
  · obtain ⟨n, q1, q2, q3, q4⟩ := b i hi; exact ⟨n, q2, q3⟩
  · obtain ⟨m, q1, q2, q3, q4⟩ := b i hi
    have := ps_inj (by omega) (by omega) (q3.symm.trans z)
    subst this; exact hm q4
/-- the stack's trees, w elements in all -/
def pl_W (F : Nat → Prop) (h : LH) (st : Nat → Int32) : Nat → Nat → Prop
  | 0 => fun w => w = 0
  | t + 1 => fun w => ∃ n k xs w', n < 640 ∧ st t = nI n ∧ pl_L F h (nI n) k xs ∧ w = xs.length + w' ∧ pl_W F h st t w'
theorem pl_W_c {F : Nat → Prop} {h : LH} {st st' : Nat → Int32} : ∀ {t w : Nat}, (∀ i, i < t → st' i = st i) → pl_W F h st t w → pl_W F h st' t w := by
  intro t
  induction t with
  | zero => exact fun _ z => z
  | succ t ih =>
    rintro w ho ⟨n, k, xs, w', n1, eo, hL, e, hW⟩
    exact ⟨n, k, xs, w', n1, (ho t (by omega)).trans eo, hL, e, ih (fun i hi => ho i (by omega)) hW⟩
theorem pl_pos {F : Nat → Prop} {h : LH} {n k : Nat} {xs : List Int32} (hn : n < 640) (hL : pl_L F h (nI n) k xs) : 1 ≤ xs.length := by
  rcases pl_cases hL with ⟨e, _⟩ | ⟨m, kl, kr, xl, xr, e, hN, _⟩
  · exact absurd e.symm (ps_m1ne (by omega))
  · rw [hN.2.2.2.2.2.1]; simp; omega
theorem pl_W_l {F : Nat → Prop} {h : LH} {st : Nat → Int32} : ∀ {t w : Nat}, pl_W F h st t w → t ≤ w := by
  intro t
  induction t with
  | zero => intros; omega
  | succ t ih =>
    rintro w ⟨n, k, xs, w', n1, eo, hL, e, hW⟩
    have := ih hW
    have := pl_pos n1 hL
    omega
theorem pl_W_p {F : Nat → Prop} {h : LH} {st : Nat → Int32} {t w n k : Nat} {xs : List Int32} (hn : n < 640) (hL : pl_L F h (nI n) k xs) (hW : pl_W F h st t w) :
    pl_W F h (upd st t (nI n)) (t + 1) (xs.length + w) :=
  ⟨n, k, xs, w, hn, pk_us, hL, rfl, pl_W_c (fun i hi => pk_un (by omega)) hW⟩
/-- marked, or on the stack -/
def ps_MS (mk st : Nat → Int32) (t j : Nat) : Prop := mk j ≠ 0 ∨ ∃ i, i < t ∧ st i = nI j
theorem ps_MS_p {mk st : Nat → Int32} {t j : Nat} {x : Int32} (h : ps_MS mk st t j) : ps_MS mk (upd st t x) (t + 1) j := by
  rcases h with h | ⟨i, h1, h2⟩
  · exact Or.inl h
  · exact Or.inr ⟨i, by omega, by rw [pk_un (by omega)]; exact h2⟩
theorem ps_MS_pop {mk st : Nat → Int32} {t n j : Nat} (hn : n < 2 ^ 31) (hj : j < 2 ^ 31) (e : st t = nI n) (h : ps_MS mk st (t + 1) j) : ps_MS mk st t j ∨ j = n := by
  rcases h with h | ⟨i, h1, h2⟩
  · exact Or.inl (Or.inl h)
  · by_cases c : i = t
    · subst c; exact Or.inr (ps_inj hj hn (h2.symm.trans e))
    · exact Or.inl (Or.inr ⟨i, by omega, h2⟩)
theorem ps_MS_m {mk st : Nat → Int32} {t n j : Nat} (h : ps_MS mk st t j) : ps_MS (upd mk n 1) st t j := by
  rcases h with h | h
  · by_cases c : j = n
    · subst c; exact Or.inl (by rw [pk_us]; decide)
    · exact Or.inl (by rw [pk_un c]; exact h)
  · exact Or.inr h
/-- the children of a marked node are marked or on the stack -/
def pl_Cl (h : LH) (mk st : Nat → Int32) (t : Nat) : Prop :=
  ∀ n, n < 640 → mk n ≠ 0 → ∀ j, j < 640 → h.1 n = nI j ∨ h.2.1 n = nI j → ps_MS mk st t j
theorem pl_sub {F M : Nat → Prop} {h : LH} (hC : ∀ n, n < 640 → M n → ∀ j, j < 640 → h.1 n = nI j ∨ h.2.1 n = nI j → M j) {x : Int32} {k : Nat} {xs : List Int32} (H : pl_L F h x k xs) :
    (∀ j, j < 640 → x = nI j → M j) → pl_L M h x k xs := by
  refine pl_ind (P := fun x k xs => (∀ j, j < 640 → x = nI j → M j) → pl_L M h x k xs) (fun _ => pl_nil) ?_ H
  intro n kl kr xl xr k xs hN _ il _ ir hM
  obtain ⟨n1, n2, n3, n4, n5, n6, n7, n8, n9⟩ := hN
  have hm := hM n n1 rfl
  exact pl_mk ⟨n1, hm, n3, n4, n5, n6, n7, n8, n9⟩ (il (fun j hj e => hC n n1 hm j hj (Or.inl e))) (ir (fun j hj e => hC n n1 hm j hj (Or.inr e)))
section
variable {f_mapRoom f_listRoom f_depth f_many f_first f_second : Int32} {a_held a_root a_data a_links a_more a_keys a_values a_mapMark a_mapFree a_left a_right a_height a_size a_element a_listMark a_listFree a_path a_turns a_stack a_other a_gathered a_worth a_spareKey a_spareValue a_low a_high a_before a_behind : Nat → Int32} {a_total : Nat → Int64}
variable {post : SX → Prop} {h : LH} {F T : Nat → Prop}
theorem xl_sw165 {mk : Nat → Int32} : ∀ (k : Nat) {N r : Nat} {fr : Nat → Int32}, k < N → ps_B mk fr 640 k r →
    (∀ fr' r', ps_B mk fr' 640 0 r' → post (f_mapRoom, nI r', f_depth, f_many, f_first, f_second, a_held, a_root, a_data, a_links, a_more, a_keys, a_values, a_mapMark, a_mapFree, a_left, a_right, a_height, a_size, a_element, a_total, mk, fr', a_path, a_turns, a_stack, a_other, a_gathered, a_worth, a_spareKey, a_spareValue, a_low, a_high, a_before, a_behind)) →
    wX_sweepLists_165 post f_mapRoom f_depth f_many f_first f_second N (nI k - 1) (nI r) a_held a_root a_data a_links a_more a_keys a_values a_mapMark a_mapFree a_left a_right a_height a_size a_element a_total mk fr a_path a_turns a_stack a_other a_gathered a_worth a_spareKey a_spareValue a_low a_high a_before a_behind := by
  intro k
  induction k with
  | zero =>
    intro N r fr hN hB hp
    cases N with
    | zero => omega
    | succ N => exact br_t (by decide) (hp fr r hB)
  | succ k ih =>
    intro N r fr hN hB hp
    have hb := hB.1
    cases N with
    | zero => omega
    | succ N =>
      rw [nI_pred]
      refine br_f (nI_pos (by omega)) ⟨vp_in_nI (by omega) (by omega), ?_⟩
      rw [nI_clamp (n := k) (by omega)]
      refine br_c (fun c => nm_r (nI_1 r) ⟨vp_in_nI (by omega) (by omega), nm_r (e' := upd fr r (nI k)) (by rw [nI_clamp (by omega), ps_ss (by omega)]) (nm_r (e' := nI k - 1) (Int32.sub_eq_add_neg ..).symm ?_)⟩) (fun c => nm_r (e' := nI k - 1) (Int32.sub_eq_add_neg ..).symm ?_)
      · exact ih (by omega) (ps_B_y (by omega) c hB) hp
      · exact ih (by omega) (ps_B_n c hB) hp
theorem xl_sw72 (hT : ∀ j, T j → j < 640) : ∀ (N : Nat) {t w : Nat} {mk st : Nat → Int32}, w < N → pl_W F h st t w → ps_cn mk 640 + w ≤ 384 → pl_Cl h mk st t → (∀ j, T j → ps_MS mk st t j) →
    (∀ mk' st' fr' r', ps_B mk' fr' 640 0 r' → ps_cn mk' 640 ≤ 384 → (∀ n, n < 640 → mk' n ≠ 0 → ∀ j, j < 640 → h.1 n = nI j ∨ h.2.1 n = nI j → mk' j ≠ 0) → (∀ j, T j → mk' j ≠ 0) →
      post (f_mapRoom, nI r', f_depth, f_many, f_first, f_second, a_held, a_root, a_data, a_links, a_more, a_keys, a_values, a_mapMark, a_mapFree, h.1, h.2.1, h.2.2.1, h.2.2.2.1, h.2.2.2.2.1, h.2.2.2.2.2, mk', fr', a_path, a_turns, st', a_other, a_gathered, a_worth, a_spareKey, a_spareValue, a_low, a_high, a_before, a_behind)) →
    wX_sweepLists_72 post f_mapRoom f_listRoom f_depth f_many f_first f_second N (nI t) a_held a_root a_data a_links a_more a_keys a_values a_mapMark a_mapFree h.1 h.2.1 h.2.2.1 h.2.2.2.1 h.2.2.2.2.1 h.2.2.2.2.2 mk a_listFree a_path a_turns st a_other a_gathered a_worth a_spareKey a_spareValue a_low a_high a_before a_behind := by
  intro N
  induction N with
  | zero => intros; omega
  | succ N ih =>
    intro t w mk st hN hW hc hCl hTS hp
    have hl := pl_W_l hW
    cases t with
    | zero =>
      refine br_t (by decide) ⟨641, ?_⟩
      have clr : ∀ j, ps_MS mk st 0 j → mk j ≠ 0 := by
        rintro j (z | ⟨i, z, _⟩)
        · exact z
        · omega
      have K := xl_sw165 (post := post) (f_mapRoom := f_mapRoom) (f_depth := f_depth) (f_many := f_many) (f_first := f_first) (f_second := f_second) (mk := mk) 640 (N := 641) (r := 0) (fr := a_listFree) (by omega) ps_B_0 (fun fr' r' hB => hp mk st fr' r' hB (by omega) (fun n h1 h2 j h3 h4 => clr j (hCl n h1 h2 j h3 h4)) (fun j hj => clr j (hTS j hj)))
      rw [show nI 640 - 1 = 639 from by decide] at K
      exact K
    | succ t =>
      obtain ⟨n, k, xs, w', n1, eo, hL, e, hW⟩ := hW
      have hpos := pl_pos n1 hL
      refine br_f (nI_nle (by omega) (by omega)) (nm_r (pk_m1 t) ⟨vp_in_nI (by omega) (by omega), nm_r (e' := nI n) (by rw [nI_clamp (by omega)]; exact eo) ⟨vp_in_nI n1 (by omega), ?_⟩⟩)
      rw [nI_clamp (n := n) (by omega)]
      refine br_c (fun c => ⟨vp_in_nI n1 (by omega), nm_r (e' := upd mk n 1) rfl ⟨vp_in_nI n1 (by omega), ?_⟩⟩) (fun c => ?_)
      · rcases pl_cases hL with ⟨z, _⟩ | ⟨m, kl, kr, xl, xr, em, hN2, gl, gr⟩
        · exact absurd z.symm (ps_m1ne (by omega))
        have emn : n = m := ps_inj (by omega) (by have := hN2.1; omega) em
        subst emn
        obtain ⟨m1, m2, m3, m4, m5, m6, m7, m8, m9⟩ := hN2
        have hlx : xs.length = xl.length + 1 + xr.length := by rw [m6]; simp; omega
        have hcn : ps_cn (upd mk n 1) 640 = ps_cn mk 640 + 1 := by rw [ps_cn_u c, if_pos n1]
        -- what holds once the left one is dealt with
        have rt : ∀ {t' wt : Nat} {st' : Nat → Int32}, pl_W F h st' t' wt → wt ≤ w' + xl.length → t' ≤ t + 1 → (∀ j, ps_MS (upd mk n 1) st t j → ps_MS (upd mk n 1) st' t' j) →
            (∀ j, j < 640 → h.1 n = nI j → ps_MS (upd mk n 1) st' t' j) →
            wX_sweepLists_129 post (wX_sweepLists_72 post f_mapRoom f_listRoom f_depth f_many f_first f_second N) (nI t') (nI n) f_mapRoom f_listRoom f_depth f_many f_first f_second a_held a_root a_data a_links a_more a_keys a_values a_mapMark a_mapFree h.1 h.2.1 h.2.2.1 h.2.2.2.1 h.2.2.2.2.1 h.2.2.2.2.2 (upd mk n 1) a_listFree a_path a_turns st' a_other a_gathered a_worth a_spareKey a_spareValue a_low a_high a_before a_behind := by
          intro t' wt st' hW' hwt ht' hk hlft
          have hMS : ∀ {t2 : Nat} {st2 : Nat → Int32}, (∀ j, ps_MS (upd mk n 1) st' t' j → ps_MS (upd mk n 1) st2 t2 j) → (∀ j, j < 640 → h.2.1 n = nI j → ps_MS (upd mk n 1) st2 t2 j) →
              pl_Cl h (upd mk n 1) st2 t2 ∧ ∀ j, T j → ps_MS (upd mk n 1) st2 t2 j := by
            intro t2 st2 k2 hrgt
            have base : ∀ j, j < 2 ^ 31 → ps_MS mk st (t + 1) j → ps_MS (upd mk n 1) st2 t2 j := by
              intro j hj z
              rcases ps_MS_pop (by omega) hj eo z with z | z
              · exact k2 j (hk j (ps_MS_m z))
              · subst z; exact Or.inl (by rw [pk_us]; decide)
            constructor
            · intro i i1 i2 j j1 j2
              by_cases ci : i = n
              · subst ci
                rcases j2 with j2 | j2
                · exact k2 j (hlft j j1 j2)
                · exact hrgt j j1 j2
              · rw [pk_un ci] at i2
                exact base j (by omega) (hCl i i1 i2 j j1 j2)
            · intro j hj
              exact base j (by have := hT j hj; omega) (hTS j hj)
          have hl' := pl_W_l hW'
          refine And.intro (vp_in_nI n1 (by omega)) ?_
          rw [nI_clamp (n := n) (by omega)]
          rcases pl_cases gr with ⟨z, _, zx⟩ | ⟨q, ql, qr, xql, xqr, eq, hQ, _, _⟩
          · refine br_t (by rw [z]; exact ps_m1lt) ?_
            have A := hMS (t2 := t') (st2 := st') (fun j z => z) (fun j j1 j2 => absurd (z.symm.trans j2) (ps_m1ne (by omega)))
            exact ih (by omega) hW' (by omega) A.1 A.2 hp
          · rw [eq]
            have q1 := hQ.1
            refine br_f (nI_pos (by omega)) (nm_r (nI_1 t') ⟨vp_in_nI n1 (by omega), vp_in_nI (by omega) (by omega), nm_r (e' := upd st' t' (nI q)) (by rw [nI_clamp (by omega), ps_s (by omega)]) ?_⟩)
            have A := hMS (t2 := t' + 1) (st2 := upd st' t' (nI q)) (fun j z => ps_MS_p z) (fun j j1 j2 => Or.inr ⟨t', by omega, by rw [pk_us, ← eq]; exact j2⟩)
            exact ih (by omega) (pl_W_p (xs := xr) (k := kr) q1 (by rw [← eq]; exact gr) hW') (by omega) A.1 A.2 hp
        rcases pl_cases gl with ⟨z, _, zx⟩ | ⟨q, ql, qr, xql, xqr, eq, hQ, _, _⟩
        · refine br_t (by rw [z]; exact ps_m1lt) ?_
          exact rt hW (by omega) (by omega) (fun j z => z) (fun j j1 j2 => absurd (z.symm.trans j2) (ps_m1ne (by omega)))
        · rw [eq]
          have q1 := hQ.1
          refine br_f (nI_pos (by omega)) (nm_r (nI_1 t) ⟨vp_in_nI n1 (by omega), vp_in_nI (by omega) (by omega), nm_r (e' := upd st t (nI q)) (by rw [nI_clamp (by omega), ps_s (by omega)]) ?_⟩)
          exact rt (pl_W_p (xs := xl) (k := kl) q1 (by rw [← eq]; exact gl) hW) (by omega) (by omega) (fun j z => ps_MS_p z) (fun j j1 j2 => Or.inr ⟨t, by omega, by rw [pk_us, ← eq]; exact j2⟩)
      · have base : ∀ j, j < 2 ^ 31 → ps_MS mk st (t + 1) j → ps_MS mk st t j := by
          intro j hj z
          rcases ps_MS_pop (by omega) hj eo z with z | z
          · exact z
          · subst z; exact Or.inl c
        exact ih (by omega) hW (by omega) (fun i i1 i2 j j1 j2 => base j (by omega) (hCl i i1 i2 j j1 j2)) (fun j hj => base j (by have := hT j hj; omega) (hTS j hj)) hp
theorem xl_sw26 (hT : ∀ j, T j ↔ j < 640 ∧ ∃ p, p < 8 ∧ a_held p = 2 ∧ a_root p = nI j) (hA : ∀ p, p < 8 → a_held p = 2 → ∃ k xs, pl_L F h (a_root p) k xs ∧ xs.length ≤ 48) {mk : Nat → Int32} (hmk : ∀ j, j < 640 → mk j = 0)
    (hp : ∀ mk' st' fr' r', ps_B mk' fr' 640 0 r' → ps_cn mk' 640 ≤ 384 → (∀ n, n < 640 → mk' n ≠ 0 → ∀ j, j < 640 → h.1 n = nI j ∨ h.2.1 n = nI j → mk' j ≠ 0) → (∀ j, T j → mk' j ≠ 0) →
      post (f_mapRoom, nI r', f_depth, f_many, f_first, f_second, a_held, a_root, a_data, a_links, a_more, a_keys, a_values, a_mapMark, a_mapFree, h.1, h.2.1, h.2.2.1, h.2.2.2.1, h.2.2.2.2.1, h.2.2.2.2.2, mk', fr', a_path, a_turns, st', a_other, a_gathered, a_worth, a_spareKey, a_spareValue, a_low, a_high, a_before, a_behind)) :
    ∀ (d : Nat) {N p t w : Nat} {st : Nat → Int32}, d < N → p + d = 8 → pl_W F h st t w → w ≤ 48 * p → t ≤ p → (∀ j, j < 640 → ∀ p', p' < p → a_held p' = 2 → a_root p' = nI j → ∃ i, i < t ∧ st i = nI j) →
    wX_sweepLists_26 post f_mapRoom f_listRoom f_depth f_many f_first f_second N (nI t) (nI p) a_held a_root a_data a_links a_more a_keys a_values a_mapMark a_mapFree h.1 h.2.1 h.2.2.1 h.2.2.2.1 h.2.2.2.2.1 h.2.2.2.2.2 mk a_listFree a_path a_turns st a_other a_gathered a_worth a_spareKey a_spareValue a_low a_high a_before a_behind := by
  intro d
  induction d with
  | zero =>
    intro N p t w st hN hpd hW hw ht hS
    have e : p = 8 := by omega
    subst e
    cases N with
    | zero => omega
    | succ N =>
      refine br_t (by decide) ⟨w + 1, xl_sw72 (T := T) (fun j hj => ((hT j).mp hj).1) (w + 1) (by omega) hW (by rw [ps_cn_0 640 hmk]; omega) (fun n n1 n2 => absurd (hmk n n1) n2) (fun j hj => ?_) hp⟩
      obtain ⟨j1, p, p1, p2, p3⟩ := (hT j).mp hj
      exact Or.inr (hS j j1 p p1 p2 p3)
  | succ d ih =>
    intro N p t w st hN hpd hW hw ht hS
    cases N with
    | zero => omega
    | succ N =>
      refine br_f (nI_ge (b := 8) (by omega) (by omega)) ⟨vp_in_nI (by omega) (by omega), ?_⟩
      rw [nI_clamp (n := p) (by omega)]
      refine br_c (fun c => ⟨vp_in_nI (by omega) (by omega), ?_⟩) (fun c => ?_)
      · obtain ⟨k, xs, hL, hx⟩ := hA p (by omega) c
        rcases pl_cases hL with ⟨z, _, zx⟩ | ⟨q, ql, qr, xql, xqr, eq, hQ, _, _⟩
        · refine br_t (by rw [z]; exact ps_m1lt) (nm_r (nI_1 p) (ih (by omega) (by omega) hW (by omega) (by omega) ?_))
          intro j j1 p' h1 h2 h3
          by_cases cp : p' = p
          · subst cp; exact absurd (z.symm.trans h3) (ps_m1ne (by omega))
          · exact hS j j1 p' (by omega) h2 h3
        · have q1 := hQ.1
          rw [eq]
          refine br_f (nI_pos (by omega)) (nm_r (nI_1 t) ⟨vp_in_nI (by omega) (by omega), vp_in_nI (by omega) (by omega), nm_r (e' := upd st t (nI q)) (by rw [nI_clamp (by omega), ps_s (by omega)]) (nm_r (nI_1 p) ?_)⟩)
          refine ih (by omega) (by omega) (pl_W_p (xs := xs) (k := k) q1 (by rw [← eq]; exact hL) hW) (by omega) (by omega) ?_
          intro j j1 p' h1 h2 h3
          by_cases cp : p' = p
          · subst cp; exact ⟨t, by omega, by rw [pk_us, ← eq]; exact h3⟩
          · obtain ⟨i, i1, i2⟩ := hS j j1 p' (by omega) h2 h3
            exact ⟨i, by omega, by rw [pk_un (by omega)]; exact i2⟩
      · refine nm_r (nI_1 p) (ih (by omega) (by omega) hW (by omega) (by omega) ?_)
        intro j j1 p' h1 h2 h3
        by_cases cp : p' = p
        · subst cp; exact absurd h2 c
        · exact hS j j1 p' (by omega) h2 h3
theorem xl_sw2 (hp : ∀ mk, (∀ j, j < 640 → mk j = 0) → ∃ n, wX_sweepLists_26 post f_mapRoom f_listRoom f_depth f_many f_first f_second n (nI 0) (nI 0) a_held a_root a_data a_links a_more a_keys a_values a_mapMark a_mapFree a_left a_right a_height a_size a_element a_total mk a_listFree a_path a_turns a_stack a_other a_gathered a_worth a_spareKey a_spareValue a_low a_high a_before a_behind) :
    ∀ (d : Nat) {N k : Nat} {mk : Nat → Int32}, d < N → k + d = 640 → (∀ j, j < k → mk j = 0) → wX_sweepLists_2 post f_mapRoom f_listRoom f_depth f_many f_first f_second N (nI k) a_held a_root a_data a_links a_more a_keys a_values a_mapMark a_mapFree a_left a_right a_height a_size a_element a_total mk a_listFree a_path a_turns a_stack a_other a_gathered a_worth a_spareKey a_spareValue a_low a_high a_before a_behind := by
  intro d
  induction d with
  | zero =>
    intro N k mk hN hk hm
    have e : k = 640 := by omega
    subst e
    cases N with
    | zero => omega
    | succ N => exact br_t (by decide) (hp mk hm)
  | succ d ih =>
    intro N k mk hN hk hm
    cases N with
    | zero => omega
    | succ N =>
      refine br_f (nI_ge (b := 640) (by omega) (by omega)) ⟨vp_in_nI (by omega) (by omega), nm_r (e' := upd mk k 0) (by rw [nI_clamp (by omega)]; rfl) (nm_r (nI_1 k) (ih (by omega) (by omega) ?_))⟩
      intro j hj
      by_cases c : j = k
      · subst c; exact pk_us
      · rw [pk_un c]; exact hm j (by omega)
theorem xl_sweepLists (hA : ∀ p, p < 8 → a_held p = 2 → ∃ k xs, pl_L F h (a_root p) k xs ∧ xs.length ≤ 48)
    (hp : ∀ mk' st' fr' r', ps_I fr' 640 r' → 200 ≤ r' → (∀ p, p < 8 → a_held p = 2 → ∀ k xs, pl_L F h (a_root p) k xs → pl_L (ps_F fr' r') h (a_root p) k xs) →
      post (f_mapRoom, nI r', f_depth, f_many, f_first, f_second, a_held, a_root, a_data, a_links, a_more, a_keys, a_values, a_mapMark, a_mapFree, h.1, h.2.1, h.2.2.1, h.2.2.2.1, h.2.2.2.2.1, h.2.2.2.2.2, mk', fr', a_path, a_turns, st', a_other, a_gathered, a_worth, a_spareKey, a_spareValue, a_low, a_high, a_before, a_behind)) :
    wpX_sweepLists post (f_mapRoom, f_listRoom, f_depth, f_many, f_first, f_second, a_held, a_root, a_data, a_links, a_more, a_keys, a_values, a_mapMark, a_mapFree, h.1, h.2.1, h.2.2.1, h.2.2.2.1, h.2.2.2.2.1, h.2.2.2.2.2, a_listMark, a_listFree, a_path, a_turns, a_stack, a_other, a_gathered, a_worth, a_spareKey, a_spareValue, a_low, a_high, a_before, a_behind) := by
  refine ⟨641, xl_sw2 ?_ 640 (k := 0) (by omega) (by omega) (fun j hj => absurd hj (by omega))⟩
  intro mk hmk
  refine ⟨9, xl_sw26 (F := F) (T := fun j => j < 640 ∧ ∃ p, p < 8 ∧ a_held p = 2 ∧ a_root p = nI j) (fun j => Iff.rfl) hA hmk ?_ 8 (p := 0) (t := 0) (w := 0) (by omega) (by omega) rfl (by omega) (by omega) (fun j _ p' hp' => absurd hp' (by omega))⟩
  intro mk' st' fr' r' hB hc hcl hT
  obtain ⟨i1, i2, i3⟩ := ps_B_I (by omega) hB
  refine hp mk' st' fr' r' i1 (by omega) ?_
  intro p p1 p2 k xs hL
  have K := pl_sub (M := fun n => n < 640 ∧ mk' n ≠ 0) (fun n n1 n2 j j1 j2 => ⟨j1, hcl n n1 n2.2 j j1 j2⟩) hL (fun j j1 j2 => ⟨j1, hT j ⟨j1, p, p1, p2, j2⟩⟩)
  exact pl_mono ⟨fun n hn => i2 n hn.1 hn.2, fun _ _ _ => ⟨rfl, rfl, rfl, rfl, rfl, rfl⟩⟩ K
end
end
section
/-! sorted lists of entries -/
theorem ms_tri (a b : Int32) : a < b ∨ a = b ∨ b < a := by
  rw [Int32.lt_iff_toInt_lt, Int32.lt_iff_toInt_lt, ← Int32.toInt_inj]; omega
theorem ms_irr (a : Int32) : ¬ a < a := by rw [Int32.lt_iff_toInt_lt]; omega
theorem ms_tr {a b c : Int32} (h : a < b) (h' : b < c) : a < c := by rw [Int32.lt_iff_toInt_lt] at *; omega
theorem ms_as {a b : Int32} (h : a < b) : ¬ b < a := by rw [Int32.lt_iff_toInt_lt] at *; omega
theorem ms_ne {a b : Int32} (h : a < b) : a ≠ b := fun e => ms_irr b (e ▸ h)
def ms_S (es : List (Int32 × Int32)) : Prop := es.Pairwise (fun a b => a.1 < b.1)
def ms_ins (k v : Int32) : List (Int32 × Int32) → List (Int32 × Int32)
  | [] => [(k, v)]
  | e :: es => if e.1 < k then e :: ms_ins k v es else if e.1 = k then (k, v) :: es else (k, v) :: e :: es
theorem ms_S0 : ms_S [] := List.Pairwise.nil
theorem ms_Sc {e : Int32 × Int32} {es : List (Int32 × Int32)} : ms_S (e :: es) ↔ (∀ a, a ∈ es → e.1 < a.1) ∧ ms_S es := List.pairwise_cons
theorem ms_Sf {es : List (Int32 × Int32)} (p : Int32 × Int32 → Bool) (h : ms_S es) : ms_S (es.filter p) := List.Pairwise.filter p h
theorem ms_mem {k v : Int32} {x : Int32 × Int32} : ∀ {es : List (Int32 × Int32)}, ms_S es → (x ∈ ms_ins k v es ↔ x = (k, v) ∨ (x ∈ es ∧ x.1 ≠ k)) := by
  intro es
  induction es with
  | nil => intro _; simp [ms_ins]
  | cons e es ih =>
    intro hS
    have h := ms_Sc.mp hS
    rw [ms_ins]
    by_cases c : e.1 < k
    · rw [if_pos c, List.mem_cons, ih h.2, List.mem_cons]
      constructor
      · rintro (rfl | z | z)
        · exact Or.inr ⟨Or.inl rfl, ms_ne c⟩
        · exact Or.inl z
        · exact Or.inr ⟨Or.inr z.1, z.2⟩
      · rintro (z | ⟨rfl | z, q⟩)
        · exact Or.inr (Or.inl z)
        · exact Or.inl rfl
        · exact Or.inr (Or.inr ⟨z, q⟩)
    · rw [if_neg c]
      by_cases c2 : e.1 = k
      · rw [if_pos c2, List.mem_cons, List.mem_cons]
        constructor
        · rintro (z | z)
          · exact Or.inl z
          · exact Or.inr ⟨Or.inr z, fun q => ms_ne (h.1 x z) (c2.trans q.symm)⟩
        · rintro (z | ⟨rfl | z, q⟩)
          · exact Or.inl z
          · exact absurd c2 q
          · exact Or.inr z
      · have c3 : k < e.1 := by
          rcases ms_tri e.1 k with z | z | z
          · exact absurd z c
          · exact absurd z c2
          · exact z
        rw [if_neg c2, List.mem_cons, List.mem_cons]
        constructor
        · rintro (z | rfl | z)
          · exact Or.inl z
          · exact Or.inr ⟨Or.inl rfl, c2⟩
          · exact Or.inr ⟨Or.inr z, fun q => ms_ne (ms_tr c3 (h.1 x z)) q.symm⟩
        · rintro (z | ⟨z, q⟩)
          · exact Or.inl z
          · exact Or.inr z
theorem ms_insS {k v : Int32} : ∀ {es : List (Int32 × Int32)}, ms_S es → ms_S (ms_ins k v es) := by
  intro es
  induction es with
  | nil => intro _; exact ms_Sc.mpr ⟨fun a h => absurd h (by simp), ms_S0⟩
  | cons e es ih =>
    intro hS
    have h := ms_Sc.mp hS
    rw [ms_ins]
    by_cases c : e.1 < k
    · rw [if_pos c]
      refine ms_Sc.mpr ⟨fun a ha => ?_, ih h.2⟩
      rcases (ms_mem h.2).mp ha with rfl | z
      · exact c
      · exact h.1 a z.1
    · rw [if_neg c]
      by_cases c2 : e.1 = k
      · rw [if_pos c2]
        exact ms_Sc.mpr ⟨fun a ha => by show k < a.1; rw [← c2]; exact h.1 a ha, h.2⟩
      · have c3 : k < e.1 := by
          rcases ms_tri e.1 k with z | z | z
          · exact absurd z c
          · exact absurd z c2
          · exact z
        rw [if_neg c2]
        refine ms_Sc.mpr ⟨fun a ha => ?_, hS⟩
        rcases List.mem_cons.mp ha with rfl | z
        · exact c3
        · exact ms_tr c3 (h.1 a z)
/-- sorted lists with the same entries are equal -/
theorem ms_ext : ∀ {a b : List (Int32 × Int32)}, ms_S a → ms_S b → (∀ e, e ∈ a ↔ e ∈ b) → a = b := by
  intro a
  induction a with
  | nil =>
    intro b _ _ h
    cases b with
    | nil => rfl
    | cons e b => exact absurd ((h e).mpr (by simp)) (by simp)
  | cons x a ih =>
    intro b ha hb h
    cases b with
    | nil => exact absurd ((h x).mp (by simp)) (by simp)
    | cons y b =>
      have ha' := ms_Sc.mp ha
      have hb' := ms_Sc.mp hb
      have e : x = y := by
        rcases List.mem_cons.mp ((h x).mp (by simp)) with z | z
        · exact z
        · rcases List.mem_cons.mp ((h y).mpr (by simp)) with q | q
          · exact q.symm
          · exact absurd (hb'.1 x z) (ms_as (ha'.1 y q))
      subst e
      congr 1
      refine ih ha'.2 hb'.2 (fun e => ?_)
      constructor
      · intro z
        rcases List.mem_cons.mp ((h e).mp (List.mem_cons_of_mem _ z)) with q | q
        · subst q; exact absurd (ha'.1 e z) (ms_irr _)
        · exact q
      · intro z
        rcases List.mem_cons.mp ((h e).mpr (List.mem_cons_of_mem _ z)) with q | q
        · subst q; exact absurd (hb'.1 e z) (ms_irr _)
        · exact q
theorem ms_uniq {es : List (Int32 × Int32)} (hS : ms_S es) {a b : Int32 × Int32} (ha : a ∈ es) (hb : b ∈ es) (h : a.1 = b.1) : a = b := by
  induction es with
  | nil => exact absurd ha (by simp)
  | cons e es ih =>
    have h' := ms_Sc.mp hS
    rcases List.mem_cons.mp ha with z | z
    · rcases List.mem_cons.mp hb with q | q
      · rw [z, q]
      · subst z; exact absurd h (ms_ne (h'.1 b q))
    · rcases List.mem_cons.mp hb with q | q
      · subst q; exact absurd h.symm (ms_ne (h'.1 a z))
      · exact ih h'.2 z q
/-- the value of a key -/
def ms_get (k : Int32) (es : List (Int32 × Int32)) : Option Int32 := es.lookup k
theorem ms_get_c {k : Int32} {e : Int32 × Int32} {es : List (Int32 × Int32)} : ms_get k (e :: es) = if k = e.1 then some e.2 else ms_get k es := by
  unfold ms_get
  obtain ⟨a, b⟩ := e
  rw [List.lookup_cons]
  by_cases c : k = a
  · subst c; simp
  · have z : (k == a) = false := by simp [c]
    rw [z, if_neg c]
theorem ms_get_s {k v : Int32} : ∀ {es : List (Int32 × Int32)}, ms_S es → (ms_get k es = some v ↔ (k, v) ∈ es) := by
  intro es
  induction es with
  | nil => intro _; simp [ms_get]
  | cons e es ih =>
    intro hS
    have h := ms_Sc.mp hS
    rw [ms_get_c, List.mem_cons]
    by_cases c : k = e.1
    · rw [if_pos c]
      constructor
      · intro z; left; cases z; rw [c]
      · rintro (z | z)
        · rw [← z]
        · exact absurd c.symm (ms_ne (h.1 _ z))
    · rw [if_neg c, ih h.2]
      constructor
      · exact Or.inr
      · rintro (z | z)
        · exact absurd (by rw [← z]) c
        · exact z
theorem ms_get_n {k : Int32} : ∀ {es : List (Int32 × Int32)}, (ms_get k es = none ↔ ∀ e, e ∈ es → e.1 ≠ k) := by
  intro es
  induction es with
  | nil => simp [ms_get]
  | cons e es ih =>
    rw [ms_get_c]
    by_cases c : k = e.1
    · rw [if_pos c]
      constructor
      · intro z; exact absurd z (by simp)
      · intro z; exact absurd c.symm (z e (by simp))
    · rw [if_neg c, ih]
      constructor
      · intro z a ha
        rcases List.mem_cons.mp ha with rfl | q
        · exact fun q => c q.symm
        · exact z a q
      · exact fun z a ha => z a (List.mem_cons_of_mem _ ha)
theorem ms_gext {a b : List (Int32 × Int32)} (ha : ms_S a) (hb : ms_S b) (h : ∀ k, ms_get k a = ms_get k b) : a = b := by
  refine ms_ext ha hb (fun e => ?_)
  obtain ⟨k, v⟩ := e
  rw [← ms_get_s ha, ← ms_get_s hb, h k]
theorem ms_get_i {k k' v : Int32} {es : List (Int32 × Int32)} (hS : ms_S es) : ms_get k' (ms_ins k v es) = if k' = k then some v else ms_get k' es := by
  by_cases c : k' = k
  · rw [if_pos c, ms_get_s (ms_insS hS), ms_mem hS, c]; exact Or.inl rfl
  · rw [if_neg c]
    cases h : ms_get k' es with
    | none =>
      rw [ms_get_n] at h ⊢
      intro e he
      rcases (ms_mem hS).mp he with z | z
      · rw [z]; exact fun q => c q.symm
      · exact h e z.1
    | some u =>
      rw [ms_get_s hS] at h
      rw [ms_get_s (ms_insS hS), ms_mem hS]
      exact Or.inr ⟨h, c⟩
/-- without a key -/
def ms_del (k : Int32) (es : List (Int32 × Int32)) : List (Int32 × Int32) := es.filter (fun e => e.1 != k)
theorem ms_delS {k : Int32} {es : List (Int32 × Int32)} (hS : ms_S es) : ms_S (ms_del k es) := ms_Sf _ hS
theorem ms_del_m {k : Int32} {es : List (Int32 × Int32)} {x : Int32 × Int32} : x ∈ ms_del k es ↔ x ∈ es ∧ x.1 ≠ k := by
  unfold ms_del; rw [List.mem_filter]; simp
theorem ms_get_d {k k' : Int32} {es : List (Int32 × Int32)} (hS : ms_S es) : ms_get k' (ms_del k es) = if k' = k then none else ms_get k' es := by
  by_cases c : k' = k
  · rw [if_pos c, ms_get_n]
    intro e he; rw [c]; exact (ms_del_m.mp he).2
  · rw [if_neg c]
    cases h : ms_get k' es with
    | none => rw [ms_get_n] at h ⊢; exact fun e he => h e (ms_del_m.mp he).1
    | some u => rw [ms_get_s hS] at h; rw [ms_get_s (ms_delS hS), ms_del_m]; exact ⟨h, c⟩
theorem ms_ins_all {k v : Int32} {es : List (Int32 × Int32)} (h : ∀ a, a ∈ es → k < a.1) : ms_ins k v es = (k, v) :: es := by
  cases es with
  | nil => rfl
  | cons e es =>
    have := h e (by simp)
    rw [ms_ins, if_neg (ms_as this), if_neg (fun z => ms_ne this z.symm)]
theorem ms_ins_app {k v : Int32} {B : List (Int32 × Int32)} : ∀ {A : List (Int32 × Int32)}, (∀ a, a ∈ A → a.1 < k) → ms_ins k v (A ++ B) = A ++ ms_ins k v B := by
  intro A
  induction A with
  | nil => intro _; rfl
  | cons e A ih => intro h; rw [List.cons_append, ms_ins, if_pos (h e (by simp)), ih (fun a ha => h a (by simp [ha]))]; rfl
theorem ms_ins_eq {k v u : Int32} {B : List (Int32 × Int32)} : ms_ins k v ((k, u) :: B) = (k, v) :: B := by
  rw [ms_ins, if_neg (ms_irr k), if_pos rfl]
theorem ms_fil {k v : Int32} (p : Int32 → Bool) : ∀ {es : List (Int32 × Int32)}, ms_S es →
    (ms_ins k v es).filter (fun e => p e.1) = if p k then ms_ins k v (es.filter (fun e => p e.1)) else es.filter (fun e => p e.1) := by
  intro es hS
  by_cases c : p k = true
  · rw [if_pos c]
    refine ms_ext (ms_Sf _ (ms_insS hS)) (ms_insS (ms_Sf _ hS)) (fun e => ?_)
    rw [List.mem_filter, ms_mem hS, ms_mem (ms_Sf _ hS), List.mem_filter]
    constructor
    · rintro ⟨z | z, q⟩
      · exact Or.inl z
      · exact Or.inr ⟨⟨z.1, q⟩, z.2⟩
    · rintro (z | z)
      · exact ⟨Or.inl z, by rw [z]; exact c⟩
      · exact ⟨Or.inr ⟨z.1.1, z.2⟩, z.1.2⟩
  · rw [if_neg c]
    refine ms_ext (ms_Sf _ (ms_insS hS)) (ms_Sf _ hS) (fun e => ?_)
    rw [List.mem_filter, ms_mem hS, List.mem_filter]
    constructor
    · rintro ⟨z | z, q⟩
      · exact absurd (by rw [z] at q; exact q) c
      · exact ⟨z.1, q⟩
    · intro z
      exact ⟨Or.inr ⟨z.1, fun q => c (by rw [← q]; exact z.2)⟩, z.2⟩
theorem ms_lenI {k v : Int32} : ∀ {es : List (Int32 × Int32)}, ms_S es → (ms_ins k v es).length = if ms_get k es = none then es.length + 1 else es.length := by
  intro es
  induction es with
  | nil => intro _; rfl
  | cons e es ih =>
    intro hS
    have h := ms_Sc.mp hS
    rw [ms_ins, ms_get_c]
    by_cases c : e.1 < k
    · rw [if_pos c, if_neg (show ¬ k = e.1 from fun z => ms_ne c z.symm), List.length_cons, ih h.2, List.length_cons]; split <;> omega
    · rw [if_neg c]
      by_cases c2 : e.1 = k
      · rw [if_pos c2, if_pos c2.symm, if_neg (by simp)]; rfl
      · have c3 : k < e.1 := by
          rcases ms_tri e.1 k with z | z | z
          · exact absurd z c
          · exact absurd z c2
          · exact z
        have z0 : ms_get k es = none := ms_get_n.mpr (fun a ha q => ms_ne (ms_tr c3 (h.1 a ha)) q.symm)
        rw [if_neg c2, if_neg (show ¬ k = e.1 from fun z => c2 z.symm), if_pos z0]; rfl
theorem ms_lenD {k : Int32} : ∀ {es : List (Int32 × Int32)}, ms_S es → (ms_del k es).length = if ms_get k es = none then es.length else es.length - 1 := by
  intro es
  induction es with
  | nil => intro _; rfl
  | cons e es ih =>
    intro hS
    have h := ms_Sc.mp hS
    unfold ms_del at ih ⊢
    rw [List.filter_cons, ms_get_c]
    by_cases c : k = e.1
    · rw [if_neg (by simp [c]), if_pos c, if_neg (by simp), ih h.2, if_pos]; rfl
      rw [ms_get_n]
      exact fun a ha q => ms_ne (h.1 a ha) (c.symm.trans q.symm)
    · rw [if_pos (by simp; exact fun z => c z.symm), if_neg c, List.length_cons, ih h.2, List.length_cons]
      cases hg : ms_get k es with
      | none => rfl
      | some u =>
        rw [if_neg (by simp), if_neg (by simp)]
        have : es ≠ [] := by rintro rfl; simp [ms_get] at hg
        have := List.length_pos_iff.mpr this
        omega
end
section
/-! masks of four ways; ways of a key; the tries -/
def mb4 (a b c d : Bool) : Int32 := nI (a.toNat + 2 * b.toNat + 4 * c.toNat + 8 * d.toNat)
def mb (f : Nat → Bool) : Int32 := mb4 (f 0) (f 1) (f 2) (f 3)
def fb (f : Nat → Bool) (w : Nat) (b : Bool) : Nat → Bool := fun j => if j = w then b else f j
theorem fb_s {f : Nat → Bool} {w : Nat} {b : Bool} : fb f w b w = b := if_pos rfl
theorem fb_n {f : Nat → Bool} {w j : Nat} {b : Bool} (h : j ≠ w) : fb f w b j = f j := if_neg h
theorem mb_cases {P : Nat → Prop} (h0 : P 0) (h1 : P 1) (h2 : P 2) (h3 : P 3) {w : Nat} (h : w < 4) : P w := by
  have : w = 0 ∨ w = 1 ∨ w = 2 ∨ w = 3 := by omega
  rcases this with rfl | rfl | rfl | rfl <;> assumption
theorem mb4_bit0 : ∀ a b c d : Bool, (mb4 a b c d &&& ((1 : Int32) <<< (nI 0 &&& 31)) = 0 ↔ a = false) := by decide +kernel
theorem mb4_bit1 : ∀ a b c d : Bool, (mb4 a b c d &&& ((1 : Int32) <<< (nI 1 &&& 31)) = 0 ↔ b = false) := by decide +kernel
theorem mb4_bit2 : ∀ a b c d : Bool, (mb4 a b c d &&& ((1 : Int32) <<< (nI 2 &&& 31)) = 0 ↔ c = false) := by decide +kernel
theorem mb4_bit3 : ∀ a b c d : Bool, (mb4 a b c d &&& ((1 : Int32) <<< (nI 3 &&& 31)) = 0 ↔ d = false) := by decide +kernel
theorem mb_bit {f : Nat → Bool} {w : Nat} (h : w < 4) : mb f &&& ((1 : Int32) <<< (nI w &&& 31)) = 0 ↔ f w = false :=
  mb_cases (P := fun w => mb f &&& ((1 : Int32) <<< (nI w &&& 31)) = 0 ↔ f w = false) (mb4_bit0 _ _ _ _) (mb4_bit1 _ _ _ _) (mb4_bit2 _ _ _ _) (mb4_bit3 _ _ _ _) h
theorem mb4_sh0 : ∀ a b c d : Bool, (mb4 a b c d >>> (nI 0 &&& 31)) &&& 1 = nI a.toNat := by decide +kernel
theorem mb4_sh1 : ∀ a b c d : Bool, (mb4 a b c d >>> (nI 1 &&& 31)) &&& 1 = nI b.toNat := by decide +kernel
theorem mb4_sh2 : ∀ a b c d : Bool, (mb4 a b c d >>> (nI 2 &&& 31)) &&& 1 = nI c.toNat := by decide +kernel
theorem mb4_sh3 : ∀ a b c d : Bool, (mb4 a b c d >>> (nI 3 &&& 31)) &&& 1 = nI d.toNat := by decide +kernel
theorem mb_sh {f : Nat → Bool} {w : Nat} (h : w < 4) : (mb f >>> (nI w &&& 31)) &&& 1 = nI (f w).toNat :=
  mb_cases (P := fun w => (mb f >>> (nI w &&& 31)) &&& 1 = nI (f w).toNat) (mb4_sh0 _ _ _ _) (mb4_sh1 _ _ _ _) (mb4_sh2 _ _ _ _) (mb4_sh3 _ _ _ _) h
theorem mb4_or0 : ∀ a b c d : Bool, (mb4 a b c d ||| ((1 : Int32) <<< (nI 0 &&& 31))).toInt8.toInt32.toInt8.toInt32 = mb4 true b c d := by decide +kernel
theorem mb4_or1 : ∀ a b c d : Bool, (mb4 a b c d ||| ((1 : Int32) <<< (nI 1 &&& 31))).toInt8.toInt32.toInt8.toInt32 = mb4 a true c d := by decide +kernel
theorem mb4_or2 : ∀ a b c d : Bool, (mb4 a b c d ||| ((1 : Int32) <<< (nI 2 &&& 31))).toInt8.toInt32.toInt8.toInt32 = mb4 a b true d := by decide +kernel
theorem mb4_or3 : ∀ a b c d : Bool, (mb4 a b c d ||| ((1 : Int32) <<< (nI 3 &&& 31))).toInt8.toInt32.toInt8.toInt32 = mb4 a b c true := by decide +kernel
theorem mb_or {f : Nat → Bool} {w : Nat} (h : w < 4) : vp_nar .byte ((mb f ||| ((1 : Int32) <<< (nI w &&& 31))).toInt8.toInt32) = mb (fb f w true) :=
  mb_cases (P := fun w => vp_nar .byte ((mb f ||| ((1 : Int32) <<< (nI w &&& 31))).toInt8.toInt32) = mb (fb f w true)) (mb4_or0 _ _ _ _) (mb4_or1 _ _ _ _) (mb4_or2 _ _ _ _) (mb4_or3 _ _ _ _) h
theorem mb4_an0 : ∀ a b c d : Bool, (mb4 a b c d &&& (((1 : Int32) <<< (nI 0 &&& 31)) ^^^ (-1))).toInt8.toInt32.toInt8.toInt32 = mb4 false b c d := by decide +kernel
theorem mb4_an1 : ∀ a b c d : Bool, (mb4 a b c d &&& (((1 : Int32) <<< (nI 1 &&& 31)) ^^^ (-1))).toInt8.toInt32.toInt8.toInt32 = mb4 a false c d := by decide +kernel
theorem mb4_an2 : ∀ a b c d : Bool, (mb4 a b c d &&& (((1 : Int32) <<< (nI 2 &&& 31)) ^^^ (-1))).toInt8.toInt32.toInt8.toInt32 = mb4 a b false d := by decide +kernel
theorem mb4_an3 : ∀ a b c d : Bool, (mb4 a b c d &&& (((1 : Int32) <<< (nI 3 &&& 31)) ^^^ (-1))).toInt8.toInt32.toInt8.toInt32 = mb4 a b c false := by decide +kernel
theorem mb_an {f : Nat → Bool} {w : Nat} (h : w < 4) : vp_nar .byte ((mb f &&& (((1 : Int32) <<< (nI w &&& 31)) ^^^ (-1))).toInt8.toInt32) = mb (fb f w false) :=
  mb_cases (P := fun w => vp_nar .byte ((mb f &&& (((1 : Int32) <<< (nI w &&& 31)) ^^^ (-1))).toInt8.toInt32) = mb (fb f w false)) (mb4_an0 _ _ _ _) (mb4_an1 _ _ _ _) (mb4_an2 _ _ _ _) (mb4_an3 _ _ _ _) h
theorem mb4_nar : ∀ a b c d : Bool, (mb4 a b c d).toInt8.toInt32 = mb4 a b c d := by decide +kernel
theorem mb_nar (f : Nat → Bool) : vp_nar .byte (mb f) = mb f := mb4_nar _ _ _ _
theorem mb4_inj : ∀ a b c d a' b' c' d' : Bool, mb4 a b c d = mb4 a' b' c' d' → a = a' ∧ b = b' ∧ c = c' ∧ d = d' := by decide +kernel
theorem mb_inj {f g : Nat → Bool} (h : mb f = mb g) {w : Nat} (hw : w < 4) : f w = g w := by
  obtain ⟨h0, h1, h2, h3⟩ := mb4_inj _ _ _ _ _ _ _ _ h
  exact mb_cases (P := fun w => f w = g w) h0 h1 h2 h3 hw
theorem mb_ext {f g : Nat → Bool} (h : ∀ w, w < 4 → f w = g w) : mb f = mb g := by
  unfold mb; rw [h 0 (by omega), h 1 (by omega), h 2 (by omega), h 3 (by omega)]
theorem mb_0 : mb (fun _ => false) = 0 := by decide +kernel
theorem mb_z {f : Nat → Bool} : mb f = 0 ↔ ∀ w, w < 4 → f w = false := by
  constructor
  · intro h w hw; rw [← mb_0] at h; exact mb_inj h hw
  · intro h; rw [← mb_0]; exact mb_ext h
/-- the hash, and the ways -/
def mp_hs (k : Int32) : Int32 :=
  (((k * (-1640531535)) ^^^ (((k * (-1640531535)).toUInt32 >>> ((15 : Int32).toUInt32 &&& Int32.toUInt32 31)).toInt32)).toUInt32 >>> ((7 : Int32).toUInt32 &&& Int32.toUInt32 31)).toInt32 &&& 255
def mp_wy (k : Int32) (l : Nat) : Nat := ((mp_hs k >>> ((2 * nI l) &&& 31)) &&& 3).toNatClampNeg
theorem mp_wy_e (k : Int32) (l : Nat) : (mp_hs k >>> ((2 * nI l) &&& 31)) &&& 3 = nI (mp_wy k l) ∧ mp_wy k l < 4 := by
  obtain ⟨j, hj, e⟩ := pk_andE (mp_hs k >>> ((2 * nI l) &&& 31)) (m := 3) 2 (by decide)
  unfold mp_wy
  rw [e, nI_clamp (by omega)]
  exact ⟨rfl, hj⟩
theorem mp_wy_lt (k : Int32) (l : Nat) : mp_wy k l < 4 := (mp_wy_e k l).2
theorem xm_hash {post : Int32 → Prop} {k : Int32} (h : post (mp_hs k)) : wpX_hash post k := nm_e (nm_e h)
theorem xm_way {post : Int32 → Prop} {k : Int32} {l : Nat} (h : post (nI (mp_wy k l))) : wpX_way post (mp_hs k) (nI l) := by
  unfold wpX_way; rw [(mp_wy_e k l).1]; exact h
theorem xm_bit {post : Int32 → Prop} {f : Nat → Bool} {w : Nat} (hw : w < 4) (h0 : f w = false → post 0) (h1 : f w = true → post 1) : wpX_bit post (mb f) (nI w) := by
  unfold wpX_bit
  rw [mb_bit hw]
  refine br_c h0 (fun c => h1 ?_)
  cases h : f w
  · exact absurd h c
  · rfl
abbrev MH : Type := (Nat → Int32) × (Nat → Int32) × (Nat → Int32) × (Nat → Int32) × (Nat → Int32)
def mp_sub (l w : Nat) (es : List (Int32 × Int32)) : List (Int32 × Int32) := es.filter (fun e => mp_wy e.1 l == w)
/-- a bucket: four keys a node -/
def mp_B (F : Nat → Prop) (m : MH) : Nat → Int32 → List (Int32 × Int32) → Prop
  | 0 => fun x es => x = -1 ∧ es = []
  | d + 1 => fun x es => (x = -1 ∧ es = []) ∨ ∃ n, n < 720 ∧ x = nI n ∧ F n ∧ es ≠ [] ∧ m.1 n = mb (fun w => decide (w < es.length)) ∧ m.2.1 n = mb (fun _ => false) ∧
      (∀ w, w < 4 → w < es.length → m.2.2.2.1 (4 * n + w) = (es.getD w (0, 0)).1 ∧ m.2.2.2.2 (4 * n + w) = (es.getD w (0, 0)).2) ∧ mp_B F m d (m.2.2.1 n) (es.drop 4)
/-- the trie of a list of entries, r levels above the buckets -/
def mp_R (F : Nat → Prop) (m : MH) : Nat → Int32 → List (Int32 × Int32) → Prop
  | 0 => fun x es => es ≠ [] ∧ ∃ d, mp_B F m d x es
  | r + 1 => fun x es => ∃ n, n < 720 ∧ x = nI n ∧ F n ∧ m.2.2.1 n = -1 ∧ m.1 n = mb (fun w => decide ((mp_sub (3 - r) w es).length = 1)) ∧
      m.2.1 n = mb (fun w => decide (2 ≤ (mp_sub (3 - r) w es).length)) ∧
      ∀ w, w < 4 → (∀ e, mp_sub (3 - r) w es = [e] → m.2.2.2.1 (4 * n + w) = e.1 ∧ m.2.2.2.2 (4 * n + w) = e.2) ∧
        (2 ≤ (mp_sub (3 - r) w es).length → mp_R F m r (m.2.2.2.1 (4 * n + w)) (mp_sub (3 - r) w es))
def mp_X (F : Nat → Prop) (m : MH) (F' : Nat → Prop) (m' : MH) : Prop :=
  (∀ n, F n → F' n) ∧ ∀ n, n < 720 → F n → m'.1 n = m.1 n ∧ m'.2.1 n = m.2.1 n ∧ m'.2.2.1 n = m.2.2.1 n ∧
    ∀ w, w < 4 → m'.2.2.2.1 (4 * n + w) = m.2.2.2.1 (4 * n + w) ∧ m'.2.2.2.2 (4 * n + w) = m.2.2.2.2 (4 * n + w)
theorem mp_X_r {F : Nat → Prop} {m : MH} : mp_X F m F m := ⟨fun _ z => z, fun _ _ _ => ⟨rfl, rfl, rfl, fun _ _ => ⟨rfl, rfl⟩⟩⟩
theorem mp_X_t {F F' F'' : Nat → Prop} {m m' m'' : MH} (a : mp_X F m F' m') (b : mp_X F' m' F'' m'') : mp_X F m F'' m'' := by
  refine ⟨fun n z => b.1 n (a.1 n z), fun n hn z => ?_⟩
  obtain ⟨a1, a2, a3, a4⟩ := a.2 n hn z
  obtain ⟨b1, b2, b3, b4⟩ := b.2 n hn (a.1 n z)
  exact ⟨b1.trans a1, b2.trans a2, b3.trans a3, fun w hw => ⟨(b4 w hw).1.trans (a4 w hw).1, (b4 w hw).2.trans (a4 w hw).2⟩⟩
theorem mp_B_m {F F' : Nat → Prop} {m m' : MH} (X : mp_X F m F' m') : ∀ {d : Nat} {x : Int32} {es : List (Int32 × Int32)}, mp_B F m d x es → mp_B F' m' d x es := by
  intro d
  induction d with
  | zero => exact fun z => z
  | succ d ih =>
    rintro x es (z | ⟨n, n1, n2, n3, n4, n5, n6, n7, n8⟩)
    · exact Or.inl z
    · obtain ⟨e1, e2, e3, e4⟩ := X.2 n n1 n3
      refine Or.inr ⟨n, n1, n2, X.1 n n3, n4, e1.trans n5, e2.trans n6, fun w w1 w2 => ?_, ?_⟩
      · rw [(e4 w w1).1, (e4 w w1).2]; exact n7 w w1 w2
      · rw [e3]; exact ih n8
theorem mp_R_m {F F' : Nat → Prop} {m m' : MH} (X : mp_X F m F' m') : ∀ {r : Nat} {x : Int32} {es : List (Int32 × Int32)}, mp_R F m r x es → mp_R F' m' r x es := by
  intro r
  induction r with
  | zero => rintro x es ⟨z, d, hB⟩; exact ⟨z, d, mp_B_m X hB⟩
  | succ r ih =>
    rintro x es ⟨n, n1, n2, n3, n4, n5, n6, n7⟩
    obtain ⟨e1, e2, e3, e4⟩ := X.2 n n1 n3
    refine ⟨n, n1, n2, X.1 n n3, e3.trans n4, e1.trans n5, e2.trans n6, fun w hw => ?_⟩
    rw [(e4 w hw).1, (e4 w hw).2]
    exact ⟨(n7 w hw).1, fun z => ih ((n7 w hw).2 z)⟩
theorem mp_o {F : Nat → Prop} {m : MH} {r : Nat} {x : Int32} {es : List (Int32 × Int32)} (H : mp_R F m r x es) : ∃ n, n < 720 ∧ x = nI n ∧ F n := by
  cases r with
  | zero =>
    obtain ⟨z, d, hB⟩ := H
    cases d with
    | zero => exact absurd hB.2 z
    | succ d =>
      rcases hB with q | ⟨n, n1, n2, n3, _⟩
      · exact absurd q.2 z
      · exact ⟨n, n1, n2, n3⟩
  | succ r => obtain ⟨n, n1, n2, n3, _⟩ := H; exact ⟨n, n1, n2, n3⟩
/-- but for node n nothing has changed -/
def mp_O (n : Nat) (m m' : MH) : Prop :=
  ∀ j, j < 720 → j ≠ n → m'.1 j = m.1 j ∧ m'.2.1 j = m.2.1 j ∧ m'.2.2.1 j = m.2.2.1 j ∧
    ∀ w, w < 4 → m'.2.2.2.1 (4 * j + w) = m.2.2.2.1 (4 * j + w) ∧ m'.2.2.2.2 (4 * j + w) = m.2.2.2.2 (4 * j + w)
theorem mp_O_t {n : Nat} {m m' m'' : MH} (a : mp_O n m m') (b : mp_O n m' m'') : mp_O n m m'' := by
  intro j hj z
  obtain ⟨a1, a2, a3, a4⟩ := a j hj z
  obtain ⟨b1, b2, b3, b4⟩ := b j hj z
  exact ⟨b1.trans a1, b2.trans a2, b3.trans a3, fun w hw => ⟨(b4 w hw).1.trans (a4 w hw).1, (b4 w hw).2.trans (a4 w hw).2⟩⟩
theorem mp_O_X {n : Nat} {m m' : MH} {F F' : Nat → Prop} (a : mp_O n m m') (h1 : ∀ j, F j → F' j) (h2 : ∀ j, F j → j ≠ n) : mp_X F m F' m' := ⟨h1, fun j hj hF => a j hj (h2 j hF)⟩
/-- a node's contents -/
def mp_N (m : MH) (n : Nat) (f g : Nat → Bool) (mo : Int32) (ks vs : Nat → Int32) : Prop :=
  m.1 n = mb f ∧ m.2.1 n = mb g ∧ m.2.2.1 n = mo ∧ ∀ w, w < 4 → m.2.2.2.1 (4 * n + w) = ks w ∧ m.2.2.2.2 (4 * n + w) = vs w
theorem mp_N_X {F F' : Nat → Prop} {m m' : MH} (X : mp_X F m F' m') {n : Nat} (hn : n < 720) (hF : F n) {f g : Nat → Bool} {mo : Int32} {ks vs : Nat → Int32} (h : mp_N m n f g mo ks vs) : mp_N m' n f g mo ks vs := by
  obtain ⟨e1, e2, e3, e4⟩ := X.2 n hn hF
  exact ⟨e1.trans h.1, e2.trans h.2.1, e3.trans h.2.2.1, fun w hw => ⟨(e4 w hw).1.trans (h.2.2.2 w hw).1, (e4 w hw).2.trans (h.2.2.2 w hw).2⟩⟩
theorem mp_N_O {m m' : MH} {n j : Nat} (O : mp_O n m m') (hj : j < 720) (hne : j ≠ n) {f g : Nat → Bool} {mo : Int32} {ks vs : Nat → Int32} (h : mp_N m j f g mo ks vs) : mp_N m' j f g mo ks vs := by
  obtain ⟨e1, e2, e3, e4⟩ := O j hj hne
  exact ⟨e1.trans h.1, e2.trans h.2.1, e3.trans h.2.2.1, fun w hw => ⟨(e4 w hw).1.trans (h.2.2.2 w hw).1, (e4 w hw).2.trans (h.2.2.2 w hw).2⟩⟩
end
section
/-! mapNode, mapCopy, enter, lead -/
theorem ps_4 (p j : Nat) : (4 : Int32) * nI p + nI j = nI (4 * p + j) := by
  show nI 4 * nI p + nI j = _
  rw [pk_mul, nI_add]
section
variable {f_mapRoom f_listRoom f_depth f_many f_first f_second : Int32} {a_held a_root a_data a_links a_more a_keys a_values a_mapMark a_mapFree a_left a_right a_height a_size a_element a_listMark a_listFree a_path a_turns a_stack a_other a_gathered a_worth a_spareKey a_spareValue a_low a_high a_before a_behind : Nat → Int32} {a_total : Nat → Int64}
variable {fr : Nat → Int32} {r : Nat} {m : MH}
theorem xm_mapNode {post : Int32 → SX → Prop} (hI : ps_I fr 720 (r + 1))
    (hp : ∀ n m', n < 720 → ps_F fr r n → (∀ j, ps_F fr (r + 1) j → j ≠ n) → mp_O n m m' → (∃ ks vs, mp_N m' n (fun _ => false) (fun _ => false) (-1) ks vs) → post (nI n) (nI r, f_listRoom, f_depth, f_many, f_first, f_second, a_held, a_root, m'.1, m'.2.1, m'.2.2.1, m'.2.2.2.1, m'.2.2.2.2, a_mapMark, fr, a_left, a_right, a_height, a_size, a_element, a_total, a_listMark, a_listFree, a_path, a_turns, a_stack, a_other, a_gathered, a_worth, a_spareKey, a_spareValue, a_low, a_high, a_before, a_behind)) :
    wpX_mapNode post (nI (r + 1), f_listRoom, f_depth, f_many, f_first, f_second, a_held, a_root, m.1, m.2.1, m.2.2.1, m.2.2.2.1, m.2.2.2.2, a_mapMark, fr, a_left, a_right, a_height, a_size, a_element, a_total, a_listMark, a_listFree, a_path, a_turns, a_stack, a_other, a_gathered, a_worth, a_spareKey, a_spareValue, a_low, a_high, a_before, a_behind) := by
  obtain ⟨n, hn, en, hF, hne⟩ := ps_pop (by omega) hI
  have hr := hI.1
  refine nm_r (nI_pred r) ⟨by rw [nI_pred]; exact vp_in_nI (by omega) (by omega), nm_r (e' := nI n) (by rw [nI_pred, nI_clamp (by omega)]; exact en) ?_⟩
  refine ⟨vp_in_nI hn (by omega), nm_r (e' := upd m.1 n 0) (by rw [nI_clamp (by omega), ps_b0]) ?_⟩
  refine ⟨vp_in_nI hn (by omega), nm_r (e' := upd m.2.1 n 0) (by rw [nI_clamp (by omega), ps_b0]) ?_⟩
  refine ⟨vp_in_nI hn (by omega), nm_r (e' := upd m.2.2.1 n (-1)) (by rw [nI_clamp (by omega), ps_sm]) ?_⟩
  refine hp n (upd m.1 n 0, upd m.2.1 n 0, upd m.2.2.1 n (-1), m.2.2.2.1, m.2.2.2.2) hn hF hne ?_ ?_
  · exact fun j _ z => ⟨pk_un z, pk_un z, pk_un z, fun _ _ => ⟨rfl, rfl⟩⟩
  · refine ⟨fun w => m.2.2.2.1 (4 * n + w), fun w => m.2.2.2.2 (4 * n + w), ?_, ?_, pk_us, fun _ _ => ⟨rfl, rfl⟩⟩
    · rw [mb_0]; exact pk_us
    · rw [mb_0]; exact pk_us
theorem xm_copy31 {post : Int32 → SX → Prop} {n p : Nat} (hn : n < 720) (hq : p < 720) (hpn : p ≠ n) {ky0 vl0 : Nat → Int32}
    (hp : ∀ ky vl, (∀ c, (∀ w, w < 4 → c ≠ 4 * n + w) → ky c = ky0 c ∧ vl c = vl0 c) → (∀ w, w < 4 → ky (4 * n + w) = ky0 (4 * p + w) ∧ vl (4 * n + w) = vl0 (4 * p + w)) → post (nI n) (f_mapRoom, f_listRoom, f_depth, f_many, f_first, f_second, a_held, a_root, a_data, a_links, a_more, ky, vl, a_mapMark, a_mapFree, a_left, a_right, a_height, a_size, a_element, a_total, a_listMark, a_listFree, a_path, a_turns, a_stack, a_other, a_gathered, a_worth, a_spareKey, a_spareValue, a_low, a_high, a_before, a_behind)) :
    ∀ (d : Nat) {N j : Nat} {ky vl : Nat → Int32}, d < N → j + d = 4 → (∀ c, (∀ w, w < 4 → c ≠ 4 * n + w) → ky c = ky0 c ∧ vl c = vl0 c) → (∀ w, w < j → ky (4 * n + w) = ky0 (4 * p + w) ∧ vl (4 * n + w) = vl0 (4 * p + w)) →
    wX_mapCopy_31 post (nI p) (nI n) f_mapRoom f_listRoom f_depth f_many f_first f_second N (nI j) a_held a_root a_data a_links a_more ky vl a_mapMark a_mapFree a_left a_right a_height a_size a_element a_total a_listMark a_listFree a_path a_turns a_stack a_other a_gathered a_worth a_spareKey a_spareValue a_low a_high a_before a_behind := by
  intro d
  induction d with
  | zero =>
    intro N j ky vl hN hj h1 h2
    have e : j = 4 := by omega
    subst e
    cases N with
    | zero => omega
    | succ N => exact br_t (by decide) (hp ky vl h1 h2)
  | succ d ih =>
    intro N j ky vl hN hj h1 h2
    cases N with
    | zero => omega
    | succ N =>
      have o := h1 (4 * p + j) (fun w hw z => hpn (by omega))
      refine br_f (nI_ge (b := 4) (by omega) (by omega)) ⟨by rw [ps_4]; exact vp_in_nI (by omega) (by omega), by rw [ps_4]; exact vp_in_nI (by omega) (by omega), nm_r (e' := upd ky (4 * n + j) (ky0 (4 * p + j))) (by rw [ps_4, ps_4, nI_clamp (by omega), nI_clamp (by omega), o.1]) ?_⟩
      refine ⟨by rw [ps_4]; exact vp_in_nI (by omega) (by omega), by rw [ps_4]; exact vp_in_nI (by omega) (by omega), nm_r (e' := upd vl (4 * n + j) (vl0 (4 * p + j))) (by rw [ps_4, ps_4, nI_clamp (by omega), nI_clamp (by omega), o.2]) (nm_r (nI_1 j) ?_)⟩
      refine ih (by omega) (by omega) (fun c hc => ?_) (fun w hw => ?_)
      · rw [pk_un (hc j (by omega)), pk_un (hc j (by omega))]; exact h1 c hc
      · by_cases z : w = j
        · subst z; rw [pk_us, pk_us]; exact ⟨rfl, rfl⟩
        · rw [pk_un (by omega), pk_un (by omega)]; exact h2 w (by omega)
theorem xm_mapCopy {post : Int32 → SX → Prop} {p : Nat} {f g : Nat → Bool} {mo : Int32} {ks vs : Nat → Int32} (hI : ps_I fr 720 (r + 1)) (hq : p < 720) (hF : ps_F fr (r + 1) p) (hN : mp_N m p f g mo ks vs)
    (hp : ∀ n m', n < 720 → ps_F fr r n → (∀ j, ps_F fr (r + 1) j → j ≠ n) → mp_O n m m' → mp_N m' n f g (-1) ks vs → post (nI n) (nI r, f_listRoom, f_depth, f_many, f_first, f_second, a_held, a_root, m'.1, m'.2.1, m'.2.2.1, m'.2.2.2.1, m'.2.2.2.2, a_mapMark, fr, a_left, a_right, a_height, a_size, a_element, a_total, a_listMark, a_listFree, a_path, a_turns, a_stack, a_other, a_gathered, a_worth, a_spareKey, a_spareValue, a_low, a_high, a_before, a_behind)) :
    wpX_mapCopy post (nI (r + 1), f_listRoom, f_depth, f_many, f_first, f_second, a_held, a_root, m.1, m.2.1, m.2.2.1, m.2.2.2.1, m.2.2.2.2, a_mapMark, fr, a_left, a_right, a_height, a_size, a_element, a_total, a_listMark, a_listFree, a_path, a_turns, a_stack, a_other, a_gathered, a_worth, a_spareKey, a_spareValue, a_low, a_high, a_before, a_behind) (nI p) := by
  unfold wpX_mapCopy
  refine xm_mapNode hI (fun n m' hn hFn hne hO hZ => ?_)
  obtain ⟨ks0, vs0, hZ⟩ := hZ
  have hpn := hne p hF
  have hNp := mp_N_O hO hq hpn hN
  refine ⟨vp_in_nI hq (by omega), vp_in_nI hn (by omega), nm_r (e' := upd m'.1 n (mb f)) (by rw [nI_clamp (by omega), nI_clamp (by omega), hNp.1, mb_nar]) ⟨vp_in_nI hq (by omega), vp_in_nI hn (by omega), nm_r (e' := upd m'.2.1 n (mb g)) (by rw [nI_clamp (by omega), nI_clamp (by omega), hNp.2.1, mb_nar]) ⟨5, ?_⟩⟩⟩
  refine xm_copy31 hn hq hpn (ky0 := m'.2.2.2.1) (vl0 := m'.2.2.2.2) ?_ 4 (j := 0) (by omega) (by omega) (fun _ _ => ⟨rfl, rfl⟩) (fun w hw => absurd hw (by omega))
  intro ky vl h1 h2
  refine hp n (upd m'.1 n (mb f), upd m'.2.1 n (mb g), m'.2.2.1, ky, vl) hn hFn hne ?_ ?_
  · refine mp_O_t hO (fun j hj z => ⟨pk_un z, pk_un z, rfl, fun w hw => h1 _ (fun w' hw' q => z (by omega))⟩)
  · refine ⟨pk_us, pk_us, hZ.2.2.1, fun w hw => ?_⟩
    have a := h2 w hw
    have b := hNp.2.2.2 w hw
    exact ⟨a.1.trans b.1, a.2.trans b.2⟩
theorem xm_enter {post : SX → Prop} {n w : Nat} {k v : Int32} {f g : Nat → Bool} {mo : Int32} {ks vs : Nat → Int32} (hn : n < 720) (hw : w < 4) (hN : mp_N m n f g mo ks vs)
    (hp : ∀ m', mp_O n m m' → mp_N m' n (fb f w true) (fb g w false) mo (upd ks w k) (upd vs w v) → post (f_mapRoom, f_listRoom, f_depth, f_many, f_first, f_second, a_held, a_root, m'.1, m'.2.1, m'.2.2.1, m'.2.2.2.1, m'.2.2.2.2, a_mapMark, a_mapFree, a_left, a_right, a_height, a_size, a_element, a_total, a_listMark, a_listFree, a_path, a_turns, a_stack, a_other, a_gathered, a_worth, a_spareKey, a_spareValue, a_low, a_high, a_before, a_behind)) :
    wpX_enter post (f_mapRoom, f_listRoom, f_depth, f_many, f_first, f_second, a_held, a_root, m.1, m.2.1, m.2.2.1, m.2.2.2.1, m.2.2.2.2, a_mapMark, a_mapFree, a_left, a_right, a_height, a_size, a_element, a_total, a_listMark, a_listFree, a_path, a_turns, a_stack, a_other, a_gathered, a_worth, a_spareKey, a_spareValue, a_low, a_high, a_before, a_behind) (nI n) (nI w) k v := by
  refine And.intro (vp_in_nI hn (by omega)) ⟨vp_in_nI hn (by omega), nm_r (e' := upd m.1 n (mb (fb f w true))) (by rw [nI_clamp (by omega), hN.1, mb_or hw]) ?_⟩
  refine ⟨vp_in_nI hn (by omega), vp_in_nI hn (by omega), nm_r (e' := upd m.2.1 n (mb (fb g w false))) (by rw [nI_clamp (by omega), hN.2.1, mb_an hw]) ?_⟩
  refine ⟨by rw [ps_4]; exact vp_in_nI (by omega) (by omega), nm_r (e' := upd m.2.2.2.1 (4 * n + w) k) (by rw [ps_4, nI_clamp (by omega)]) ?_⟩
  refine ⟨by rw [ps_4]; exact vp_in_nI (by omega) (by omega), nm_r (e' := upd m.2.2.2.2 (4 * n + w) v) (by rw [ps_4, nI_clamp (by omega)]) ?_⟩
  refine hp (upd m.1 n (mb (fb f w true)), upd m.2.1 n (mb (fb g w false)), m.2.2.1, upd m.2.2.2.1 (4 * n + w) k, upd m.2.2.2.2 (4 * n + w) v) ?_ ?_
  · exact fun j hj z => ⟨pk_un z, pk_un z, rfl, fun w' hw' => ⟨pk_un (by omega), pk_un (by omega)⟩⟩
  · refine ⟨pk_us, pk_us, hN.2.2.1, fun w' hw' => ?_⟩
    by_cases c : w' = w
    · subst c; exact ⟨pk_us.trans pk_us.symm, pk_us.trans pk_us.symm⟩
    · have b := hN.2.2.2 w' hw'
      exact ⟨((pk_un (by omega)).trans b.1).trans (pk_un c).symm, ((pk_un (by omega)).trans b.2).trans (pk_un c).symm⟩
theorem xm_lead {post : SX → Prop} {n w : Nat} {k : Int32} {f g : Nat → Bool} {mo : Int32} {ks vs : Nat → Int32} (hn : n < 720) (hw : w < 4) (hN : mp_N m n f g mo ks vs)
    (hp : ∀ m', mp_O n m m' → mp_N m' n (fb f w false) (fb g w true) mo (upd ks w k) (upd vs w 0) → post (f_mapRoom, f_listRoom, f_depth, f_many, f_first, f_second, a_held, a_root, m'.1, m'.2.1, m'.2.2.1, m'.2.2.2.1, m'.2.2.2.2, a_mapMark, a_mapFree, a_left, a_right, a_height, a_size, a_element, a_total, a_listMark, a_listFree, a_path, a_turns, a_stack, a_other, a_gathered, a_worth, a_spareKey, a_spareValue, a_low, a_high, a_before, a_behind)) :
    wpX_lead post (f_mapRoom, f_listRoom, f_depth, f_many, f_first, f_second, a_held, a_root, m.1, m.2.1, m.2.2.1, m.2.2.2.1, m.2.2.2.2, a_mapMark, a_mapFree, a_left, a_right, a_height, a_size, a_element, a_total, a_listMark, a_listFree, a_path, a_turns, a_stack, a_other, a_gathered, a_worth, a_spareKey, a_spareValue, a_low, a_high, a_before, a_behind) (nI n) (nI w) k := by
  refine And.intro (vp_in_nI hn (by omega)) ⟨vp_in_nI hn (by omega), nm_r (e' := upd m.1 n (mb (fb f w false))) (by rw [nI_clamp (by omega), hN.1, mb_an hw]) ?_⟩
  refine ⟨vp_in_nI hn (by omega), vp_in_nI hn (by omega), nm_r (e' := upd m.2.1 n (mb (fb g w true))) (by rw [nI_clamp (by omega), hN.2.1, mb_or hw]) ?_⟩
  refine ⟨by rw [ps_4]; exact vp_in_nI (by omega) (by omega), nm_r (e' := upd m.2.2.2.1 (4 * n + w) k) (by rw [ps_4, nI_clamp (by omega)]) ?_⟩
  refine ⟨by rw [ps_4]; exact vp_in_nI (by omega) (by omega), nm_r (e' := upd m.2.2.2.2 (4 * n + w) 0) (by rw [ps_4, nI_clamp (by omega)]) ?_⟩
  refine hp (upd m.1 n (mb (fb f w false)), upd m.2.1 n (mb (fb g w true)), m.2.2.1, upd m.2.2.2.1 (4 * n + w) k, upd m.2.2.2.2 (4 * n + w) 0) ?_ ?_
  · exact fun j hj z => ⟨pk_un z, pk_un z, rfl, fun w' hw' => ⟨pk_un (by omega), pk_un (by omega)⟩⟩
  · refine ⟨pk_us, pk_us, hN.2.2.1, fun w' hw' => ?_⟩
    by_cases c : w' = w
    · subst c; exact ⟨pk_us.trans pk_us.symm, pk_us.trans pk_us.symm⟩
    · have b := hN.2.2.2 w' hw'
      exact ⟨((pk_un (by omega)).trans b.1).trans (pk_un c).symm, ((pk_un (by omega)).trans b.2).trans (pk_un c).symm⟩
end
end
section
/-! find -/
theorem ms_get_f {k : Int32} (p : Int32 → Bool) (hp : p k = true) : ∀ {es : List (Int32 × Int32)}, ms_get k (es.filter (fun e => p e.1)) = ms_get k es := by
  intro es
  induction es with
  | nil => rfl
  | cons e es ih =>
    rw [List.filter_cons, ms_get_c]
    by_cases c : k = e.1
    · rw [if_pos (by rw [← c]; exact hp), ms_get_c, if_pos c, if_pos c]
    · by_cases c2 : p e.1 = true
      · rw [if_pos c2, ms_get_c, if_neg c, if_neg c, ih]
      · rw [if_neg c2, if_neg c, ih]
theorem mp_get_sub {k : Int32} {l : Nat} {es : List (Int32 × Int32)} : ms_get k (mp_sub l (mp_wy k l) es) = ms_get k es :=
  ms_get_f (fun x => mp_wy x l == mp_wy k l) (by simp)
theorem mp_len1 {es : List (Int32 × Int32)} (h : es.length = 1) : ∃ e, es = [e] := by
  match es, h with
  | [e], _ => exact ⟨e, rfl⟩
theorem ms_drop {es : List (Int32 × Int32)} {w : Nat} (h : w < es.length) : es.drop w = es.getD w (0, 0) :: es.drop (w + 1) := by
  rw [List.drop_eq_getElem_cons h, List.getD_eq_getElem?_getD, List.getElem?_eq_getElem h]; rfl
section
variable {f_mapRoom f_listRoom f_depth f_many f_first f_second : Int32} {a_held a_root a_data a_links a_more a_keys a_values a_mapMark a_mapFree a_left a_right a_height a_size a_element a_listMark a_listFree a_path a_turns a_stack a_other a_gathered a_worth a_spareKey a_spareValue a_low a_high a_before a_behind : Nat → Int32} {a_total : Nat → Int64}
variable {F : Nat → Prop} {m : MH} {k : Int32} {post : Int32 → Prop}
theorem xm_find112 {J : Int32 → Prop} {n : Nat} {es : List (Int32 × Int32)} {mo : Int32} (hn : n < 720) (hd : m.1 n = mb (fun w => decide (w < es.length))) (hmo : m.2.2.1 n = mo)
    (hk : ∀ w, w < 4 → w < es.length → m.2.2.2.1 (4 * n + w) = (es.getD w (0, 0)).1 ∧ m.2.2.2.2 (4 * n + w) = (es.getD w (0, 0)).2)
    (hf : ∀ c v, c < 2880 → ms_get k es = some v → m.2.2.2.2 c = v → post (nI c)) (hJ : ms_get k es = ms_get k (es.drop 4) → J mo) :
    ∀ (d : Nat) {N w : Nat}, d < N → w + d = 4 → ms_get k es = ms_get k (es.drop w) → wX_find_112 post J k (nI n) f_mapRoom f_listRoom f_depth f_many f_first f_second a_held a_root m.1 m.2.1 m.2.2.1 m.2.2.2.1 m.2.2.2.2 a_mapMark a_mapFree a_left a_right a_height a_size a_element a_total a_listMark a_listFree a_path a_turns a_stack a_other a_gathered a_worth a_spareKey a_spareValue a_low a_high a_before a_behind N (nI w) := by
  intro d
  induction d with
  | zero =>
    intro N w hN hw hg
    have e : w = 4 := by omega
    subst e
    cases N with
    | zero => omega
    | succ N => exact br_t (by decide) ⟨vp_in_nI hn (by omega), nm_r (e' := mo) (by rw [nI_clamp (by omega)]; exact hmo) (hJ hg)⟩
  | succ d ih =>
    intro N w hN hw hg
    cases N with
    | zero => omega
    | succ N =>
      refine br_f (nI_ge (b := 4) (by omega) (by omega)) ⟨vp_in_nI hn (by omega), ?_⟩
      rw [nI_clamp (n := n) (by omega), hd]
      refine xm_bit (by omega) (fun c => br_t rfl (nm_r (nI_1 w) (ih (by omega) (by omega) ?_))) (fun c => br_f (by decide) ⟨by rw [ps_4]; exact vp_in_nI (by omega) (by omega), ?_⟩)
      · have z : es.length ≤ w := by simpa using c
        rw [hg, List.drop_of_length_le z, List.drop_of_length_le (by omega)]
      · have z : w < es.length := by simpa using c
        have q := hk w (by omega) z
        rw [ms_drop z, ms_get_c] at hg
        rw [ps_4, nI_clamp (n := 4 * n + w) (by omega), q.1]
        refine br_c (fun c2 => ?_) (fun c2 => nm_r (nI_1 w) (ih (by omega) (by omega) ?_))
        · exact hf _ _ (by omega) (by rw [hg, if_pos c2.symm]) q.2
        · rw [hg, if_neg (fun z => c2 z.symm)]
theorem xm_find104 : ∀ (d : Nat) {N : Nat} {x : Int32} {es : List (Int32 × Int32)}, d < N → mp_B F m d x es →
    (∀ c v, c < 2880 → ms_get k es = some v → m.2.2.2.2 c = v → post (nI c)) → (ms_get k es = none → post (-1)) → wX_find_104 post k f_mapRoom f_listRoom f_depth f_many f_first f_second a_held a_root m.1 m.2.1 m.2.2.1 m.2.2.2.1 m.2.2.2.2 a_mapMark a_mapFree a_left a_right a_height a_size a_element a_total a_listMark a_listFree a_path a_turns a_stack a_other a_gathered a_worth a_spareKey a_spareValue a_low a_high a_before a_behind N x := by
  intro d
  induction d with
  | zero =>
    rintro N x es hN ⟨rfl, rfl⟩ hf hn
    cases N with
    | zero => omega
    | succ N => exact br_t ps_m1lt (hn rfl)
  | succ d ih =>
    intro N x es hN hB hf hn
    cases N with
    | zero => omega
    | succ N =>
      rcases hB with ⟨rfl, rfl⟩ | ⟨n, n1, rfl, n3, n4, n5, n6, n7, n8⟩
      · exact br_t ps_m1lt (hn rfl)
      · refine br_f (nI_pos (by omega)) ⟨5, xm_find112 n1 n5 rfl n7 hf (fun e => ?_) 4 (w := 0) (by omega) (by omega) rfl⟩
        exact ih (by omega) n8 (fun c v h1 h2 h3 => hf c v h1 (e.trans h2) h3) (fun h => hn (e.trans h))
theorem xm_find11 : ∀ (r : Nat) {N : Nat} {x : Int32} {es : List (Int32 × Int32)}, r ≤ 4 → r < N → mp_R F m r x es →
    (∀ c v, c < 2880 → ms_get k es = some v → m.2.2.2.2 c = v → post (nI c)) → (ms_get k es = none → post (-1)) → wX_find_11 post k (mp_hs k) f_mapRoom f_listRoom f_depth f_many f_first f_second a_held a_root m.1 m.2.1 m.2.2.1 m.2.2.2.1 m.2.2.2.2 a_mapMark a_mapFree a_left a_right a_height a_size a_element a_total a_listMark a_listFree a_path a_turns a_stack a_other a_gathered a_worth a_spareKey a_spareValue a_low a_high a_before a_behind N x (nI (4 - r)) := by
  intro r
  induction r with
  | zero =>
    rintro N x es _ hN ⟨_, d, hB⟩ hf hn
    cases N with
    | zero => omega
    | succ N => exact br_t (by decide) ⟨d + 1, xm_find104 d (by omega) hB hf hn⟩
  | succ r ih =>
    rintro N x es hr hN ⟨n, n1, rfl, n3, n4, n5, n6, n7⟩ hf hn
    have hl : 4 - (r + 1) = 3 - r := by omega
    have hw := mp_wy_lt k (3 - r)
    have hg : ms_get k (mp_sub (3 - r) (mp_wy k (3 - r)) es) = ms_get k es := mp_get_sub
    obtain ⟨n8, n9⟩ := n7 _ hw
    cases N with
    | zero => omega
    | succ N =>
      rw [hl]
      refine br_f (nI_ge (b := 4) (by omega) (by omega)) (br_f (nI_pos (by omega)) (xm_way (nm_r (ps_4 n _) ⟨vp_in_nI n1 (by omega), ?_⟩)))
      rw [nI_clamp (n := n) (by omega), n5, n6]
      refine xm_bit hw (fun c => br_t rfl ⟨vp_in_nI n1 (by omega), xm_bit hw (fun c2 => br_t rfl ?_) (fun c2 => br_f (by decide) ⟨vp_in_nI (by omega) (by omega), nm_r (e' := m.2.2.2.1 (4 * n + mp_wy k (3 - r))) (by rw [nI_clamp (by omega)]) (nm_r (e' := nI (4 - r)) (by rw [nI_1]; exact congrArg nI (by omega)) ?_)⟩)⟩) (fun c => br_f (by decide) ⟨vp_in_nI (by omega) (by omega), ?_⟩)
      · have z1 : ¬ (mp_sub (3 - r) (mp_wy k (3 - r)) es).length = 1 := by simpa using c
        have z2 : ¬ 2 ≤ (mp_sub (3 - r) (mp_wy k (3 - r)) es).length := by simpa using c2
        have z3 : mp_sub (3 - r) (mp_wy k (3 - r)) es = [] := List.length_eq_zero_iff.mp (by omega)
        rw [z3] at hg
        exact hn hg.symm
      · have z2 : 2 ≤ (mp_sub (3 - r) (mp_wy k (3 - r)) es).length := by simpa using c2
        exact ih (by omega) (by omega) (n9 z2) (fun c v h1 h2 h3 => hf c v h1 (hg.symm.trans h2) h3) (fun h => hn (hg.symm.trans h))
      · have z1 : (mp_sub (3 - r) (mp_wy k (3 - r)) es).length = 1 := by simpa using c
        obtain ⟨e, he⟩ := mp_len1 z1
        have q := n8 e he
        rw [he, ms_get_c] at hg
        rw [nI_clamp (by omega), q.1]
        refine br_c (fun c2 => hf _ _ (by omega) (by rw [← hg, if_pos c2.symm]) q.2) (fun c2 => hn ?_)
        rw [← hg, if_neg (fun z => c2 z.symm)]; rfl
/-- a map: nothing, or a trie -/
def mp_M (F : Nat → Prop) (m : MH) (x : Int32) (es : List (Int32 × Int32)) : Prop := (x = -1 ∧ es = []) ∨ (es ≠ [] ∧ mp_R F m 4 x es)
theorem xm_find {x : Int32} {es : List (Int32 × Int32)} (hx : mp_M F m x es) (hf : ∀ c v, c < 2880 → ms_get k es = some v → m.2.2.2.2 c = v → post (nI c)) (hn : ms_get k es = none → post (-1)) :
    wpX_find post (f_mapRoom, f_listRoom, f_depth, f_many, f_first, f_second, a_held, a_root, m.1, m.2.1, m.2.2.1, m.2.2.2.1, m.2.2.2.2, a_mapMark, a_mapFree, a_left, a_right, a_height, a_size, a_element, a_total, a_listMark, a_listFree, a_path, a_turns, a_stack, a_other, a_gathered, a_worth, a_spareKey, a_spareValue, a_low, a_high, a_before, a_behind) x k := by
  unfold wpX_find
  refine xm_hash ?_
  rcases hx with ⟨rfl, rfl⟩ | ⟨_, hx⟩
  · exact ⟨1, br_f (by decide) (br_t ps_m1lt ⟨1, br_t ps_m1lt (hn rfl)⟩)⟩
  · exact ⟨5, xm_find11 4 (by omega) (by omega) hx hf hn⟩
end
end
section
/-! gatherBucket, and the ordered insertion -/
def ms_A (g wo : Nat → Int32) (es : List (Int32 × Int32)) : Prop := ps_A g (es.map Prod.fst) ∧ ps_A wo (es.map Prod.snd)
theorem ms_A0 {g wo : Nat → Int32} : ms_A g wo [] := ⟨ps_A0, ps_A0⟩
theorem ms_Ap {g wo : Nat → Int32} {es : List (Int32 × Int32)} {k v : Int32} (h : ms_A g wo es) : ms_A (upd g es.length k) (upd wo es.length v) (es ++ [(k, v)]) := by
  have a := ps_Ap (e := k) h.1
  have b := ps_Ap (e := v) h.2
  rw [List.length_map] at a b
  exact ⟨by rw [List.map_append]; exact a, by rw [List.map_append]; exact b⟩
theorem ms_gd {es : List (Int32 × Int32)} {i : Nat} (h : i < es.length) : (es.map Prod.fst).getD i 0 = (es.getD i (0, 0)).1 ∧ (es.map Prod.snd).getD i 0 = (es.getD i (0, 0)).2 := by
  simp [List.getD_eq_getElem?_getD, List.getElem?_eq_getElem h]
theorem ms_Ag {g wo : Nat → Int32} {es : List (Int32 × Int32)} (h : ms_A g wo es) {i : Nat} (hi : i < es.length) : g i = (es.getD i (0, 0)).1 ∧ wo i = (es.getD i (0, 0)).2 := by
  have z := ms_gd hi
  exact ⟨(h.1 i (by rw [List.length_map]; exact hi)).trans z.1, (h.2 i (by rw [List.length_map]; exact hi)).trans z.2⟩
theorem ms_take {es : List (Int32 × Int32)} {w : Nat} (h : w < es.length) : es.take (w + 1) = es.take w ++ [es.getD w (0, 0)] := by
  rw [← List.take_append_getElem h, List.getD_eq_getElem?_getD, List.getElem?_eq_getElem h]; rfl
section
variable {f_mapRoom f_listRoom f_depth f_many f_first f_second : Int32} {a_held a_root a_data a_links a_more a_keys a_values a_mapMark a_mapFree a_left a_right a_height a_size a_element a_listMark a_listFree a_path a_turns a_stack a_other a_gathered a_worth a_spareKey a_spareValue a_low a_high a_before a_behind : Nat → Int32} {a_total : Nat → Int64}
variable {F : Nat → Prop} {m : MH}
theorem xm_gb13 {post : SX → Prop} {J : Int32 → Int32 → (Nat → Int32) → (Nat → Int32) → (Nat → Int32) → (Nat → Int32) → (Nat → Int32) → (Nat → Int32) → (Nat → Int32) → (Nat → Int32) → (Nat → Int32) → (Nat → Int32) → (Nat → Int32) → (Nat → Int32) → (Nat → Int32) → (Nat → Int32) → (Nat → Int64) → (Nat → Int32) → (Nat → Int32) → (Nat → Int32) → (Nat → Int32) → (Nat → Int32) → (Nat → Int32) → (Nat → Int32) → (Nat → Int32) → (Nat → Int32) → (Nat → Int32) → (Nat → Int32) → (Nat → Int32) → (Nat → Int32) → (Nat → Int32) → Prop} {n : Nat} {es pre : List (Int32 × Int32)} (hn : n < 720) (hd : m.1 n = mb (fun w => decide (w < es.length)))
    (hk : ∀ w, w < 4 → w < es.length → m.2.2.2.1 (4 * n + w) = (es.getD w (0, 0)).1 ∧ m.2.2.2.2 (4 * n + w) = (es.getD w (0, 0)).2) (hl : pre.length + es.length ≤ 64)
    (hJ : ∀ g wo, ms_A g wo (pre ++ es.take 4) → J (m.2.2.1 n) (nI (pre ++ es.take 4).length) a_held a_root m.1 m.2.1 m.2.2.1 m.2.2.2.1 m.2.2.2.2 a_mapMark a_mapFree a_left a_right a_height a_size a_element a_total a_listMark a_listFree a_path a_turns a_stack a_other g wo a_spareKey a_spareValue a_low a_high a_before a_behind) :
    ∀ (d : Nat) {N w L : Nat} {g wo : Nat → Int32}, d < N → w + d = 4 → L = (pre ++ es.take w).length → ms_A g wo (pre ++ es.take w) →
    wX_gatherBucket_13 post J (nI n) f_mapRoom f_listRoom f_depth f_first f_second N (nI w) (nI L) a_held a_root m.1 m.2.1 m.2.2.1 m.2.2.2.1 m.2.2.2.2 a_mapMark a_mapFree a_left a_right a_height a_size a_element a_total a_listMark a_listFree a_path a_turns a_stack a_other g wo a_spareKey a_spareValue a_low a_high a_before a_behind := by
  intro d
  induction d with
  | zero =>
    intro N w L g wo hN hw hL hA
    have e : w = 4 := by omega
    subst e
    subst hL
    cases N with
    | zero => omega
    | succ N => exact br_t (by decide) ⟨vp_in_nI hn (by omega), nm_r (e' := m.2.2.1 n) (by rw [nI_clamp (by omega)]) (hJ g wo hA)⟩
  | succ d ih =>
    intro N w L g wo hN hw hL hA
    cases N with
    | zero => omega
    | succ N =>
      refine br_f (nI_ge (b := 4) (by omega) (by omega)) ⟨vp_in_nI hn (by omega), ?_⟩
      rw [nI_clamp (n := n) (by omega), hd]
      refine xm_bit (by omega) (fun c => br_t rfl (nm_r (nI_1 w) ?_)) (fun c => br_f (by decide) ?_)
      · have z : es.length ≤ w := by simpa using c
        have e : es.take (w + 1) = es.take w := by rw [List.take_of_length_le z, List.take_of_length_le (by omega)]
        exact ih (by omega) (by omega) (by rw [e]; exact hL) (by rw [e]; exact hA)
      · have z : w < es.length := by simpa using c
        have q := hk w (by omega) z
        have e : es.take (w + 1) = es.take w ++ [es.getD w (0, 0)] := ms_take z
        have hlen : (pre ++ es.take w).length = pre.length + w := by rw [List.length_append, List.length_take]; omega
        have e2 : (pre ++ es.take (w + 1)).length = pre.length + w + 1 := by rw [e, ← List.append_assoc, List.length_append, hlen]; rfl
        have hLL : L = pre.length + w := hL.trans hlen
        refine ⟨by rw [ps_4]; exact vp_in_nI (by omega) (by omega), vp_in_nI (by omega) (by omega), nm_r (e' := upd g L (es.getD w (0, 0)).1) (by rw [ps_4, nI_clamp (n := L) (by omega), nI_clamp (by omega), q.1]) (nm_r (nI_1 _) ⟨by rw [ps_4]; exact vp_in_nI (by omega) (by omega), vp_in_nI (by omega) (by omega), nm_r (e' := upd wo L (es.getD w (0, 0)).2) (by rw [ps_4, nI_clamp (n := L) (by omega), nI_clamp (by omega), q.2]) (nm_r (nI_1 w) (ih (by omega) (by omega) (by rw [e2, hLL]) ?_))⟩)⟩
        rw [e, ← List.append_assoc, hL]
        exact ms_Ap hA
theorem xm_gb7 {post : SX → Prop} : ∀ (d : Nat) {N : Nat} {x : Int32} {es pre : List (Int32 × Int32)} {g wo : Nat → Int32}, d < N → mp_B F m d x es → pre.length + es.length ≤ 64 → ms_A g wo pre →
    (∀ g' wo', ms_A g' wo' (pre ++ es) → post (f_mapRoom, f_listRoom, f_depth, nI (pre ++ es).length, f_first, f_second, a_held, a_root, m.1, m.2.1, m.2.2.1, m.2.2.2.1, m.2.2.2.2, a_mapMark, a_mapFree, a_left, a_right, a_height, a_size, a_element, a_total, a_listMark, a_listFree, a_path, a_turns, a_stack, a_other, g', wo', a_spareKey, a_spareValue, a_low, a_high, a_before, a_behind)) →
    wX_gatherBucket_7 post f_mapRoom f_listRoom f_depth f_first f_second N x (nI pre.length) a_held a_root m.1 m.2.1 m.2.2.1 m.2.2.2.1 m.2.2.2.2 a_mapMark a_mapFree a_left a_right a_height a_size a_element a_total a_listMark a_listFree a_path a_turns a_stack a_other g wo a_spareKey a_spareValue a_low a_high a_before a_behind := by
  intro d
  induction d with
  | zero =>
    rintro N x es pre g wo hN ⟨rfl, rfl⟩ hl hA hp
    cases N with
    | zero => omega
    | succ N =>
      have K := hp g wo (by rw [List.append_nil]; exact hA)
      rw [List.append_nil] at K
      exact br_t ps_m1lt K
  | succ d ih =>
    intro N x es pre g wo hN hB hl hA hp
    cases N with
    | zero => omega
    | succ N =>
      rcases hB with ⟨rfl, rfl⟩ | ⟨n, n1, rfl, n3, n4, n5, n6, n7, n8⟩
      · have K := hp g wo (by rw [List.append_nil]; exact hA)
        rw [List.append_nil] at K
        exact br_t ps_m1lt K
      · refine br_f (nI_pos (by omega)) ⟨5, xm_gb13 n1 n5 n7 hl (fun g1 wo1 hA1 => ?_) 4 (w := 0) (by omega) (by omega) (by simp) (by rw [List.take_zero, List.append_nil]; exact hA)⟩
        refine ih (by omega) n8 ?_ hA1 (fun g' wo' hA' => ?_)
        · rw [List.length_append, List.length_take, List.length_drop]; omega
        · rw [List.append_assoc, List.take_append_drop] at hA' ⊢
          exact hp g' wo' hA'
theorem xm_gatherBucket {post : SX → Prop} {x : Int32} {es : List (Int32 × Int32)} (hx : mp_R F m 0 x es) (hl : es.length ≤ 64)
    (hp : ∀ g' wo', ms_A g' wo' es → post (f_mapRoom, f_listRoom, f_depth, nI es.length, f_first, f_second, a_held, a_root, m.1, m.2.1, m.2.2.1, m.2.2.2.1, m.2.2.2.2, a_mapMark, a_mapFree, a_left, a_right, a_height, a_size, a_element, a_total, a_listMark, a_listFree, a_path, a_turns, a_stack, a_other, g', wo', a_spareKey, a_spareValue, a_low, a_high, a_before, a_behind)) : wpX_gatherBucket post (f_mapRoom, f_listRoom, f_depth, f_many, f_first, f_second, a_held, a_root, m.1, m.2.1, m.2.2.1, m.2.2.2.1, m.2.2.2.2, a_mapMark, a_mapFree, a_left, a_right, a_height, a_size, a_element, a_total, a_listMark, a_listFree, a_path, a_turns, a_stack, a_other, a_gathered, a_worth, a_spareKey, a_spareValue, a_low, a_high, a_before, a_behind) x := by
  obtain ⟨_, d, hB⟩ := hx
  exact ⟨d + 1, xm_gb7 d (pre := []) (by omega) hB (by simpa using hl) ms_A0 hp⟩
end
/-! the ordered insertion -/
theorem ps_Ai {a a' : Nat → Int32} {A B : List Int32} {e : Int32} {i : Nat} (h : ps_A a (A ++ B)) (hi : i = A.length) (h1 : ∀ c, c < i → a' c = a c) (h2 : a' i = e)
    (h3 : ∀ c, i < c → c ≤ (A ++ B).length → a' c = a (c - 1)) : ps_A a' (A ++ e :: B) := by
  subst hi
  intro c hc
  rw [List.length_append, List.length_cons] at hc
  rcases Nat.lt_trichotomy c A.length with z | z | z
  · rw [pl_get1 z, h1 c z, h c (by rw [List.length_append]; omega), List.getD_eq_getElem?_getD, List.getElem?_append_left z, List.getD_eq_getElem?_getD]
  · subst z; rw [pl_get0]; exact h2
  · rw [pl_get2 z, h3 c z (by rw [List.length_append]; omega), h (c - 1) (by rw [List.length_append]; omega), List.getD_eq_getElem?_getD, List.getElem?_append_right (by omega), List.getD_eq_getElem?_getD]
    exact congrArg (fun z => (B[z]?).getD 0) (by omega)
theorem ps_Au {a : Nat → Int32} {A B : List Int32} {x y : Int32} {i : Nat} (h : ps_A a (A ++ x :: B)) (hi : i = A.length) : ps_A (upd a i y) (A ++ y :: B) := by
  subst hi
  intro c hc
  rw [List.length_append, List.length_cons] at hc
  have h' := h c (by rw [List.length_append, List.length_cons]; omega)
  rcases Nat.lt_trichotomy c A.length with z | z | z
  · rw [pk_un (by omega), pl_get1 z, h', pl_get1 z]
  · subst z; rw [pl_get0, pk_us]
  · rw [pk_un (by omega), pl_get2 z, h', pl_get2 z]
section
variable {f_mapRoom f_listRoom f_depth f_many f_first f_second : Int32} {a_held a_root a_data a_links a_more a_keys a_values a_mapMark a_mapFree a_left a_right a_height a_size a_element a_listMark a_listFree a_path a_turns a_stack a_other a_gathered a_worth a_spareKey a_spareValue a_low a_high a_before a_behind : Nat → Int32} {a_total : Nat → Int64}
variable {post : SX → Prop} {k v : Int32}
theorem xm_ad59 {i L : Nat} {g0 wo0 : Nat → Int32} (hL : L < 64)
    (hp : ∀ g' wo', (∀ c, c < i → g' c = g0 c ∧ wo' c = wo0 c) → g' i = k → wo' i = v → (∀ c, i < c → c ≤ L → g' c = g0 (c - 1) ∧ wo' c = wo0 (c - 1)) → post (f_mapRoom, f_listRoom, f_depth, nI (L + 1), f_first, f_second, a_held, a_root, a_data, a_links, a_more, a_keys, a_values, a_mapMark, a_mapFree, a_left, a_right, a_height, a_size, a_element, a_total, a_listMark, a_listFree, a_path, a_turns, a_stack, a_other, g', wo', a_spareKey, a_spareValue, a_low, a_high, a_before, a_behind)) :
    ∀ (d : Nat) {N j : Nat} {g wo : Nat → Int32}, d < N → j = i + d → j ≤ L → (∀ c, c ≤ j → g c = g0 c ∧ wo c = wo0 c) → (∀ c, j < c → c ≤ L → g c = g0 (c - 1) ∧ wo c = wo0 (c - 1)) →
    wX_admit_59 post k v (nI i) f_mapRoom f_listRoom f_depth (nI L) f_first f_second N (nI j) a_held a_root a_data a_links a_more a_keys a_values a_mapMark a_mapFree a_left a_right a_height a_size a_element a_total a_listMark a_listFree a_path a_turns a_stack a_other g wo a_spareKey a_spareValue a_low a_high a_before a_behind := by
  intro d
  induction d with
  | zero =>
    rintro N j g wo hN rfl hj h1 h2
    cases N with
    | zero => omega
    | succ N =>
      refine br_t (nI_le (by omega) (by omega)) ⟨vp_in_nI (by omega) (by omega), nm_r (e' := upd g j k) (by rw [nI_clamp (by omega)]) ⟨vp_in_nI (by omega) (by omega), nm_r (e' := upd wo j v) (by rw [nI_clamp (by omega)]) (nm_r (nI_1 L) ?_)⟩⟩
      refine hp _ _ (fun c hc => ?_) pk_us pk_us (fun c c1 c2 => ?_)
      · rw [pk_un (by omega), pk_un (by omega)]; exact h1 c (by omega)
      · rw [pk_un (by omega), pk_un (by omega)]; exact h2 c (by omega) c2
  | succ d ih =>
    rintro N j g wo hN rfl hj h1 h2
    cases N with
    | zero => omega
    | succ N =>
      have e1 : nI (i + (d + 1)) - 1 = nI (i + d) := nI_pred (i + d)
      have q := h1 (i + d) (by omega)
      refine br_f (nI_ge (by omega) (by omega)) ⟨by rw [e1]; exact vp_in_nI (by omega) (by omega), vp_in_nI (by omega) (by omega), nm_r (e' := upd g (i + (d + 1)) (g0 (i + d))) (by rw [e1, nI_clamp (by omega), nI_clamp (by omega), q.1]) ⟨by rw [e1]; exact vp_in_nI (by omega) (by omega), vp_in_nI (by omega) (by omega), nm_r (e' := upd wo (i + (d + 1)) (wo0 (i + d))) (by rw [e1, nI_clamp (by omega), nI_clamp (by omega), q.2]) (nm_r (pk_m1 (i + d)) ?_)⟩⟩
      refine ih (by omega) rfl (by omega) (fun c hc => ?_) (fun c c1 c2 => ?_)
      · rw [pk_un (by omega), pk_un (by omega)]; exact h1 c (by omega)
      · by_cases z : c = i + (d + 1)
        · subst z; rw [pk_us, pk_us]; exact ⟨rfl, rfl⟩
        · rw [pk_un z, pk_un z]; exact h2 c (by omega) c2
theorem xm_admit {es : List (Int32 × Int32)} {g wo : Nat → Int32} (hS : ms_S es) (hA : ms_A g wo es) (hL : es.length < 64)
    (hp : ∀ g' wo', ms_A g' wo' (ms_ins k v es) → post (f_mapRoom, f_listRoom, f_depth, nI (ms_ins k v es).length, f_first, f_second, a_held, a_root, a_data, a_links, a_more, a_keys, a_values, a_mapMark, a_mapFree, a_left, a_right, a_height, a_size, a_element, a_total, a_listMark, a_listFree, a_path, a_turns, a_stack, a_other, g', wo', a_spareKey, a_spareValue, a_low, a_high, a_before, a_behind)) : wpX_admit post (f_mapRoom, f_listRoom, f_depth, nI es.length, f_first, f_second, a_held, a_root, a_data, a_links, a_more, a_keys, a_values, a_mapMark, a_mapFree, a_left, a_right, a_height, a_size, a_element, a_total, a_listMark, a_listFree, a_path, a_turns, a_stack, a_other, g, wo, a_spareKey, a_spareValue, a_low, a_high, a_before, a_behind) k v := by
  have hsplit : ∀ i, i ≤ es.length → es = es.take i ++ es.drop i := fun i _ => (List.take_append_drop i es).symm
  -- the insertion at i
  have put : ∀ i, i ≤ es.length → (∀ a, a ∈ es.take i → a.1 < k) → (∀ a, a ∈ es.drop i → k < a.1) → ∃ n59, wX_admit_59 post k v (nI i) f_mapRoom f_listRoom f_depth (nI es.length) f_first f_second n59 (nI es.length) a_held a_root a_data a_links a_more a_keys a_values a_mapMark a_mapFree a_left a_right a_height a_size a_element a_total a_listMark a_listFree a_path a_turns a_stack a_other g wo a_spareKey a_spareValue a_low a_high a_before a_behind := by
    intro i hi hlo hhi
    have ei : ms_ins k v es = es.take i ++ (k, v) :: es.drop i := by
      have := ms_ins_app (k := k) (v := v) (B := es.drop i) hlo
      rw [List.take_append_drop, ms_ins_all hhi] at this
      exact this
    have eli : (es.take i).length = i := by rw [List.length_take]; omega
    have hlen : (ms_ins k v es).length = es.length + 1 := by
      rw [ei, List.length_append, List.length_cons, eli, List.length_drop]; omega
    refine ⟨es.length - i + 1, xm_ad59 (i := i) (g0 := g) (wo0 := wo) hL ?_ (es.length - i) (by omega) (by omega) (by omega) (fun c _ => ⟨rfl, rfl⟩) (fun c c1 c2 => absurd c2 (by omega))⟩
    intro g' wo' h1 h2 h3 h4
    have K := hp g' wo' ?_
    · rw [hlen] at K; exact K
    · have hA' := hA
      rw [hsplit i hi] at hA'
      have a1 := hA'.1
      have a2 := hA'.2
      rw [List.map_append] at a1 a2
      have tl : (es.take i ++ es.drop i).length = es.length := by rw [List.take_append_drop]
      rw [ei]
      constructor
      · rw [List.map_append, List.map_cons]
        refine ps_Ai a1 (by rw [List.length_map, eli]) (fun c hc => (h1 c hc).1) h2 (fun c c1 c2 => (h4 c c1 ?_).1)
        rw [← List.map_append, List.length_map, tl] at c2; exact c2
      · rw [List.map_append, List.map_cons]
        refine ps_Ai a2 (by rw [List.length_map, eli]) (fun c hc => (h1 c hc).2) h3 (fun c c1 c2 => (h4 c c1 ?_).2)
        rw [← List.map_append, List.length_map, tl] at c2; exact c2
  have scan : ∀ (i : Nat) {N : Nat}, i < N → i ≤ es.length → (∀ a, a ∈ es.drop i → k < a.1) → wX_admit_5 post k v f_mapRoom f_listRoom f_depth (nI es.length) f_first f_second a_held a_root a_data a_links a_more a_keys a_values a_mapMark a_mapFree a_left a_right a_height a_size a_element a_total a_listMark a_listFree a_path a_turns a_stack a_other g wo a_spareKey a_spareValue a_low a_high a_before a_behind N (nI i) := by
    intro i
    induction i with
    | zero =>
      intro N hN _ hhi
      cases N with
      | zero => omega
      | succ N =>
        refine br_t (by decide) (br_t (by decide) ?_)
        exact put 0 (by omega) (fun a ha => absurd ha (by simp)) hhi
    | succ i ih =>
      intro N hN hi hhi
      cases N with
      | zero => omega
      | succ N =>
        have q := ms_Ag hA (i := i) (by omega)
        have ed := ms_drop (es := es) (w := i) (by omega)
        have hS2 := hS
        unfold ms_S at hS2
        rw [hsplit i (by omega), ed, List.pairwise_append] at hS2
        refine br_f (nI_nle (by omega) (by omega)) ⟨by rw [nI_pred]; exact vp_in_nI (by omega) (by omega), ?_⟩
        rw [nI_pred, nI_clamp (by omega), q.1]
        refine br_c (fun c => ?_) (fun c => nm_r (pk_m1 i) (ih (by omega) (by omega) ?_))
        · refine br_f (nI_nle (by omega) (by omega)) ⟨by rw [nI_pred]; exact vp_in_nI (by omega) (by omega), ?_⟩
          rw [nI_pred, nI_clamp (by omega), q.1]
          refine br_c (fun c2 => ⟨vp_in_nI (by omega) (by omega), nm_e ?_⟩) (fun c2 => ?_)
          · have lo : ∀ a, a ∈ es.take i → a.1 < k := fun a ha => c2 ▸ hS2.2.2 a ha _ (by simp)
            have ee : es.getD i (0, 0) = (k, (es.getD i (0, 0)).2) := by rw [← c2]
            have eli : (es.take i).length = i := by rw [List.length_take]; omega
            have ei : ms_ins k v es = es.take i ++ (k, v) :: es.drop (i + 1) := by
              have := ms_ins_app (k := k) (v := v) (B := es.drop i) lo
              rw [List.take_append_drop, ed, ee, ms_ins_eq] at this
              exact this
            have hlen : (ms_ins k v es).length = es.length := by
              rw [ei, List.length_append, List.length_cons, eli, List.length_drop]; omega
            have K := hp g (upd wo i v) ?_
            · rw [hlen] at K; exact K
            · have hA' := hA
              rw [hsplit i (by omega), ed, ee] at hA'
              have a1 := hA'.1
              have a2 := hA'.2
              rw [List.map_append, List.map_cons] at a1 a2
              rw [ei]
              exact ⟨by rw [List.map_append, List.map_cons]; exact a1, by rw [List.map_append, List.map_cons]; exact ps_Au a2 (by rw [List.length_map, eli])⟩
          · have lt : (es.getD i (0, 0)).1 < k := by
              rcases ms_tri (es.getD i (0, 0)).1 k with z | z | z
              · exact z
              · exact absurd z c2
              · exact absurd c (Int32.not_le.mpr z)
            refine put (i + 1) hi (fun a ha => ?_) hhi
            rw [ms_take (by omega), List.mem_append] at ha
            rcases ha with ha | ha
            · exact ms_tr (hS2.2.2 a ha _ (by simp)) lt
            · rw [List.mem_singleton] at ha; rw [ha]; exact lt
        · intro a ha
          rw [ed, List.mem_cons] at ha
          rcases ha with rfl | ha
          · exact Int32.not_le.mp c
          · exact hhi a ha
  exact ⟨es.length + 1, scan es.length (by omega) (by omega) (fun a ha => by rw [List.drop_length] at ha; exact absurd ha (by simp))⟩
end
end
section
/-! bucketOf -/
theorem mp_N_c {m : MH} {n : Nat} {f g f' g' : Nat → Bool} {mo : Int32} {ks vs ks' vs' : Nat → Int32} (h : mp_N m n f g mo ks vs) (hf : ∀ w, w < 4 → f w = f' w) (hg : ∀ w, w < 4 → g w = g' w)
    (hk : ∀ w, w < 4 → ks w = ks' w ∧ vs w = vs' w) : mp_N m n f' g' mo ks' vs' :=
  ⟨h.1.trans (mb_ext hf), h.2.1.trans (mb_ext hg), h.2.2.1, fun w hw => ⟨(h.2.2.2 w hw).1.trans (hk w hw).1, (h.2.2.2 w hw).2.trans (hk w hw).2⟩⟩
theorem mp_B_o {F : Nat → Prop} {m : MH} {d : Nat} {x : Int32} {es : List (Int32 × Int32)} (h : mp_B F m d x es) : ps_o 720 x := by
  cases d with
  | zero => exact Or.inl h.1
  | succ d =>
    rcases h with h | ⟨n, n1, n2, _⟩
    · exact Or.inl h.1
    · exact Or.inr ⟨n, n1, n2⟩
theorem mp_m4 : ∀ a, a < 64 → nI a &&& (-4) = nI (4 * (a / 4)) := by decide +kernel
theorem mp_s4 (c : Nat) : nI (4 * (c + 1)) + (-4) = nI (4 * c) := by
  have e : 4 * (c + 1) = 4 * c + 4 := by omega
  rw [e, ← nI_add, Int32.add_assoc, show nI 4 + (-4) = (0 : Int32) from by decide, Int32.add_zero]
theorem ms_gdrop {es : List (Int32 × Int32)} {a b : Nat} : (es.drop a).getD b (0, 0) = es.getD (a + b) (0, 0) := by
  rw [List.getD_eq_getElem?_getD, List.getD_eq_getElem?_getD, List.getElem?_drop]
/-- in use, but not among S -/
def ps_G (fr : Nat → Int32) (r : Nat) (S : Nat → Prop) (j : Nat) : Prop := ps_F fr r j ∧ ¬ S j
theorem mp_X_w {fr : Nat → Int32} {r r' : Nat} {S : Nat → Prop} {m m' : MH} (X : mp_X (ps_F fr r) m (ps_F fr r') m') : mp_X (ps_G fr r S) m (ps_G fr r' S) m' :=
  ⟨fun j h => ⟨X.1 j h.1, h.2⟩, fun j hj h => X.2 j hj h.1⟩
theorem mp_R_G {fr : Nat → Int32} {r q : Nat} {S : Nat → Prop} {m : MH} {x : Int32} {es : List (Int32 × Int32)} (h : mp_R (ps_G fr r S) m q x es) : mp_R (ps_F fr r) m q x es :=
  mp_R_m ⟨fun _ z => z.1, fun _ _ _ => ⟨rfl, rfl, rfl, fun _ _ => ⟨rfl, rfl⟩⟩⟩ h
section
variable {f_mapRoom f_listRoom f_depth f_many f_first f_second : Int32} {a_held a_root a_data a_links a_more a_keys a_values a_mapMark a_mapFree a_left a_right a_height a_size a_element a_listMark a_listFree a_path a_turns a_stack a_other a_gathered a_worth a_spareKey a_spareValue a_low a_high a_before a_behind : Nat → Int32} {a_total : Nat → Int64}
variable {fr g wo : Nat → Int32} {es : List (Int32 × Int32)}
theorem xm_bo24 {post : Int32 → SX → Prop} {J : Int32 → Int32 → Int32 → Int32 → Int32 → Int32 → Int32 → Int32 → (Nat → Int32) → (Nat → Int32) → (Nat → Int32) → (Nat → Int32) → (Nat → Int32) → (Nat → Int32) → (Nat → Int32) → (Nat → Int32) → (Nat → Int32) → (Nat → Int32) → (Nat → Int32) → (Nat → Int32) → (Nat → Int32) → (Nat → Int32) → (Nat → Int64) → (Nat → Int32) → (Nat → Int32) → (Nat → Int32) → (Nat → Int32) → (Nat → Int32) → (Nat → Int32) → (Nat → Int32) → (Nat → Int32) → (Nat → Int32) → (Nat → Int32) → (Nat → Int32) → (Nat → Int32) → (Nat → Int32) → (Nat → Int32) → Prop} {x : Int32} {n q rm : Nat} {m0 : MH} (hn : n < 720) (hx : ps_o 720 x) (hq : 4 * q < es.length) (hA : ms_A g wo es) (hl : es.length ≤ 64)
    (hJ : ∀ m', mp_O n m0 m' → (m'.1 n = mb (fun j => decide (j < (es.drop (4 * q)).length)) ∧ m'.2.1 n = mb (fun _ => false) ∧ m'.2.2.1 n = x) →
      (∀ w, w < 4 → w < (es.drop (4 * q)).length → m'.2.2.2.1 (4 * n + w) = ((es.drop (4 * q)).getD w (0, 0)).1 ∧ m'.2.2.2.2 (4 * n + w) = ((es.drop (4 * q)).getD w (0, 0)).2) →
      J (nI n) (nI (4 * q) + (-4)) (nI rm) f_listRoom f_depth (nI es.length) f_first f_second a_held a_root m'.1 m'.2.1 m'.2.2.1 m'.2.2.2.1 m'.2.2.2.2 a_mapMark fr a_left a_right a_height a_size a_element a_total a_listMark a_listFree a_path a_turns a_stack a_other g wo a_spareKey a_spareValue a_low a_high a_before a_behind) :
    ∀ (d : Nat) {N w : Nat} {m : MH} {ks vs : Nat → Int32}, d < N → w + d = 4 → 4 * q + w ≤ es.length → mp_O n m0 m → mp_N m n (fun j => decide (j < w)) (fun _ => false) (-1) ks vs →
    (∀ j, j < w → ks j = (es.getD (4 * q + j) (0, 0)).1 ∧ vs j = (es.getD (4 * q + j) (0, 0)).2) →
    wX_bucketOf_24 post J x (nI (4 * q)) (nI n) N (nI w) (nI rm) f_listRoom f_depth (nI es.length) f_first f_second a_held a_root m.1 m.2.1 m.2.2.1 m.2.2.2.1 m.2.2.2.2 a_mapMark fr a_left a_right a_height a_size a_element a_total a_listMark a_listFree a_path a_turns a_stack a_other g wo a_spareKey a_spareValue a_low a_high a_before a_behind := by
  -- the end of a node
  have fin : ∀ {w : Nat} {m : MH} {ks vs : Nat → Int32}, w ≤ 4 → 4 * q + w ≤ es.length → (w = 4 ∨ es.length ≤ 4 * q + w) → mp_O n m0 m → mp_N m n (fun j => decide (j < w)) (fun _ => false) (-1) ks vs →
      (∀ j, j < w → ks j = (es.getD (4 * q + j) (0, 0)).1 ∧ vs j = (es.getD (4 * q + j) (0, 0)).2) →
      wX_bucketOf_72 post J x (nI (4 * q)) (nI n) (nI rm) f_listRoom f_depth (nI es.length) f_first f_second a_held a_root m.1 m.2.1 m.2.2.1 m.2.2.2.1 m.2.2.2.2 a_mapMark fr a_left a_right a_height a_size a_element a_total a_listMark a_listFree a_path a_turns a_stack a_other g wo a_spareKey a_spareValue a_low a_high a_before a_behind := by
    intro w m ks vs hw hle hend hO hN hks
    have hdl : (es.drop (4 * q)).length = es.length - 4 * q := List.length_drop
    refine And.intro (vp_in_nI hn (by omega)) (nm_r (e' := upd m.2.2.1 n x) (by rw [nI_clamp (by omega), ps_oss (by omega) hx]) (nm_e ?_))
    refine hJ (m.1, m.2.1, upd m.2.2.1 n x, m.2.2.2.1, m.2.2.2.2) ?_ ?_ ?_
    · exact mp_O_t hO (fun j hj z => ⟨rfl, rfl, pk_un z, fun _ _ => ⟨rfl, rfl⟩⟩)
    · refine ⟨hN.1.trans (mb_ext (fun j hj => ?_)), hN.2.1, pk_us⟩
      rw [hdl]
      exact decide_eq_decide.mpr (by omega)
    · intro j hj hjl
      have a := hN.2.2.2 j hj
      have b := hks j (by omega)
      rw [ms_gdrop]
      exact ⟨a.1.trans b.1, a.2.trans b.2⟩
  intro d
  induction d with
  | zero =>
    intro N w m ks vs hN hw hle hO hNn hks
    cases N with
    | zero => omega
    | succ N =>
      have e : w = 4 := by omega
      subst e
      exact br_t (by decide) (fin (by omega) hle (Or.inl rfl) hO hNn hks)
  | succ d ih =>
    intro N w m ks vs hN hw hle hO hNn hks
    cases N with
    | zero => omega
    | succ N =>
      refine br_f (nI_ge (b := 4) (by omega) (by omega)) (pk_le es.length (4 * q + w) (fun c => fin (by omega) hle (Or.inr c) hO hNn hks) (fun c => ⟨by rw [nI_add]; exact vp_in_nI (by omega) (by omega), by rw [nI_add]; exact vp_in_nI (by omega) (by omega), ?_⟩) rfl (nI_add _ _))
      have z := ms_Ag hA c
      rw [nI_add, nI_clamp (n := 4 * q + w) (by omega), z.1, z.2]
      refine xm_enter hn (by omega) hNn (fun m' hO' hN' => nm_r (nI_1 w) (ih (by omega) (by omega) (by omega) (mp_O_t hO hO') (mp_N_c hN' (fun j hj => ?_) (fun j hj => ?_) (fun j hj => ⟨rfl, rfl⟩)) (fun j hj => ?_)))
      · by_cases c2 : j = w
        · subst c2; rw [fb_s]; simp
        · rw [fb_n c2]; exact decide_eq_decide.mpr (by omega)
      · by_cases c2 : j = w
        · subst c2; rw [fb_s]
        · rw [fb_n c2]
      · by_cases c2 : j = w
        · subst c2; rw [pk_us, pk_us]; exact ⟨rfl, rfl⟩
        · rw [pk_un c2, pk_un c2]; exact hks j (by omega)
theorem xm_bo12 {post : Int32 → SX → Prop} {S : Nat → Prop} (hA : ms_A g wo es) (hl : es.length ≤ 64) : ∀ (c : Nat) {N R : Nat} {m : MH} {x : Int32}, c < N → 4 * c < es.length + 4 → ps_I fr 720 R → c ≤ R → (∀ j, S j → ps_F fr R j) →
    (∃ d, mp_B (ps_G fr R S) m d x (es.drop (4 * c))) →
    (∀ x' m' r', R ≤ r' + c → r' ≤ R → mp_X (ps_F fr R) m (ps_F fr r') m' → (∃ d, mp_B (ps_G fr r' S) m' d x' es) → post x' (nI r', f_listRoom, f_depth, nI es.length, f_first, f_second, a_held, a_root, m'.1, m'.2.1, m'.2.2.1, m'.2.2.2.1, m'.2.2.2.2, a_mapMark, fr, a_left, a_right, a_height, a_size, a_element, a_total, a_listMark, a_listFree, a_path, a_turns, a_stack, a_other, g, wo, a_spareKey, a_spareValue, a_low, a_high, a_before, a_behind)) →
    wX_bucketOf_12 post N x (nI (4 * c) + (-4)) (nI R) f_listRoom f_depth (nI es.length) f_first f_second a_held a_root m.1 m.2.1 m.2.2.1 m.2.2.2.1 m.2.2.2.2 a_mapMark fr a_left a_right a_height a_size a_element a_total a_listMark a_listFree a_path a_turns a_stack a_other g wo a_spareKey a_spareValue a_low a_high a_before a_behind := by
  intro c
  induction c with
  | zero =>
    intro N R m x hN _ hI _ _ hB hp
    cases N with
    | zero => omega
    | succ N => exact br_t (by decide) (hp x m R (by omega) (by omega) mp_X_r hB)
  | succ c ih =>
    rintro N R m x hN hc hI hR hSx ⟨d, hB⟩ hp
    obtain ⟨r0, rfl⟩ : ∃ r0, R = r0 + 1 := ⟨R - 1, by omega⟩
    cases N with
    | zero => omega
    | succ N =>
      rw [mp_s4]
      refine br_f (nI_pos (by omega)) (xm_mapNode hI (fun n m1 hn hF hne hO hZ => ?_))
      obtain ⟨ks, vs, hZ⟩ := hZ
      refine ⟨5, xm_bo24 (m0 := m) (rm := r0) hn (mp_B_o hB) (by omega) hA hl ?_ 4 (w := 0) (by omega) (by omega) (by omega) hO (mp_N_c hZ (fun j _ => by simp) (fun _ _ => rfl) (fun _ _ => ⟨rfl, rfl⟩)) (fun j hj => absurd hj (by omega))⟩
      intro m' hO' hN3 hk'
      have X : mp_X (ps_F fr (r0 + 1)) m (ps_F fr r0) m' := mp_O_X hO' (fun j hj => ps_Fm (by omega) hj) hne
      refine ih (by omega) (by omega) (ps_Im (by omega) hI) (by omega) (fun j hj => ps_Fm (by omega) (hSx j hj)) ⟨d + 1, Or.inr ⟨n, hn, rfl, ⟨hF, fun s => hne n (hSx n s) rfl⟩, ?_, hN3.1, hN3.2.1, hk', ?_⟩⟩ (fun x' m'' r' g1 g2 X' hB' => hp x' m'' r' (by omega) (by omega) (mp_X_t X X') hB')
      · intro z
        have : (es.drop (4 * c)).length = 0 := by rw [z]; rfl
        rw [List.length_drop] at this; omega
      · rw [hN3.2.2, List.drop_drop]
        exact mp_B_m (mp_X_w X) hB
theorem xm_bucketOf {post : Int32 → SX → Prop} {R : Nat} {m : MH} (S : Nat → Prop) (hSx : ∀ j, S j → ps_F fr R j) (hA : ms_A g wo es) (hl : es.length ≤ 64) (h1 : es ≠ []) (hI : ps_I fr 720 R) (hR : (es.length + 3) / 4 ≤ R)
    (hp : ∀ x' m' r', R ≤ r' + (es.length + 3) / 4 → r' ≤ R → mp_X (ps_F fr R) m (ps_F fr r') m' → mp_R (ps_G fr r' S) m' 0 x' es → post x' (nI r', f_listRoom, f_depth, nI es.length, f_first, f_second, a_held, a_root, m'.1, m'.2.1, m'.2.2.1, m'.2.2.2.1, m'.2.2.2.2, a_mapMark, fr, a_left, a_right, a_height, a_size, a_element, a_total, a_listMark, a_listFree, a_path, a_turns, a_stack, a_other, g, wo, a_spareKey, a_spareValue, a_low, a_high, a_before, a_behind)) :
    wpX_bucketOf post (nI R, f_listRoom, f_depth, nI es.length, f_first, f_second, a_held, a_root, m.1, m.2.1, m.2.2.1, m.2.2.2.1, m.2.2.2.2, a_mapMark, fr, a_left, a_right, a_height, a_size, a_element, a_total, a_listMark, a_listFree, a_path, a_turns, a_stack, a_other, g, wo, a_spareKey, a_spareValue, a_low, a_high, a_before, a_behind) := by
  have hpos := List.length_pos_iff.mpr h1
  have e : (nI es.length - 1) &&& (-4) = nI (4 * ((es.length + 3) / 4)) + (-4) := by
    obtain ⟨L, hL⟩ : ∃ L, es.length = L + 1 := ⟨es.length - 1, by omega⟩
    have e2 : (es.length + 3) / 4 = L / 4 + 1 := by omega
    rw [e2, hL, nI_pred, mp_m4 L (by omega), mp_s4]
  refine nm_r e ⟨(es.length + 3) / 4 + 1, xm_bo12 hA hl _ (by omega) (by omega) hI hR hSx ⟨0, rfl, ?_⟩ (fun x' m' r' g1 g2 X hB => hp x' m' r' g1 g2 X ⟨h1, hB⟩)⟩
  exact List.drop_of_length_le (by omega)
end
end
section
/-! nodes of a level; prefixes of a key's ways; pair, descend, climb -/
theorem mp_unl {F : Nat → Prop} {m : MH} {l : Nat} {x : Int32} {es : List (Int32 × Int32)} (hl : l < 4) (h : mp_R F m (4 - l) x es) :
    ∃ n ks vs, n < 720 ∧ x = nI n ∧ F n ∧ mp_N m n (fun w => decide ((mp_sub l w es).length = 1)) (fun w => decide (2 ≤ (mp_sub l w es).length)) (-1) ks vs ∧
      ∀ w, w < 4 → (∀ e, mp_sub l w es = [e] → ks w = e.1 ∧ vs w = e.2) ∧ (2 ≤ (mp_sub l w es).length → mp_R F m (4 - (l + 1)) (ks w) (mp_sub l w es)) := by
  obtain ⟨r, hr, h2, h3⟩ : ∃ r, 4 - l = r + 1 ∧ 3 - r = l ∧ 4 - (l + 1) = r := ⟨3 - l, by omega, by omega, by omega⟩
  rw [hr] at h
  rw [h3]
  obtain ⟨n, n1, n2, n3, n4, n5, n6, n7⟩ := h
  rw [h2] at n5 n6 n7
  exact ⟨n, fun w => m.2.2.2.1 (4 * n + w), fun w => m.2.2.2.2 (4 * n + w), n1, n2, n3, ⟨n5, n6, n4, fun _ _ => ⟨rfl, rfl⟩⟩, n7⟩
theorem mp_mkl {F : Nat → Prop} {m : MH} {l n : Nat} {es : List (Int32 × Int32)} {f g : Nat → Bool} {ks vs : Nat → Int32} (hl : l < 4) (hn : n < 720) (hF : F n) (hN : mp_N m n f g (-1) ks vs)
    (h : ∀ w, w < 4 → (f w = decide ((mp_sub l w es).length = 1)) ∧ (g w = decide (2 ≤ (mp_sub l w es).length)) ∧ (∀ e, mp_sub l w es = [e] → ks w = e.1 ∧ vs w = e.2) ∧ (2 ≤ (mp_sub l w es).length → mp_R F m (4 - (l + 1)) (ks w) (mp_sub l w es))) :
    mp_R F m (4 - l) (nI n) es := by
  obtain ⟨r, hr, h2, h3⟩ : ∃ r, 4 - l = r + 1 ∧ 3 - r = l ∧ 4 - (l + 1) = r := ⟨3 - l, by omega, by omega, by omega⟩
  rw [h3] at h
  rw [hr]
  refine ⟨n, hn, rfl, hF, hN.2.2.1, ?_, ?_, ?_⟩
  · rw [h2]; exact hN.1.trans (mb_ext (fun w hw => (h w hw).1))
  · rw [h2]; exact hN.2.1.trans (mb_ext (fun w hw => (h w hw).2.1))
  · intro w hw
    rw [h2, (hN.2.2.2 w hw).1, (hN.2.2.2 w hw).2]
    exact (h w hw).2.2
/-- a copy of a node with another child at one way -/
theorem mp_lead {F : Nat → Prop} {m : MH} {l n w0 : Nat} {es es' : List (Int32 × Int32)} {ks vs : Nat → Int32} {c : Int32} (hl : l < 4) (hn : n < 720) (hF : F n)
    (hN : mp_N m n (fb (fun w => decide ((mp_sub l w es).length = 1)) w0 false) (fb (fun w => decide (2 ≤ (mp_sub l w es).length)) w0 true) (-1) (upd ks w0 c) (upd vs w0 0))
    (hk : ∀ w, w < 4 → (∀ e, mp_sub l w es = [e] → ks w = e.1 ∧ vs w = e.2) ∧ (2 ≤ (mp_sub l w es).length → mp_R F m (4 - (l + 1)) (ks w) (mp_sub l w es)))
    (hs : ∀ w, w ≠ w0 → mp_sub l w es' = mp_sub l w es) (h2 : 2 ≤ (mp_sub l w0 es').length) (hc : mp_R F m (4 - (l + 1)) c (mp_sub l w0 es')) : mp_R F m (4 - l) (nI n) es' := by
  refine mp_mkl hl hn hF hN (fun w hw => ?_)
  by_cases z : w = w0
  · subst z
    rw [fb_s, fb_s, pk_us, pk_us]
    refine ⟨(decide_eq_false (by omega)).symm, (decide_eq_true h2).symm, fun e he => ?_, fun _ => hc⟩
    rw [he] at h2; simp at h2
  · rw [fb_n z, fb_n z, pk_un z, pk_un z, hs w z]
    exact ⟨rfl, rfl, hk w hw⟩
theorem mp_enter {F : Nat → Prop} {m : MH} {l n w0 : Nat} {es es' : List (Int32 × Int32)} {ks vs : Nat → Int32} {k v : Int32} (hl : l < 4) (hn : n < 720) (hF : F n)
    (hN : mp_N m n (fb (fun w => decide ((mp_sub l w es).length = 1)) w0 true) (fb (fun w => decide (2 ≤ (mp_sub l w es).length)) w0 false) (-1) (upd ks w0 k) (upd vs w0 v))
    (hk : ∀ w, w < 4 → (∀ e, mp_sub l w es = [e] → ks w = e.1 ∧ vs w = e.2) ∧ (2 ≤ (mp_sub l w es).length → mp_R F m (4 - (l + 1)) (ks w) (mp_sub l w es)))
    (hs : ∀ w, w ≠ w0 → mp_sub l w es' = mp_sub l w es) (h1 : mp_sub l w0 es' = [(k, v)]) : mp_R F m (4 - l) (nI n) es' := by
  refine mp_mkl hl hn hF hN (fun w hw => ?_)
  by_cases z : w = w0
  · subst z
    rw [fb_s, fb_s, pk_us, pk_us, h1]
    refine ⟨rfl, rfl, fun e he => ?_, fun h2 => absurd h2 (by simp)⟩
    simp at he; rw [← he]; exact ⟨rfl, rfl⟩
  · rw [fb_n z, fb_n z, pk_un z, pk_un z, hs w z]
    exact ⟨rfl, rfl, hk w hw⟩
/-- those that go with key k for i levels -/
def mp_pf (k : Int32) (es : List (Int32 × Int32)) : Nat → List (Int32 × Int32)
  | 0 => es
  | i + 1 => mp_sub i (mp_wy k i) (mp_pf k es i)
theorem mp_pfS {k : Int32} {es : List (Int32 × Int32)} (hS : ms_S es) : ∀ i, ms_S (mp_pf k es i) := by
  intro i
  induction i with
  | zero => exact hS
  | succ i ih => exact ms_Sf _ ih
theorem mp_pf_ins {k v : Int32} {es : List (Int32 × Int32)} (hS : ms_S es) : ∀ i, mp_pf k (ms_ins k v es) i = ms_ins k v (mp_pf k es i) := by
  intro i
  induction i with
  | zero => rfl
  | succ i ih =>
    rw [mp_pf, ih, mp_pf]
    unfold mp_sub
    rw [ms_fil (fun x => mp_wy x i == mp_wy k i) (mp_pfS hS i), if_pos (by simp)]
theorem mp_pf_del {k : Int32} {es : List (Int32 × Int32)} : ∀ i, mp_pf k (ms_del k es) i = ms_del k (mp_pf k es i) := by
  intro i
  induction i with
  | zero => rfl
  | succ i ih =>
    rw [mp_pf, ih, mp_pf]
    unfold mp_sub ms_del
    rw [List.filter_filter, List.filter_filter]
    exact List.filter_congr (fun e _ => Bool.and_comm _ _)
theorem mp_sub_del {k : Int32} {l w : Nat} {es : List (Int32 × Int32)} (hw : w ≠ mp_wy k l) : mp_sub l w (ms_del k es) = mp_sub l w es := by
  unfold mp_sub ms_del
  rw [List.filter_filter]
  refine List.filter_congr (fun e _ => ?_)
  by_cases c : e.1 = k
  · have : (mp_wy e.1 l == w) = false := by rw [c]; simp; exact fun z => hw z.symm
    rw [this]; rfl
  · simp [c]
theorem mp_pf_off {k : Int32} {es es' : List (Int32 × Int32)} (h : ms_del k es' = ms_del k es) {l w : Nat} (hw : w ≠ mp_wy k l) : mp_sub l w (mp_pf k es' l) = mp_sub l w (mp_pf k es l) := by
  rw [← mp_sub_del (es := mp_pf k es' l) hw, ← mp_pf_del, h, mp_pf_del, mp_sub_del hw]
theorem mp_pf_len {k : Int32} {es : List (Int32 × Int32)} (i : Nat) : (mp_pf k es (i + 1)).length ≤ (mp_pf k es i).length := List.length_filter_le _ _
theorem mp_pf_le {k : Int32} {es : List (Int32 × Int32)} {i j : Nat} (h : i ≤ j) : (mp_pf k es j).length ≤ (mp_pf k es i).length := by
  induction h with
  | refl => exact Nat.le_refl _
  | step _ ih => exact Nat.le_trans (mp_pf_len _) ih
theorem ms_del_ins {k v : Int32} {es : List (Int32 × Int32)} (hS : ms_S es) : ms_del k (ms_ins k v es) = ms_del k es := by
  unfold ms_del
  rw [ms_fil (fun x => x != k) hS, if_neg (by simp)]
theorem ms_del_del {k : Int32} {es : List (Int32 × Int32)} : ms_del k (ms_del k es) = ms_del k es := by
  unfold ms_del
  rw [List.filter_filter]
  exact List.filter_congr (fun e _ => Bool.and_self _)
def mp_PC (F : Nat → Prop) (m : MH) (k : Int32) (es : List (Int32 × Int32)) (pa : Nat → Int32) (d : Nat) : Prop :=
  ∀ i, i < d → mp_R F m (4 - i) (pa i) (mp_pf k es i) ∧ 2 ≤ (mp_pf k es (i + 1)).length
section
variable {f_mapRoom f_listRoom f_depth f_many f_first f_second : Int32} {a_held a_root a_data a_links a_more a_keys a_values a_mapMark a_mapFree a_left a_right a_height a_size a_element a_listMark a_listFree a_path a_turns a_stack a_other a_gathered a_worth a_spareKey a_spareValue a_low a_high a_before a_behind : Nat → Int32} {a_total : Nat → Int64}
theorem xm_descend7 {post : Int32 → SX → Prop} {F : Nat → Prop} {m : MH} {k : Int32} {es : List (Int32 × Int32)}
    (hp : ∀ x d pa, d ≤ 4 → mp_R F m (4 - d) x (mp_pf k es d) → mp_PC F m k es pa d → (d < 4 → ¬ 2 ≤ (mp_pf k es (d + 1)).length) → post x (f_mapRoom, f_listRoom, nI d, f_many, f_first, f_second, a_held, a_root, m.1, m.2.1, m.2.2.1, m.2.2.2.1, m.2.2.2.2, a_mapMark, a_mapFree, a_left, a_right, a_height, a_size, a_element, a_total, a_listMark, a_listFree, pa, a_turns, a_stack, a_other, a_gathered, a_worth, a_spareKey, a_spareValue, a_low, a_high, a_before, a_behind)) :
    ∀ (r : Nat) {N d : Nat} {x : Int32} {pa : Nat → Int32}, r < N → d + r = 4 → mp_R F m (4 - d) x (mp_pf k es d) → mp_PC F m k es pa d →
    wX_descend_7 post (mp_hs k) f_mapRoom f_listRoom f_many f_first f_second N x (nI d) a_held a_root m.1 m.2.1 m.2.2.1 m.2.2.2.1 m.2.2.2.2 a_mapMark a_mapFree a_left a_right a_height a_size a_element a_total a_listMark a_listFree pa a_turns a_stack a_other a_gathered a_worth a_spareKey a_spareValue a_low a_high a_before a_behind := by
  intro r
  induction r with
  | zero =>
    intro N d x pa hN hd hx hP
    have e : d = 4 := by omega
    subst e
    cases N with
    | zero => omega
    | succ N => exact br_t (by decide) (hp x 4 pa (by omega) hx hP (fun z => absurd z (by omega)))
  | succ r ih =>
    intro N d x pa hN hd hx hP
    obtain ⟨n, ks, vs, n1, rfl, n3, hNn, hk⟩ := mp_unl (by omega) hx
    have hw := mp_wy_lt k d
    cases N with
    | zero => omega
    | succ N =>
      refine br_f (nI_ge (b := 4) (by omega) (by omega)) ⟨vp_in_nI n1 (by omega), xm_way ?_⟩
      rw [nI_clamp (n := n) (by omega), hNn.2.1, mb_sh hw]
      by_cases c : 2 ≤ (mp_sub d (mp_wy k d) (mp_pf k es d)).length
      · rw [decide_eq_true c]
        refine br_f (by decide) ⟨vp_in_nI (by omega) (by omega), nm_r (e' := upd pa d (nI n)) (by rw [nI_clamp (by omega), ps_ss (by omega)]) (xm_way ⟨by rw [ps_4]; exact vp_in_nI (by omega) (by omega), nm_r (e' := ks (mp_wy k d)) (by rw [ps_4, nI_clamp (by omega)]; exact (hNn.2.2.2 _ hw).1) (nm_r (nI_1 d) ?_)⟩)⟩
        refine ih (by omega) (by omega) ((hk _ hw).2 c) (fun i hi => ?_)
        by_cases z : i = d
        · subst z; rw [pk_us]; exact ⟨hx, c⟩
        · rw [pk_un z]; exact hP i (by omega)
      · rw [decide_eq_false c]
        exact br_t (by decide) (hp (nI n) d pa (by omega) hx hP (fun _ => c))
theorem xm_descend {post : Int32 → SX → Prop} {F : Nat → Prop} {m : MH} {k x : Int32} {es : List (Int32 × Int32)} (hx : mp_R F m 4 x es)
    (hp : ∀ x d pa, d ≤ 4 → mp_R F m (4 - d) x (mp_pf k es d) → mp_PC F m k es pa d → (d < 4 → ¬ 2 ≤ (mp_pf k es (d + 1)).length) → post x (f_mapRoom, f_listRoom, nI d, f_many, f_first, f_second, a_held, a_root, m.1, m.2.1, m.2.2.1, m.2.2.2.1, m.2.2.2.2, a_mapMark, a_mapFree, a_left, a_right, a_height, a_size, a_element, a_total, a_listMark, a_listFree, pa, a_turns, a_stack, a_other, a_gathered, a_worth, a_spareKey, a_spareValue, a_low, a_high, a_before, a_behind)) :
    wpX_descend post (f_mapRoom, f_listRoom, f_depth, f_many, f_first, f_second, a_held, a_root, m.1, m.2.1, m.2.2.1, m.2.2.2.1, m.2.2.2.2, a_mapMark, a_mapFree, a_left, a_right, a_height, a_size, a_element, a_total, a_listMark, a_listFree, a_path, a_turns, a_stack, a_other, a_gathered, a_worth, a_spareKey, a_spareValue, a_low, a_high, a_before, a_behind) x (mp_hs k) :=
  ⟨5, xm_descend7 hp 4 (d := 0) (by omega) (by omega) hx (fun i hi => absurd hi (by omega))⟩
theorem xm_climb10 {post : Int32 → SX → Prop} {fr pa : Nat → Int32} {k : Int32} {es es' : List (Int32 × Int32)} (hE : ms_del k es' = ms_del k es) :
    ∀ (d : Nat) {N R : Nat} {m : MH} {x : Int32}, d < N → d ≤ 4 → ps_I fr 720 R → d ≤ R → mp_PC (ps_F fr R) m k es pa d → (∀ i, i < d → 2 ≤ (mp_pf k es' (i + 1)).length) → mp_R (ps_F fr R) m (4 - d) x (mp_pf k es' d) →
    (∀ x' m' r', R ≤ r' + d → r' ≤ R → mp_X (ps_F fr R) m (ps_F fr r') m' → mp_R (ps_F fr r') m' 4 x' es' → post x' (nI r', f_listRoom, f_depth, f_many, f_first, f_second, a_held, a_root, m'.1, m'.2.1, m'.2.2.1, m'.2.2.2.1, m'.2.2.2.2, a_mapMark, fr, a_left, a_right, a_height, a_size, a_element, a_total, a_listMark, a_listFree, pa, a_turns, a_stack, a_other, a_gathered, a_worth, a_spareKey, a_spareValue, a_low, a_high, a_before, a_behind)) →
    wX_climb_10 post (mp_hs k) N x (nI d + (-1)) (nI R) f_listRoom f_depth f_many f_first f_second a_held a_root m.1 m.2.1 m.2.2.1 m.2.2.2.1 m.2.2.2.2 a_mapMark fr a_left a_right a_height a_size a_element a_total a_listMark a_listFree pa a_turns a_stack a_other a_gathered a_worth a_spareKey a_spareValue a_low a_high a_before a_behind := by
  intro d
  induction d with
  | zero =>
    intro N R m x hN _ hI _ hP h2 hx hp
    cases N with
    | zero => omega
    | succ N => exact br_t (by decide) (hp x m R (by omega) (by omega) mp_X_r hx)
  | succ d ih =>
    intro N R m x hN hd hI hR hP h2 hx hp
    obtain ⟨r0, rfl⟩ : ∃ r0, R = r0 + 1 := ⟨R - 1, by omega⟩
    have hw := mp_wy_lt k d
    obtain ⟨q1, q2⟩ := hP d (by omega)
    obtain ⟨p, ks, vs, p1, p2, p3, hNp, hk⟩ := mp_unl (by omega) q1
    cases N with
    | zero => omega
    | succ N =>
      rw [pk_m1]
      refine br_f (nI_pos (by omega)) ⟨vp_in_nI (by omega) (by omega), ?_⟩
      rw [nI_clamp (n := d) (by omega), p2]
      refine xm_mapCopy hI p1 p3 hNp (fun n m1 hn hF hne hO hN1 => xm_way (xm_lead hn hw hN1 (fun m2 hO2 hN2 => nm_e ?_)))
      have X : mp_X (ps_F fr (r0 + 1)) m (ps_F fr r0) m2 := mp_O_X (mp_O_t hO hO2) (fun j hj => ps_Fm (by omega) hj) hne
      refine ih (by omega) (by omega) (ps_Im (by omega) hI) (by omega) (fun i hi => ?_) (fun i hi => h2 i (by omega)) ?_ (fun x' m' r' g1 g2 X' hR' => hp x' m' r' (by omega) (by omega) (mp_X_t X X') hR')
      · exact ⟨mp_R_m X (hP i (by omega)).1, (hP i (by omega)).2⟩
      · refine mp_lead (es := mp_pf k es d) (by omega) hn hF hN2 (fun w hw => ⟨(hk w hw).1, fun z => mp_R_m X ((hk w hw).2 z)⟩) (fun w hw => mp_pf_off hE hw) (h2 d (by omega)) (mp_R_m X hx)
theorem xm_climb {post : Int32 → SX → Prop} {fr pa : Nat → Int32} {k x : Int32} {es es' : List (Int32 × Int32)} {d R : Nat} {m : MH} (hE : ms_del k es' = ms_del k es) (hd : d ≤ 4) (hI : ps_I fr 720 R) (hR : d ≤ R)
    (hP : mp_PC (ps_F fr R) m k es pa d) (h2 : ∀ i, i < d → 2 ≤ (mp_pf k es' (i + 1)).length) (hx : mp_R (ps_F fr R) m (4 - d) x (mp_pf k es' d))
    (hp : ∀ x' m' r', R ≤ r' + d → r' ≤ R → mp_X (ps_F fr R) m (ps_F fr r') m' → mp_R (ps_F fr r') m' 4 x' es' → post x' (nI r', f_listRoom, nI d, f_many, f_first, f_second, a_held, a_root, m'.1, m'.2.1, m'.2.2.1, m'.2.2.2.1, m'.2.2.2.2, a_mapMark, fr, a_left, a_right, a_height, a_size, a_element, a_total, a_listMark, a_listFree, pa, a_turns, a_stack, a_other, a_gathered, a_worth, a_spareKey, a_spareValue, a_low, a_high, a_before, a_behind)) :
    wpX_climb post (nI R, f_listRoom, nI d, f_many, f_first, f_second, a_held, a_root, m.1, m.2.1, m.2.2.1, m.2.2.2.1, m.2.2.2.2, a_mapMark, fr, a_left, a_right, a_height, a_size, a_element, a_total, a_listMark, a_listFree, pa, a_turns, a_stack, a_other, a_gathered, a_worth, a_spareKey, a_spareValue, a_low, a_high, a_before, a_behind) x (mp_hs k) :=
  nm_r (Int32.sub_eq_add_neg ..) ⟨d + 1, xm_climb10 hE d (by omega) hd hI hR hP h2 hx hp⟩
end
end
section
/-! pair, with -/
theorem mp_ltm1 {a : Nat} (h : a < 2 ^ 31) : nI a + (-1) < nI a := by
  cases a with
  | zero => decide
  | succ a => rw [pk_m1]; exact nI_lt (by omega) h
theorem mp_sub_all {l w : Nat} {es : List (Int32 × Int32)} (h : ∀ e, e ∈ es → mp_wy e.1 l = w) : mp_sub l w es = es := by
  unfold mp_sub
  exact List.filter_eq_self.mpr (fun e he => by simp [h e he])
theorem mp_sub_none {l w : Nat} {es : List (Int32 × Int32)} (h : ∀ e, e ∈ es → mp_wy e.1 l ≠ w) : mp_sub l w es = [] := by
  unfold mp_sub
  exact List.filter_eq_nil_iff.mpr (fun e he => by simp [h e he])
theorem mp_sub_S {l w : Nat} {es : List (Int32 × Int32)} (h : ms_S es) : ms_S (mp_sub l w es) := ms_Sf _ h
theorem mp_sub_mem {l w : Nat} {es : List (Int32 × Int32)} {e : Int32 × Int32} : e ∈ mp_sub l w es ↔ e ∈ es ∧ mp_wy e.1 l = w := by
  unfold mp_sub; rw [List.mem_filter]; simp
/-- two entries -/
theorem ms_two {k v l u : Int32} (h : k ≠ l) : ms_S (ms_ins l u (ms_ins k v [])) ∧ (ms_ins l u (ms_ins k v [])).length = 2 ∧ ∀ e, e ∈ ms_ins l u (ms_ins k v []) ↔ e = (k, v) ∨ e = (l, u) := by
  have s1 : ms_S (ms_ins k v []) := ms_insS ms_S0
  refine ⟨ms_insS s1, ?_, fun e => ?_⟩
  · rw [ms_lenI s1, if_pos]; rfl
    rw [ms_get_n]
    intro e he
    rw [ms_ins, List.mem_singleton] at he
    rw [he]; exact h
  · rw [ms_mem s1, ms_ins, List.mem_singleton]
    constructor
    · rintro (z | z)
      · exact Or.inr z
      · exact Or.inl z.1
    · rintro (z | z)
      · exact Or.inr ⟨z, by rw [z]; exact h⟩
      · exact Or.inl z
section
variable {f_mapRoom f_listRoom f_depth f_many f_first f_second : Int32} {a_held a_root a_data a_links a_more a_keys a_values a_mapMark a_mapFree a_left a_right a_height a_size a_element a_listMark a_listFree a_path a_turns a_stack a_other a_gathered a_worth a_spareKey a_spareValue a_low a_high a_before a_behind : Nat → Int32} {a_total : Nat → Int64}
variable {fr : Nat → Int32} {k v l u : Int32}
theorem xm_pair128 {post : Int32 → SX → Prop} {S : Nat → Prop} {lv : Nat} {P : List (Int32 × Int32)} (h2 : 2 ≤ P.length) :
    ∀ (s : Nat) {N R a : Nat} {m : MH} {x : Int32}, s < N → a = lv + s → a ≤ 4 → ps_I fr 720 R → s ≤ R → (∀ j, S j → ps_F fr R j) → (∀ j, lv ≤ j → j < a → ∀ e, e ∈ P → mp_wy e.1 j = mp_wy k j) → mp_R (ps_G fr R S) m (4 - a) x P →
    (∀ x' m' r', R ≤ r' + s → r' ≤ R → mp_X (ps_F fr R) m (ps_F fr r') m' → mp_R (ps_G fr r' S) m' (4 - lv) x' P → post x' (nI r', f_listRoom, f_depth, f_many, f_first, f_second, a_held, a_root, m'.1, m'.2.1, m'.2.2.1, m'.2.2.2.1, m'.2.2.2.2, a_mapMark, fr, a_left, a_right, a_height, a_size, a_element, a_total, a_listMark, a_listFree, a_path, a_turns, a_stack, a_other, a_gathered, a_worth, a_spareKey, a_spareValue, a_low, a_high, a_before, a_behind)) →
    wX_pair_128 post (nI lv) (mp_hs k) N (nI a + (-1)) x (nI R) f_listRoom f_depth f_many f_first f_second a_held a_root m.1 m.2.1 m.2.2.1 m.2.2.2.1 m.2.2.2.2 a_mapMark fr a_left a_right a_height a_size a_element a_total a_listMark a_listFree a_path a_turns a_stack a_other a_gathered a_worth a_spareKey a_spareValue a_low a_high a_before a_behind := by
  intro s
  induction s with
  | zero =>
    rintro N R a m x hN rfl hs hI _ _ hj hx hp
    cases N with
    | zero => omega
    | succ N => exact br_t (mp_ltm1 (by omega)) (hp x m R (by omega) (by omega) mp_X_r hx)
  | succ s ih =>
    rintro N R a m x hN rfl hs hI hR hSx hj hx hp
    obtain ⟨r0, rfl⟩ : ∃ r0, R = r0 + 1 := ⟨R - 1, by omega⟩
    have hw := mp_wy_lt k (lv + s)
    cases N with
    | zero => omega
    | succ N =>
      rw [show lv + (s + 1) = (lv + s) + 1 from rfl, pk_m1]
      refine br_f (nI_nlt (by omega) (by omega)) (xm_mapNode hI (fun n m1 hn hF hne hO hZ => xm_way ?_))
      obtain ⟨ks, vs, hZ⟩ := hZ
      refine xm_lead hn hw hZ (fun m2 hO2 hN2 => nm_e ?_)
      have X : mp_X (ps_F fr (r0 + 1)) m (ps_F fr r0) m2 := mp_O_X (mp_O_t hO hO2) (fun j hj => ps_Fm (by omega) hj) hne
      refine ih (by omega) rfl (by omega) (ps_Im (by omega) hI) (by omega) (fun j hj => ps_Fm (by omega) (hSx j hj)) (fun j j1 j2 => hj j j1 (by omega)) ?_ (fun x' m' r' g1 g2 X' hR' => hp x' m' r' (by omega) (by omega) (mp_X_t X X') hR')
      have all := hj (lv + s) (by omega) (by omega)
      refine mp_mkl (by omega) hn ⟨hF, fun s => hne n (hSx n s) rfl⟩ hN2 (fun w hw' => ?_)
      by_cases z : w = mp_wy k (lv + s)
      · subst z
        rw [fb_s, fb_s, pk_us, pk_us, mp_sub_all all]
        refine ⟨(decide_eq_false (by omega)).symm, (decide_eq_true h2).symm, fun e he => ?_, fun _ => mp_R_m (mp_X_w X) hx⟩
        rw [he] at h2; simp at h2
      · rw [fb_n z, fb_n z, mp_sub_none (fun e he q => z (by rw [← q]; exact all e he))]
        exact ⟨rfl, rfl, fun e he => absurd he (by simp), fun q => absurd q (by simp)⟩
theorem xm_pair {post : Int32 → SX → Prop} {lv R : Nat} {m : MH} (S : Nat → Prop) (hSx : ∀ j, S j → ps_F fr R j) (hkl : k ≠ l) (hlv : lv ≤ 4) (hI : ps_I fr 720 R) (hR : 5 - lv ≤ R)
    (hp : ∀ x' m' r' mn g wo, R ≤ r' + (5 - lv) → r' ≤ R → mp_X (ps_F fr R) m (ps_F fr r') m' → mp_R (ps_G fr r' S) m' (4 - lv) x' (ms_ins l u (ms_ins k v [])) → post x' (nI r', f_listRoom, f_depth, mn, f_first, f_second, a_held, a_root, m'.1, m'.2.1, m'.2.2.1, m'.2.2.2.1, m'.2.2.2.2, a_mapMark, fr, a_left, a_right, a_height, a_size, a_element, a_total, a_listMark, a_listFree, a_path, a_turns, a_stack, a_other, g, wo, a_spareKey, a_spareValue, a_low, a_high, a_before, a_behind)) :
    wpX_pair post (nI R, f_listRoom, f_depth, f_many, f_first, f_second, a_held, a_root, m.1, m.2.1, m.2.2.1, m.2.2.2.1, m.2.2.2.2, a_mapMark, fr, a_left, a_right, a_height, a_size, a_element, a_total, a_listMark, a_listFree, a_path, a_turns, a_stack, a_other, a_gathered, a_worth, a_spareKey, a_spareValue, a_low, a_high, a_before, a_behind) (nI lv) k v l u := by
  obtain ⟨hPS, hP2, hPm⟩ := ms_two (v := v) (u := u) hkl
  unfold wpX_pair
  refine xm_hash ?_
  refine xm_hash ?_
  refine ⟨5 - lv, ?_⟩
  have e45 : ∀ {a : Nat}, lv ≤ a → a ≤ 4 → (∀ j, lv ≤ j → j < a → mp_wy l j = mp_wy k j) → (a < 4 → mp_wy k a ≠ mp_wy l a) →
      wX_pair_45 post (nI lv) k v l u (mp_hs k) (mp_hs l) (nI a) (nI R) f_listRoom f_depth f_many f_first f_second a_held a_root m.1 m.2.1 m.2.2.1 m.2.2.2.1 m.2.2.2.2 a_mapMark fr a_left a_right a_height a_size a_element a_total a_listMark a_listFree a_path a_turns a_stack a_other a_gathered a_worth a_spareKey a_spareValue a_low a_high a_before a_behind := by
    intro a ha1 ha2 heq hneq
    have heqP : ∀ j, lv ≤ j → j < a → ∀ e, e ∈ ms_ins l u (ms_ins k v []) → mp_wy e.1 j = mp_wy k j := by
      intro j j1 j2 e he
      rcases (hPm e).mp he with rfl | rfl
      · rfl
      · exact heq j j1 j2
    refine pk_eq a 4 (fun c => ?_) (fun c => ?_)
    · subst c
      refine xm_admit (es := []) ms_S0 ms_A0 (by decide) (fun g1 wo1 hA1 => ?_)
      refine xm_admit (es := ms_ins k v []) (ms_insS ms_S0) hA1 (show 1 < 64 by decide) (fun g2 wo2 hA2 => ?_)
      refine xm_bucketOf S hSx hA2 (by omega) (fun z => by rw [z] at hP2; simp at hP2) hI (by omega) (fun x' m' r' g1 g2 X hR' => nm_e ⟨4 - lv + 1, ?_⟩)
      exact xm_pair128 (a := 4) (by omega) (4 - lv) (by omega) (by omega) (by omega) (ps_Im (by omega) hI) (by omega) (fun j hj => ps_Fm g2 (hSx j hj)) heqP hR' (fun x3 m3 r3 g3 g4 X3 hR3 => hp x3 m3 r3 _ _ _ (by omega) (by omega) (mp_X_t X X3) hR3)
    · obtain ⟨r0, rfl⟩ : ∃ r0, R = r0 + 1 := ⟨R - 1, by omega⟩
      have hne := hneq (by omega)
      have hwk := mp_wy_lt k a
      have hwl := mp_wy_lt l a
      refine xm_mapNode hI (fun n m1 hn hF hnn hO hZ => xm_way (xm_way ?_))
      obtain ⟨ks, vs, hZ⟩ := hZ
      refine xm_enter hn hwk hZ (fun m2 hO2 hN2 => xm_enter hn hwl hN2 (fun m3 hO3 hN3 => nm_e ⟨a - lv + 1, ?_⟩))
      have X : mp_X (ps_F fr (r0 + 1)) m (ps_F fr r0) m3 := mp_O_X (mp_O_t hO (mp_O_t hO2 hO3)) (fun j hj => ps_Fm (by omega) hj) hnn
      have hx : mp_R (ps_G fr r0 S) m3 (4 - a) (nI n) (ms_ins l u (ms_ins k v [])) := by
        refine mp_mkl (by omega) hn ⟨hF, fun s => hnn n (hSx n s) rfl⟩ hN3 (fun w hw => ?_)
        have sk : mp_sub a (mp_wy k a) (ms_ins l u (ms_ins k v [])) = [(k, v)] := by
          refine ms_ext (mp_sub_S hPS) (ms_insS (k := k) (v := v) ms_S0) (fun e => ?_)
          rw [mp_sub_mem, hPm, List.mem_singleton]
          constructor
          · rintro ⟨z | z, q⟩
            · exact z
            · rw [z] at q; exact absurd q.symm hne
          · intro z; exact ⟨Or.inl z, by rw [z]⟩
        have sl : mp_sub a (mp_wy l a) (ms_ins l u (ms_ins k v [])) = [(l, u)] := by
          refine ms_ext (mp_sub_S hPS) (ms_insS (k := l) (v := u) ms_S0) (fun e => ?_)
          rw [mp_sub_mem, hPm, List.mem_singleton]
          constructor
          · rintro ⟨z | z, q⟩
            · rw [z] at q; exact absurd q hne
            · exact z
          · intro z; exact ⟨Or.inr z, by rw [z]⟩
        by_cases z1 : w = mp_wy l a
        · subst z1
          rw [fb_s, fb_s, pk_us, pk_us, sl]
          refine ⟨rfl, rfl, fun e he => ?_, fun q => absurd q (by simp)⟩
          simp at he; rw [← he]; exact ⟨rfl, rfl⟩
        · rw [fb_n z1, fb_n z1, pk_un z1, pk_un z1]
          by_cases z2 : w = mp_wy k a
          · subst z2
            rw [fb_s, fb_s, pk_us, pk_us, sk]
            refine ⟨rfl, rfl, fun e he => ?_, fun q => absurd q (by simp)⟩
            simp at he; rw [← he]; exact ⟨rfl, rfl⟩
          · rw [fb_n z2, fb_n z2, mp_sub_none (fun e he => ?_)]
            · exact ⟨rfl, rfl, fun e he => absurd he (by simp), fun q => absurd q (by simp)⟩
            · rcases (hPm e).mp he with rfl | rfl
              · exact fun q => z2 q.symm
              · exact fun q => z1 q.symm
      refine xm_pair128 (by omega) (a - lv) (by omega) (by omega) (by omega) (ps_Im (by omega) hI) (by omega) (fun j hj => ps_Fm (by omega) (hSx j hj)) heqP hx (fun x3 m4 r3 g3 g4 X3 hR3 => hp x3 m4 r3 _ _ _ (by omega) (by omega) (mp_X_t X X3) hR3)
  have e16 : ∀ (d : Nat) {N a : Nat}, d < N → a + d = 4 → lv ≤ a → (∀ j, lv ≤ j → j < a → mp_wy l j = mp_wy k j) →
      wX_pair_16 post (nI lv) k v l u (mp_hs k) (mp_hs l) (nI R) f_listRoom f_depth f_many f_first f_second a_held a_root m.1 m.2.1 m.2.2.1 m.2.2.2.1 m.2.2.2.2 a_mapMark fr a_left a_right a_height a_size a_element a_total a_listMark a_listFree a_path a_turns a_stack a_other a_gathered a_worth a_spareKey a_spareValue a_low a_high a_before a_behind N (nI a) := by
    intro d
    induction d with
    | zero =>
      intro N a hN ha hlv' heq
      cases N with
      | zero => omega
      | succ N =>
        have e : a = 4 := by omega
        subst e
        exact br_t (by decide) (e45 hlv' (by omega) heq (fun z => absurd z (by omega)))
    | succ d ih =>
      intro N a hN ha hlv' heq
      cases N with
      | zero => omega
      | succ N =>
        refine br_f (nI_ge (b := 4) (by omega) (by omega)) (xm_way (xm_way ?_))
        have h1 := mp_wy_lt k a
        have h2 := mp_wy_lt l a
        refine pk_eq (mp_wy k a) (mp_wy l a) (fun c => nm_r (nI_1 a) (ih (by omega) (by omega) (by omega) (fun j j1 j2 => ?_))) (fun c => e45 hlv' (by omega) heq (fun _ => c))
        by_cases z : j = a
        · subst z; exact c.symm
        · exact heq j j1 (by omega)
  exact e16 (4 - lv) (by omega) (by omega) (by omega) (fun j j1 j2 => absurd j2 (by omega))
end
section
variable {f_mapRoom f_listRoom f_depth f_many f_first f_second : Int32} {a_held a_root a_data a_links a_more a_keys a_values a_mapMark a_mapFree a_left a_right a_height a_size a_element a_listMark a_listFree a_path a_turns a_stack a_other a_gathered a_worth a_spareKey a_spareValue a_low a_high a_before a_behind : Nat → Int32} {a_total : Nat → Int64}
variable {fr : Nat → Int32} {k v : Int32} {es : List (Int32 × Int32)}
theorem xm_with {post : Int32 → SX → Prop} {R : Nat} {m : MH} {x : Int32} (hx : mp_M (ps_F fr R) m x es) (hS : ms_S es) (hl : es.length < 60) (hI : ps_I fr 720 R) (hR : 4 + ((ms_ins k v es).length + 3) / 4 ≤ R)
    (hp : ∀ x' m' r' dp mn pa g wo, R ≤ r' + (4 + ((ms_ins k v es).length + 3) / 4) → r' ≤ R → mp_X (ps_F fr R) m (ps_F fr r') m' → mp_M (ps_F fr r') m' x' (ms_ins k v es) →
      post x' (nI r', f_listRoom, dp, mn, f_first, f_second, a_held, a_root, m'.1, m'.2.1, m'.2.2.1, m'.2.2.2.1, m'.2.2.2.2, a_mapMark, fr, a_left, a_right, a_height, a_size, a_element, a_total, a_listMark, a_listFree, pa, a_turns, a_stack, a_other, g, wo, a_spareKey, a_spareValue, a_low, a_high, a_before, a_behind)) :
    wpX_with post (nI R, f_listRoom, f_depth, f_many, f_first, f_second, a_held, a_root, m.1, m.2.1, m.2.2.1, m.2.2.2.1, m.2.2.2.2, a_mapMark, fr, a_left, a_right, a_height, a_size, a_element, a_total, a_listMark, a_listFree, a_path, a_turns, a_stack, a_other, a_gathered, a_worth, a_spareKey, a_spareValue, a_low, a_high, a_before, a_behind) x k v := by
  have hS' : ms_S (ms_ins k v es) := ms_insS hS
  have hne' : ms_ins k v es ≠ [] := by
    intro z
    have : (k, v) ∈ ms_ins k v es := (ms_mem hS).mpr (Or.inl rfl)
    rw [z] at this; exact absurd this (by simp)
  have hpos := List.length_pos_iff.mpr hne'
  unfold wpX_with
  refine xm_hash ?_
  rcases hx with ⟨rfl, rfl⟩ | ⟨hne, hx⟩
  · obtain ⟨r0, rfl⟩ : ∃ r0, R = r0 + 1 := ⟨R - 1, by omega⟩
    have hw := mp_wy_lt k 0
    refine br_f ps_m1nle (xm_mapNode hI (fun n m1 hn hF hnn hO hZ => xm_way (l := 0) ?_))
    obtain ⟨ks, vs, hZ⟩ := hZ
    refine xm_enter hn hw hZ (fun m2 hO2 hN2 => ?_)
    have X : mp_X (ps_F fr (r0 + 1)) m (ps_F fr r0) m2 := mp_O_X (mp_O_t hO hO2) (fun j hj => ps_Fm (by omega) hj) hnn
    refine hp (nI n) m2 r0 _ _ _ _ _ (by omega) (by omega) X (Or.inr ⟨hne', ?_⟩)
    refine mp_mkl (l := 0) (by omega) hn hF hN2 (fun w hw' => ?_)
    by_cases z : w = mp_wy k 0
    · subst z
      rw [fb_s, fb_s, pk_us, pk_us, mp_sub_all (fun e he => by rw [ms_ins, List.mem_singleton] at he; rw [he])]
      refine ⟨rfl, rfl, fun e he => ?_, fun q => absurd q (by simp [ms_ins])⟩
      simp [ms_ins] at he; rw [← he]; exact ⟨rfl, rfl⟩
    · rw [fb_n z, fb_n z, mp_sub_none (fun e he q => z (by rw [ms_ins, List.mem_singleton] at he; rw [he] at q; exact q.symm))]
      exact ⟨rfl, rfl, fun e he => absurd he (by simp), fun q => absurd q (by simp)⟩
  · obtain ⟨n0, n01, n02, n03⟩ := mp_o hx
    refine br_t (by rw [n02]; exact nI_pos' (by omega)) (xm_descend hx (fun x1 d pa hd hx1 hP hlast => ?_))
    have grow : ∀ i, i < d → 2 ≤ (mp_pf k (ms_ins k v es) (i + 1)).length := by
      intro i hi
      rw [mp_pf_ins hS, ms_lenI (mp_pfS hS _)]
      have := (hP i hi).2
      split <;> omega
    have hpl : (mp_pf k (ms_ins k v es) 4).length ≤ (ms_ins k v es).length := mp_pf_le (i := 0) (by omega)
    refine pk_eq d 4 (fun c => ?_) (fun c => ?_)
    · subst c
      have hl4 : (mp_pf k es 4).length ≤ es.length := mp_pf_le (i := 0) (by omega)
      refine xm_gatherBucket hx1 (by omega) (fun g1 wo1 hA1 => xm_admit (mp_pfS hS 4) hA1 (by omega) (fun g2 wo2 hA2 => ?_))
      have ei := mp_pf_ins (k := k) (v := v) hS 4
      have hl5 : (ms_ins k v (mp_pf k es 4)).length ≤ (mp_pf k es 4).length + 1 := by rw [ms_lenI (mp_pfS hS 4)]; split <;> omega
      rw [ei] at hpl
      refine xm_bucketOf (fun _ => False) (fun _ z => z.elim) hA2 (by omega) ?_ hI (by omega) (fun x2 m2 r2 g3 g4 X hR2 => ?_)
      · intro z
        have : (k, v) ∈ ms_ins k v (mp_pf k es 4) := (ms_mem (mp_pfS hS 4)).mpr (Or.inl rfl)
        rw [z] at this; exact absurd this (by simp)
      · unfold wX_with_192
        refine xm_climb (es := es) (es' := ms_ins k v es) (d := 4) (ms_del_ins hS) (by omega) (ps_Im g4 hI) (by omega) (fun i hi => ⟨mp_R_m X (hP i hi).1, (hP i hi).2⟩) grow (by rw [ei]; exact mp_R_G hR2) (fun x3 m3 r3 g5 g6 X3 hR3 => ?_)
        exact hp x3 m3 r3 _ _ _ _ _ (by omega) (by omega) (mp_X_t X X3) (Or.inr ⟨hne', hR3⟩)
    · obtain ⟨r0, rfl⟩ : ∃ r0, R = r0 + 1 := ⟨R - 1, by omega⟩
      have hd4 : d < 4 := by omega
      have hlast := hlast hd4
      have hw := mp_wy_lt k d
      obtain ⟨p, ks, vs, p1, rfl, p3, hNp, hk⟩ := mp_unl hd4 hx1
      have ei := mp_pf_ins (k := k) (v := v) hS (d + 1)
      refine xm_mapCopy hI p1 p3 hNp (fun n m1 hn hF hnn hO hN1 => xm_way (nm_r (ps_4 p _) ⟨vp_in_nI p1 (by omega), ?_⟩))
      have hpn := hnn p p3
      have hNp1 := mp_N_O hO p1 hpn hNp
      have X1 : mp_X (ps_F fr (r0 + 1)) m (ps_F fr r0) m1 := mp_O_X hO (fun j hj => ps_Fm (by omega) hj) hnn
      -- the key goes into the copy
      have ent : mp_pf k (ms_ins k v es) (d + 1) = [(k, v)] → wX_with_134 post k v (mp_hs k) (nI n) (nI (mp_wy k d)) (nI (4 * p + mp_wy k d)) 0 (nI r0) f_listRoom (nI d) f_many f_first f_second a_held a_root m1.1 m1.2.1 m1.2.2.1 m1.2.2.2.1 m1.2.2.2.2 a_mapMark fr a_left a_right a_height a_size a_element a_total a_listMark a_listFree pa a_turns a_stack a_other a_gathered a_worth a_spareKey a_spareValue a_low a_high a_before a_behind := by
        intro e1
        refine br_t rfl (xm_enter hn hw hN1 (fun m2 hO2 hN2 => ?_))
        have X : mp_X (ps_F fr (r0 + 1)) m (ps_F fr r0) m2 := mp_O_X (mp_O_t hO hO2) (fun j hj => ps_Fm (by omega) hj) hnn
        unfold wX_with_192
        refine xm_climb (es := es) (es' := ms_ins k v es) (d := d) (ms_del_ins hS) (by omega) (ps_Im (by omega) hI) (by omega) (fun i hi => ⟨mp_R_m X (hP i hi).1, (hP i hi).2⟩) grow ?_ (fun x3 m3 r3 g5 g6 X3 hR3 => ?_)
        · exact mp_enter (es := mp_pf k es d) hd4 hn hF hN2 (fun w hw => ⟨(hk w hw).1, fun z => mp_R_m X ((hk w hw).2 z)⟩) (fun w hw => mp_pf_off (ms_del_ins hS) hw) e1
        · exact hp x3 m3 r3 _ _ _ _ _ (by omega) (by omega) (mp_X_t X X3) (Or.inr ⟨hne', hR3⟩)
      rw [nI_clamp (n := p) (by omega), hNp1.1]
      refine xm_bit hw (fun c1 => br_t rfl (ent ?_)) (fun c1 => br_f (by decide) ⟨vp_in_nI (by omega) (by omega), ?_⟩)
      · have z1 : ¬ (mp_sub d (mp_wy k d) (mp_pf k es d)).length = 1 := by simpa using c1
        have z2 : ¬ 2 ≤ (mp_sub d (mp_wy k d) (mp_pf k es d)).length := hlast
        have z3 : mp_pf k es (d + 1) = [] := List.length_eq_zero_iff.mp (show (mp_sub d (mp_wy k d) (mp_pf k es d)).length = 0 by omega)
        rw [ei, z3]; rfl
      · have z1 : (mp_sub d (mp_wy k d) (mp_pf k es d)).length = 1 := by simpa using c1
        obtain ⟨e, he⟩ := mp_len1 z1
        have q := (hk _ hw).1 e he
        have he2 : mp_pf k es (d + 1) = [e] := he
        have q1 := hNp1.2.2.2 _ hw
        rw [nI_clamp (by omega), q1.1, q.1]
        refine br_c (fun c2 => ent ?_) (fun c2 => ?_)
        · rw [ei, he2]
          obtain ⟨a, b⟩ := e
          have c3 : a = k := c2
          subst c3; exact ms_ins_eq
        · refine br_f (by decide) ⟨vp_in_nI (by omega) (by omega), vp_in_nI (by omega) (by omega), ?_⟩
          rw [nI_clamp (by omega), q1.1, q1.2, q.1, q.2, nI_1]
          refine xm_pair (fun j => j = n) (fun j hj => by rw [hj]; exact hF) c2 (by omega) (ps_Im (by omega) hI) (by omega) (fun x2 m2 r2 mn g wo g3 g4 X2 hR2 => ?_)
          have hN2 := mp_N_X X2 hn hF hN1
          refine xm_lead hn hw hN2 (fun m3 hO3 hN3 => ?_)
          have ei2 : mp_pf k (ms_ins k v es) (d + 1) = ms_ins k v (ms_ins e.1 e.2 []) := by rw [ei, he2]; rfl
          have X3 : mp_X (ps_F fr (r0 + 1)) m (ps_F fr r2) m3 := by
            refine ⟨fun j hj => ps_Fm (by omega) hj, fun j hj hFj => ?_⟩
            have a := (mp_X_t X1 X2).2 j hj hFj
            have b := hO3 j hj (hnn j hFj)
            exact ⟨b.1.trans a.1, b.2.1.trans a.2.1, b.2.2.1.trans a.2.2.1, fun w hw => ⟨(b.2.2.2 w hw).1.trans (a.2.2.2 w hw).1, (b.2.2.2 w hw).2.trans (a.2.2.2 w hw).2⟩⟩
          have hch : mp_R (ps_F fr r2) m3 (4 - (d + 1)) x2 (mp_pf k (ms_ins k v es) (d + 1)) := by
            rw [ei2]
            exact mp_R_m ⟨fun j hj => hj.1, fun j hj hG => hO3 j hj hG.2⟩ hR2
          have h2 : 2 ≤ (mp_pf k (ms_ins k v es) (d + 1)).length := by rw [ei2]; exact Nat.le_of_eq (ms_two c2).2.1.symm
          unfold wX_with_192
          refine xm_climb (es := es) (es' := ms_ins k v es) (d := d) (ms_del_ins hS) (by omega) (ps_Im (by omega) hI) (by omega) (fun i hi => ⟨mp_R_m X3 (hP i hi).1, (hP i hi).2⟩) grow ?_ (fun x4 m4 r4 g5 g6 X4 hR4 => ?_)
          · exact mp_lead (es := mp_pf k es d) hd4 hn (ps_Fm g4 hF) hN3 (fun w hw => ⟨(hk w hw).1, fun z => mp_R_m X3 ((hk w hw).2 z)⟩) (fun w hw => mp_pf_off (ms_del_ins hS) hw) h2 hch
          · exact hp x4 m4 r4 _ _ _ _ _ (by omega) (by omega) (mp_X_t X3 X4) (Or.inr ⟨hne', hR4⟩)
end
end
section
/-! alone, without -/
theorem mb4_z : ∀ a b c d : Bool, mb4 a b c d = 1 → a = true ∧ b = false ∧ c = false ∧ d = false := by decide +kernel
theorem mb4_z2 : ∀ a b c d : Bool, mb4 a b c d = 2 → a = false ∧ b = true ∧ c = false ∧ d = false := by decide +kernel
theorem mb4_z4 : ∀ a b c d : Bool, mb4 a b c d = 4 → a = false ∧ b = false ∧ c = true ∧ d = false := by decide +kernel
theorem mb4_z8 : ∀ a b c d : Bool, ¬ mb4 a b c d = 0 → mb4 a b c d &&& (mb4 a b c d - 1) = 0 → ¬ mb4 a b c d = 1 → ¬ mb4 a b c d = 2 → ¬ mb4 a b c d = 4 → a = false ∧ b = false ∧ c = false ∧ d = true := by decide +kernel
theorem mb4_p0 : mb4 true false false false &&& (mb4 true false false false - 1) = 0 ∧ ¬ mb4 true false false false = 0 := by decide +kernel
theorem mb4_p1 : mb4 false true false false &&& (mb4 false true false false - 1) = 0 ∧ ¬ mb4 false true false false = 0 := by decide +kernel
theorem mb4_p2 : mb4 false false true false &&& (mb4 false false true false - 1) = 0 ∧ ¬ mb4 false false true false = 0 := by decide +kernel
theorem mb4_p3 : mb4 false false false true &&& (mb4 false false false true - 1) = 0 ∧ ¬ mb4 false false false true = 0 := by decide +kernel
/-- one way alone -/
def mb_one (f : Nat → Bool) (w : Nat) : Prop := f w = true ∧ ∀ j, j < 4 → j ≠ w → f j = false
theorem mb_one_p {f : Nat → Bool} {w : Nat} (hw : w < 4) (h : mb_one f w) : mb f &&& (mb f - 1) = 0 ∧ ¬ mb f = 0 := by
  have e : w = 0 ∨ w = 1 ∨ w = 2 ∨ w = 3 := by omega
  unfold mb
  rcases e with rfl | rfl | rfl | rfl
  · rw [h.1, h.2 1 (by omega) (by omega), h.2 2 (by omega) (by omega), h.2 3 (by omega) (by omega)]; exact mb4_p0
  · rw [h.1, h.2 0 (by omega) (by omega), h.2 2 (by omega) (by omega), h.2 3 (by omega) (by omega)]; exact mb4_p1
  · rw [h.1, h.2 0 (by omega) (by omega), h.2 1 (by omega) (by omega), h.2 3 (by omega) (by omega)]; exact mb4_p2
  · rw [h.1, h.2 0 (by omega) (by omega), h.2 1 (by omega) (by omega), h.2 2 (by omega) (by omega)]; exact mb4_p3
theorem mb_one_4 {f : Nat → Bool} {w : Nat} (h : f w = true) (h' : ∀ j, j < 4 → j ≠ w → f j = false) : mb_one f w := ⟨h, h'⟩
theorem mb_lt4 {P : Nat → Prop} (h0 : P 0) (h1 : P 1) (h2 : P 2) (h3 : P 3) : ∀ j, j < 4 → P j := fun _ hj => mb_cases h0 h1 h2 h3 hj
section
variable {f_mapRoom f_listRoom f_depth f_many f_first f_second : Int32} {a_held a_root a_data a_links a_more a_keys a_values a_mapMark a_mapFree a_left a_right a_height a_size a_element a_listMark a_listFree a_path a_turns a_stack a_other a_gathered a_worth a_spareKey a_spareValue a_low a_high a_before a_behind : Nat → Int32} {a_total : Nat → Int64}
variable {m : MH}
theorem xm_aloneN {post : Int32 → Prop} {n : Nat} {f g : Nat → Bool} {mo : Int32} {ks vs : Nat → Int32} (hn : n < 720) (hN : mp_N m n f g mo ks vs) (hmo : ps_o 720 mo)
    (h1 : ∀ w, w < 4 → (∀ j, j < 4 → g j = false) → mo = -1 → mb_one f w → post (nI (4 * n + w)))
    (h0 : ¬ ((∀ j, j < 4 → g j = false) ∧ mo = -1 ∧ ∃ w, w < 4 ∧ mb_one f w) → post (-1)) : wpX_alone post (f_mapRoom, f_listRoom, f_depth, f_many, f_first, f_second, a_held, a_root, m.1, m.2.1, m.2.2.1, m.2.2.2.1, m.2.2.2.2, a_mapMark, a_mapFree, a_left, a_right, a_height, a_size, a_element, a_total, a_listMark, a_listFree, a_path, a_turns, a_stack, a_other, a_gathered, a_worth, a_spareKey, a_spareValue, a_low, a_high, a_before, a_behind) (nI n) := by
  refine And.intro (vp_in_nI hn (by omega)) (nm_r (e' := mb f) (by rw [nI_clamp (by omega)]; exact hN.1) ⟨vp_in_nI hn (by omega), ?_⟩)
  rw [nI_clamp (n := n) (by omega), hN.2.1, hN.2.2.1]
  refine br_c (fun c => ⟨vp_in_nI hn (by omega), br_c (fun c2 => h0 ?_) (fun c2 => br_c (fun c3 => h0 ?_) (fun c3 => br_c (fun c4 => ?_) (fun c4 => h0 ?_)))⟩) (fun c => h0 ?_)
  · rintro ⟨_, z, _⟩; rw [z] at c2; exact ps_m1nle c2
  · rintro ⟨_, _, w, hw, z⟩; exact (mb_one_p hw z).2 c3
  · have hg : ∀ j, j < 4 → g j = false := mb_z.mp c
    have hm : mo = -1 := by
      rcases hmo with z | ⟨j, hj, z⟩
      · exact z
      · rw [z] at c2; exact absurd (nI_pos' (by omega)) c2
    refine br_c (fun c5 => ?_) (fun c5 => br_c (fun c6 => ?_) (fun c6 => br_c (fun c7 => ?_) (fun c7 => ?_)))
    · obtain ⟨z0, z1, z2, z3⟩ := mb4_z _ _ _ _ c5
      have K := h1 0 (by omega) hg hm ⟨z0, mb_lt4 (P := fun j => j ≠ 0 → f j = false) (fun z => absurd rfl z) (fun _ => z1) (fun _ => z2) (fun _ => z3)⟩
      rw [← ps_4] at K; exact K
    · obtain ⟨z0, z1, z2, z3⟩ := mb4_z2 _ _ _ _ c6
      have K := h1 1 (by omega) hg hm ⟨z1, mb_lt4 (P := fun j => j ≠ 1 → f j = false) (fun _ => z0) (fun z => absurd rfl z) (fun _ => z2) (fun _ => z3)⟩
      rw [← ps_4] at K; exact K
    · obtain ⟨z0, z1, z2, z3⟩ := mb4_z4 _ _ _ _ c7
      have K := h1 2 (by omega) hg hm ⟨z2, mb_lt4 (P := fun j => j ≠ 2 → f j = false) (fun _ => z0) (fun _ => z1) (fun z => absurd rfl z) (fun _ => z3)⟩
      rw [← ps_4] at K; exact K
    · obtain ⟨z0, z1, z2, z3⟩ := mb4_z8 _ _ _ _ c3 c4 c5 c6 c7
      have K := h1 3 (by omega) hg hm ⟨z3, mb_lt4 (P := fun j => j ≠ 3 → f j = false) (fun _ => z0) (fun _ => z1) (fun _ => z2) (fun z => absurd rfl z)⟩
      rw [← ps_4] at K; exact K
  · rintro ⟨_, _, w, hw, z⟩; exact c4 (mb_one_p hw z).1
  · rintro ⟨z, _⟩; exact c (mb_z.mpr z)
end
/-- the four ways share out the entries -/
theorem mp_perm {l : Nat} : ∀ (es : List (Int32 × Int32)), es.length = (mp_sub l 0 es).length + (mp_sub l 1 es).length + (mp_sub l 2 es).length + (mp_sub l 3 es).length := by
  intro es
  induction es with
  | nil => rfl
  | cons e es ih =>
    have hw := mp_wy_lt e.1 l
    have key : ∀ w, (mp_sub l w (e :: es)).length = (mp_sub l w es).length + (if mp_wy e.1 l = w then 1 else 0) := by
      intro w
      unfold mp_sub
      rw [List.filter_cons]
      by_cases c : mp_wy e.1 l = w
      · rw [if_pos (by simp [c]), if_pos c]; rfl
      · rw [if_neg (by simp [c]), if_neg c]; rfl
    rw [key, key, key, key, List.length_cons, ih]
    have e4 : mp_wy e.1 l = 0 ∨ mp_wy e.1 l = 1 ∨ mp_wy e.1 l = 2 ∨ mp_wy e.1 l = 3 := by omega
    rcases e4 with z | z | z | z <;> rw [z] <;> simp <;> omega
theorem mp_sub_1 {l w : Nat} {es : List (Int32 × Int32)} (hw : w < 4) (h1 : (mp_sub l w es).length = 1) (h0 : ∀ j, j < 4 → j ≠ w → (mp_sub l j es).length = 0) : es.length = 1 ∧ ∃ e, es = [e] ∧ mp_sub l w es = [e] := by
  have hl : es.length = 1 := by
    rw [mp_perm (l := l) es]
    have e4 : w = 0 ∨ w = 1 ∨ w = 2 ∨ w = 3 := by omega
    rcases e4 with z | z | z | z <;> subst z
    · have a := h0 1 (by omega) (by omega); have b := h0 2 (by omega) (by omega); have c := h0 3 (by omega) (by omega); omega
    · have a := h0 0 (by omega) (by omega); have b := h0 2 (by omega) (by omega); have c := h0 3 (by omega) (by omega); omega
    · have a := h0 0 (by omega) (by omega); have b := h0 1 (by omega) (by omega); have c := h0 3 (by omega) (by omega); omega
    · have a := h0 0 (by omega) (by omega); have b := h0 1 (by omega) (by omega); have c := h0 2 (by omega) (by omega); omega
  refine ⟨hl, ?_⟩
  obtain ⟨e, rfl⟩ := mp_len1 hl
  refine ⟨e, rfl, ?_⟩
  obtain ⟨e', he'⟩ := mp_len1 h1
  have : e' ∈ mp_sub l w [e] := by rw [he']; simp
  have := (mp_sub_mem.mp this).1
  rw [List.mem_singleton] at this
  rw [he', this]
section
variable {f_mapRoom f_listRoom f_depth f_many f_first f_second : Int32} {a_held a_root a_data a_links a_more a_keys a_values a_mapMark a_mapFree a_left a_right a_height a_size a_element a_listMark a_listFree a_path a_turns a_stack a_other a_gathered a_worth a_spareKey a_spareValue a_low a_high a_before a_behind : Nat → Int32} {a_total : Nat → Int64}
variable {F : Nat → Prop} {m : MH}
theorem xm_alone {post : Int32 → Prop} {l : Nat} {x : Int32} {es : List (Int32 × Int32)} (hl : l ≤ 4) (hx : mp_R F m (4 - l) x es) (hne : es ≠ [])
    (h1 : ∀ n w e, n < 720 → F n → w < 4 → es = [e] → m.2.2.2.1 (4 * n + w) = e.1 → m.2.2.2.2 (4 * n + w) = e.2 → post (nI (4 * n + w))) (h2 : 2 ≤ es.length → post (-1)) : wpX_alone post (f_mapRoom, f_listRoom, f_depth, f_many, f_first, f_second, a_held, a_root, m.1, m.2.1, m.2.2.1, m.2.2.2.1, m.2.2.2.2, a_mapMark, a_mapFree, a_left, a_right, a_height, a_size, a_element, a_total, a_listMark, a_listFree, a_path, a_turns, a_stack, a_other, a_gathered, a_worth, a_spareKey, a_spareValue, a_low, a_high, a_before, a_behind) x := by
  have hpos := List.length_pos_iff.mpr hne
  by_cases c : l = 4
  · subst c
    obtain ⟨_, d, hB⟩ := hx
    cases d with
    | zero => exact absurd hB.2 hne
    | succ d =>
      rcases hB with ⟨_, z⟩ | ⟨n, n1, rfl, n3, n4, n5, n6, n7, n8⟩
      · exact absurd z hne
      · refine xm_aloneN (ks := fun w => m.2.2.2.1 (4 * n + w)) (vs := fun w => m.2.2.2.2 (4 * n + w)) n1 ⟨n5, n6, rfl, fun _ _ => ⟨rfl, rfl⟩⟩ (mp_B_o n8) (fun w hw _ _ ho => ?_) (fun hno => h2 ?_)
        · have l1 : es.length = 1 := by
            by_cases q : 1 < es.length
            · by_cases q2 : w = 0
              · exact absurd q (of_decide_eq_false (ho.2 1 (by omega) (by omega)))
              · exact absurd hpos (of_decide_eq_false (ho.2 0 (by omega) (fun z => q2 z.symm)))
            · omega
          obtain ⟨e, rfl⟩ := mp_len1 l1
          have w0 : w = 0 := by have := ho.1; simp at this; exact this
          subst w0
          have q := n7 0 (by omega) (by simp)
          exact h1 n 0 e n1 n3 (by omega) rfl q.1 q.2
        · by_cases q : es.length = 1
          · obtain ⟨e, rfl⟩ := mp_len1 q
            refine absurd ⟨fun _ _ => rfl, ?_, 0, by omega, by simp, fun j hj hj0 => by simp; omega⟩ hno
            cases d with
            | zero => exact n8.1
            | succ d =>
              rcases n8 with z | ⟨_, _, _, _, z, _⟩
              · exact z.1
              · exact absurd rfl z
          · omega
  · obtain ⟨n, ks, vs, n1, rfl, n3, hN, hk⟩ := mp_unl (by omega) hx
    refine xm_aloneN n1 hN (Or.inl rfl) (fun w hw hg _ ho => ?_) (fun hno => h2 ?_)
    · have l1 : (mp_sub l w es).length = 1 := by simpa using ho.1
      obtain ⟨_, e, he, hes⟩ := mp_sub_1 hw l1 (fun j hj hjw => by
        have a := ho.2 j hj hjw
        have b := hg j hj
        simp at a b; omega)
      have q := (hk w hw).1 e hes
      have q2 := hN.2.2.2 w hw
      exact h1 n w e n1 n3 hw he (q2.1.trans q.1) (q2.2.trans q.2)
    · by_cases q : es.length = 1
      · obtain ⟨e, rfl⟩ := mp_len1 q
        have hw := mp_wy_lt e.1 l
        have sw : mp_sub l (mp_wy e.1 l) [e] = [e] := mp_sub_all (fun a ha => by rw [List.mem_singleton] at ha; rw [ha])
        have sn : ∀ j, j ≠ mp_wy e.1 l → mp_sub l j [e] = [] := fun j hj => mp_sub_none (fun a ha => by rw [List.mem_singleton] at ha; rw [ha]; exact fun z => hj z.symm)
        refine absurd ⟨fun j hj => ?_, rfl, mp_wy e.1 l, hw, ?_, fun j hj hjw => ?_⟩ hno
        · by_cases z : j = mp_wy e.1 l
          · rw [z, sw]; rfl
          · rw [sn j z]; rfl
        · show decide ((mp_sub l (mp_wy e.1 l) [e]).length = 1) = true
          rw [sw]; rfl
        · show decide ((mp_sub l j [e]).length = 1) = false
          rw [sn j hjw]; rfl
      · omega
end
theorem mp_clear {F : Nat → Prop} {m : MH} {l n w0 : Nat} {es es' : List (Int32 × Int32)} {ks vs : Nat → Int32} (hl : l < 4) (hn : n < 720) (hF : F n)
    (hN : mp_N m n (fb (fun w => decide ((mp_sub l w es).length = 1)) w0 false) (fun w => decide (2 ≤ (mp_sub l w es).length)) (-1) ks vs)
    (hk : ∀ w, w < 4 → (∀ e, mp_sub l w es = [e] → ks w = e.1 ∧ vs w = e.2) ∧ (2 ≤ (mp_sub l w es).length → mp_R F m (4 - (l + 1)) (ks w) (mp_sub l w es)))
    (hs : ∀ w, w ≠ w0 → mp_sub l w es' = mp_sub l w es) (h1 : mp_sub l w0 es' = []) (h2 : ¬ 2 ≤ (mp_sub l w0 es).length) : mp_R F m (4 - l) (nI n) es' := by
  refine mp_mkl hl hn hF hN (fun w hw => ?_)
  by_cases z : w = w0
  · subst z
    rw [fb_s, h1]
    exact ⟨rfl, decide_eq_false h2, fun e he => absurd he (by simp), fun q => absurd q (by simp)⟩
  · rw [fb_n z, hs w z]
    exact ⟨rfl, rfl, hk w hw⟩
theorem mp_emp {l : Nat} {es : List (Int32 × Int32)} : es = [] ↔ ∀ w, w < 4 → (mp_sub l w es).length = 0 := by
  constructor
  · rintro rfl w _; rfl
  · intro h
    have := mp_perm (l := l) es
    rw [h 0 (by omega), h 1 (by omega), h 2 (by omega), h 3 (by omega)] at this
    exact List.length_eq_zero_iff.mp this
section
variable {f_mapRoom f_listRoom f_depth f_many f_first f_second : Int32} {a_held a_root a_data a_links a_more a_keys a_values a_mapMark a_mapFree a_left a_right a_height a_size a_element a_listMark a_listFree a_path a_turns a_stack a_other a_gathered a_worth a_spareKey a_spareValue a_low a_high a_before a_behind : Nat → Int32} {a_total : Nat → Int64}
variable {fr pa : Nat → Int32} {k : Int32} {es es' : List (Int32 × Int32)}
theorem xm_wo229 {post : Int32 → SX → Prop} {d R : Nat} {m : MH} {x : Int32} (hE : ms_del k es' = ms_del k es) (hd : d ≤ 4) (hI : ps_I fr 720 R) (hR : d ≤ R) (hP : mp_PC (ps_F fr R) m k es pa d)
    (hx : mp_R (ps_F fr R) m (4 - d) x (mp_pf k es' d)) (h2 : d = 0 ∨ 2 ≤ (mp_pf k es' d).length)
    (hp : ∀ x' m' r', R ≤ r' + d → r' ≤ R → mp_X (ps_F fr R) m (ps_F fr r') m' → mp_M (ps_F fr r') m' x' es' → post x' (nI r', f_listRoom, nI d, f_many, f_first, f_second, a_held, a_root, m'.1, m'.2.1, m'.2.2.1, m'.2.2.2.1, m'.2.2.2.2, a_mapMark, fr, a_left, a_right, a_height, a_size, a_element, a_total, a_listMark, a_listFree, pa, a_turns, a_stack, a_other, a_gathered, a_worth, a_spareKey, a_spareValue, a_low, a_high, a_before, a_behind)) :
    wX_without_229 post (mp_hs k) x (nI R) f_listRoom (nI d) f_many f_first f_second a_held a_root m.1 m.2.1 m.2.2.1 m.2.2.2.1 m.2.2.2.2 a_mapMark fr a_left a_right a_height a_size a_element a_total a_listMark a_listFree pa a_turns a_stack a_other a_gathered a_worth a_spareKey a_spareValue a_low a_high a_before a_behind := by
  have cl : (d = 0 → es' ≠ []) → wX_without_258 post (mp_hs k) x (nI R) f_listRoom (nI d) f_many f_first f_second a_held a_root m.1 m.2.1 m.2.2.1 m.2.2.2.1 m.2.2.2.2 a_mapMark fr a_left a_right a_height a_size a_element a_total a_listMark a_listFree pa a_turns a_stack a_other a_gathered a_worth a_spareKey a_spareValue a_low a_high a_before a_behind := by
    intro hz
    unfold wX_without_258
    refine xm_climb hE hd hI hR hP (fun i hi => ?_) hx (fun x' m' r' g1 g2 X hR' => hp x' m' r' g1 g2 X (Or.inr ⟨?_, hR'⟩))
    · rcases h2 with z | z
      · omega
      · exact Nat.le_trans z (mp_pf_le (by omega))
    · by_cases z : d = 0
      · exact hz z
      · rcases h2 with q | q
        · exact absurd q z
        · rintro rfl
          have : (mp_pf k [] d).length ≤ (mp_pf k [] 0).length := mp_pf_le (by omega)
          rw [mp_pf] at this
          simp at this
          rw [this] at q; simp at q
  refine pk_eq d 0 (fun c => ?_) (fun c => cl (fun z => absurd z c))
  subst c
  obtain ⟨n, ks, vs, n1, rfl, n3, hN, hk⟩ := mp_unl (by omega) hx
  refine ⟨vp_in_nI n1 (by omega), ?_⟩
  rw [nI_clamp (n := n) (by omega), hN.1, hN.2.1]
  refine br_c (fun c1 => ⟨vp_in_nI n1 (by omega), br_c (fun c2 => ?_) (fun c2 => cl (fun _ z => c2 ?_))⟩) (fun c1 => cl (fun _ z => c1 ?_))
  · refine hp (-1) m R (by omega) (by omega) mp_X_r (Or.inl ⟨rfl, ?_⟩)
    refine (mp_emp (l := 0)).mpr (fun w hw => ?_)
    have a : ¬ (mp_sub 0 w es').length = 1 := of_decide_eq_false (mb_z.mp c1 w hw)
    have b : ¬ 2 ≤ (mp_sub 0 w es').length := of_decide_eq_false (mb_z.mp c2 w hw)
    omega
  · exact mb_z.mpr (fun w hw => by rw [show mp_pf k es' 0 = es' from rfl, z]; rfl)
  · exact mb_z.mpr (fun w hw => by rw [show mp_pf k es' 0 = es' from rfl, z]; rfl)
theorem xm_wo144 {post : Int32 → SX → Prop} (hE : ms_del k es' = ms_del k es) :
    ∀ (d : Nat) {N R : Nat} {m : MH} {x : Int32}, d < N → d ≤ 4 → ps_I fr 720 R → d ≤ R → mp_PC (ps_F fr R) m k es pa d → mp_R (ps_F fr R) m (4 - d) x (mp_pf k es' d) → (0 < d → mp_pf k es' d ≠ []) →
    (∀ x' m' r' dp, R ≤ r' + d → r' ≤ R → mp_X (ps_F fr R) m (ps_F fr r') m' → mp_M (ps_F fr r') m' x' es' → post x' (nI r', f_listRoom, dp, f_many, f_first, f_second, a_held, a_root, m'.1, m'.2.1, m'.2.2.1, m'.2.2.2.1, m'.2.2.2.2, a_mapMark, fr, a_left, a_right, a_height, a_size, a_element, a_total, a_listMark, a_listFree, pa, a_turns, a_stack, a_other, a_gathered, a_worth, a_spareKey, a_spareValue, a_low, a_high, a_before, a_behind)) →
    wX_without_144 post (mp_hs k) N x (nI R) f_listRoom (nI d) f_many f_first f_second a_held a_root m.1 m.2.1 m.2.2.1 m.2.2.2.1 m.2.2.2.2 a_mapMark fr a_left a_right a_height a_size a_element a_total a_listMark a_listFree pa a_turns a_stack a_other a_gathered a_worth a_spareKey a_spareValue a_low a_high a_before a_behind := by
  intro d
  induction d with
  | zero =>
    intro N R m x hN _ hI _ hP hx _ hp
    cases N with
    | zero => omega
    | succ N => exact br_t (by decide) (xm_wo229 hE (by omega) hI (by omega) hP hx (Or.inl rfl) (fun x' m' r' g1 g2 X hM => hp x' m' r' _ g1 g2 X hM))
  | succ d ih =>
    intro N R m x hN hd hI hR hP hx hne hp
    have hne := hne (by omega)
    cases N with
    | zero => omega
    | succ N =>
      refine br_f (nI_nle (by omega) (by omega)) ?_
      refine xm_alone hd hx hne (fun n0 w0 e0 n01 _ w01 he0 _ _ => br_f (nI_pos (by omega)) ?_) (fun z2 => br_t ps_m1lt (xm_wo229 hE (by omega) hI (by omega) hP hx (Or.inr z2) (fun x' m' r' g1 g2 X hM => hp x' m' r' _ g1 g2 X hM)))
      refine xm_alone hd hx hne (fun n w e n1 n2 w1 he q1 q2 => ?_) (fun z2 => ?_)
      · obtain ⟨r0, rfl⟩ : ∃ r0, R = r0 + 1 := ⟨R - 1, by omega⟩
        obtain ⟨p0, p00⟩ := hP d (by omega)
        obtain ⟨p, ks, vs, p1, p2, p3, hNp, hk⟩ := mp_unl (by omega) p0
        have hw := mp_wy_lt k d
        refine nm_r (nI_pred d) ⟨by rw [nI_pred]; exact vp_in_nI (by omega) (by omega), ?_⟩
        rw [nI_pred, nI_clamp (n := d) (by omega), p2]
        refine xm_mapCopy hI p1 p3 hNp (fun n' m1 hn' hF hnn hO hN1 => xm_way ⟨vp_in_nI (by omega) (by omega), vp_in_nI (by omega) (by omega), ?_⟩)
        have o := hO n n1 (hnn n n2)
        rw [nI_clamp (n := 4 * n + w) (by omega), (o.2.2.2 w w1).1, (o.2.2.2 w w1).2, q1, q2]
        refine xm_enter hn' hw hN1 (fun m2 hO2 hN2 => ?_)
        have X : mp_X (ps_F fr (r0 + 1)) m (ps_F fr r0) m2 := mp_O_X (mp_O_t hO hO2) (fun j hj => ps_Fm (by omega) hj) hnn
        refine ih (by omega) (by omega) (ps_Im (by omega) hI) (by omega) (fun i hi => ⟨mp_R_m X (hP i (by omega)).1, (hP i (by omega)).2⟩) ?_ (fun _ z => ?_) (fun x' m' r' dp g1 g2 X' hM => hp x' m' r' dp (by omega) (by omega) (mp_X_t X X') hM)
        · exact mp_enter (es := mp_pf k es d) (by omega) hn' hF hN2 (fun w hw => ⟨(hk w hw).1, fun z => mp_R_m X ((hk w hw).2 z)⟩) (fun w hw => mp_pf_off hE hw) he
        · have := mp_pf_len (k := k) (es := es') d
          rw [z, he] at this; simp at this
      · rw [he0] at z2; simp at z2
end
end
section
/-! without: the bucket's case, and the whole -/
theorem ms_del_s {k u : Int32} {A B : List (Int32 × Int32)} (hS : ms_S (A ++ (k, u) :: B)) : ms_del k (A ++ (k, u) :: B) = A ++ B := by
  unfold ms_S at hS
  rw [List.pairwise_append, List.pairwise_cons] at hS
  unfold ms_del
  rw [List.filter_append, List.filter_cons, if_neg (by simp)]
  rw [List.filter_eq_self.mpr (fun a ha => ?_), List.filter_eq_self.mpr (fun a ha => ?_)]
  · have := ms_ne (hS.2.1.1 a ha)
    simp; exact fun z => this z.symm
  · have := ms_ne (hS.2.2 a ha (k, u) (by simp))
    simp; exact this
theorem pl_shift {A B : List Int32} {x : Int32} {j : Nat} (h : A.length ≤ j) : (A ++ x :: B).getD (j + 1) 0 = (A ++ B).getD j 0 := by
  rw [pl_get2 (by omega), List.getD_eq_getElem?_getD, List.getD_eq_getElem?_getD, List.getElem?_append_right h]
  exact congrArg (fun z => (B[z]?).getD 0) (by omega)
theorem mp_pf_get {k : Int32} {es : List (Int32 × Int32)} : ∀ i, ms_get k (mp_pf k es i) = ms_get k es := by
  intro i
  induction i with
  | zero => rfl
  | succ i ih => rw [mp_pf, mp_get_sub, ih]
section
variable {f_mapRoom f_listRoom f_depth f_many f_first f_second : Int32} {a_held a_root a_data a_links a_more a_keys a_values a_mapMark a_mapFree a_left a_right a_height a_size a_element a_listMark a_listFree a_path a_turns a_stack a_other a_gathered a_worth a_spareKey a_spareValue a_low a_high a_before a_behind : Nat → Int32} {a_total : Nat → Int64}
variable {k hh : Int32} {post : Int32 → SX → Prop}
theorem xm_wo57 {L : Nat} {kl vl kd vd : List Int32} (hL : L < 64) (hlen : kl.length = L + 1 ∧ vl.length = L + 1 ∧ kd.length = L ∧ vd.length = L) {i0 : Nat}
    (hs : ∀ j, i0 ≤ j → j < L → kl.getD (j + 1) 0 = kd.getD j 0 ∧ vl.getD (j + 1) 0 = vd.getD j 0)
    (hp : ∀ N g wo, ps_A g kd → ps_A wo vd → wX_without_57 post hh f_mapRoom f_listRoom f_depth (nI L) f_first f_second (N + 1) (nI L) a_held a_root a_data a_links a_more a_keys a_values a_mapMark a_mapFree a_left a_right a_height a_size a_element a_total a_listMark a_listFree a_path a_turns a_stack a_other g wo a_spareKey a_spareValue a_low a_high a_before a_behind) :
    ∀ (d : Nat) {N j : Nat} {g wo : Nat → Int32}, d < N → j + d = L → i0 ≤ j → (∀ c, c < j → g c = kd.getD c 0 ∧ wo c = vd.getD c 0) → (∀ c, j < c → c < L + 1 → g c = kl.getD c 0 ∧ wo c = vl.getD c 0) →
    wX_without_57 post hh f_mapRoom f_listRoom f_depth (nI L) f_first f_second N (nI j) a_held a_root a_data a_links a_more a_keys a_values a_mapMark a_mapFree a_left a_right a_height a_size a_element a_total a_listMark a_listFree a_path a_turns a_stack a_other g wo a_spareKey a_spareValue a_low a_high a_before a_behind := by
  intro d
  induction d with
  | zero =>
    intro N j g wo hN hj hi h1 h2
    have e : j = L := by omega
    subst e
    cases N with
    | zero => omega
    | succ N => exact hp N g wo (fun c hc => (h1 c (by omega)).1) (fun c hc => (h1 c (by omega)).2)
  | succ d ih =>
    intro N j g wo hN hj hi h1 h2
    cases N with
    | zero => omega
    | succ N =>
      have q := h2 (j + 1) (by omega) (by omega)
      have s := hs j hi (by omega)
      refine br_f (nI_ge (by omega) (by omega)) ⟨by rw [nI_1]; exact vp_in_nI (by omega) (by omega), vp_in_nI (by omega) (by omega), nm_r (e' := upd g j (kd.getD j 0)) (by rw [nI_1, nI_clamp (by omega), nI_clamp (by omega), q.1, s.1]) ⟨by rw [nI_1]; exact vp_in_nI (by omega) (by omega), vp_in_nI (by omega) (by omega), nm_r (e' := upd wo j (vd.getD j 0)) (by rw [nI_1, nI_clamp (by omega), nI_clamp (by omega), q.2, s.2]) (nm_r (nI_1 j) ?_)⟩⟩
      refine ih (by omega) (by omega) (by omega) (fun c hc => ?_) (fun c c1 c2 => ?_)
      · by_cases z : c = j
        · subst z; rw [pk_us, pk_us]; exact ⟨rfl, rfl⟩
        · rw [pk_un z, pk_un z]; exact h1 c (by omega)
      · rw [pk_un (by omega), pk_un (by omega)]; exact h2 c (by omega) c2
theorem xm_wo30 {es : List (Int32 × Int32)} {g wo : Nat → Int32} (hS : ms_S es) (hA : ms_A g wo es) (hL : es.length ≤ 64) (hk : ms_get k es ≠ none)
    (hp : ∀ N g' wo', ms_A g' wo' (ms_del k es) → wX_without_57 post hh f_mapRoom f_listRoom f_depth (nI (ms_del k es).length) f_first f_second (N + 1) (nI (ms_del k es).length) a_held a_root a_data a_links a_more a_keys a_values a_mapMark a_mapFree a_left a_right a_height a_size a_element a_total a_listMark a_listFree a_path a_turns a_stack a_other g' wo' a_spareKey a_spareValue a_low a_high a_before a_behind) :
    ∀ (d : Nat) {N i : Nat}, d < N → i + d = es.length → (∀ c, c < i → (es.getD c (0, 0)).1 ≠ k) →
    wX_without_30 post k hh f_mapRoom f_listRoom f_depth (nI es.length) f_first f_second a_held a_root a_data a_links a_more a_keys a_values a_mapMark a_mapFree a_left a_right a_height a_size a_element a_total a_listMark a_listFree a_path a_turns a_stack a_other g wo a_spareKey a_spareValue a_low a_high a_before a_behind N (nI i) := by
  intro d
  induction d with
  | zero =>
    intro N i hN hi hno
    exfalso
    refine hk (ms_get_n.mpr (fun e he => ?_))
    obtain ⟨c, hc, rfl⟩ := List.mem_iff_getElem.mp he
    have := hno c (by omega)
    rw [List.getD_eq_getElem?_getD, List.getElem?_eq_getElem hc] at this
    exact this
  | succ d ih =>
    intro N i hN hi hno
    cases N with
    | zero => omega
    | succ N =>
      have q := ms_Ag hA (i := i) (by omega)
      refine And.intro (vp_in_nI (by omega) (by omega)) ?_
      rw [nI_clamp (n := i) (by omega), q.1]
      refine br_c (fun c => ?_) (fun c => nm_r (nI_1 i) (ih (by omega) (by omega) (fun c' hc' => ?_)))
      · have ee : es.getD i (0, 0) = (k, (es.getD i (0, 0)).2) := by rw [← c]
        have es_e : es = es.take i ++ (k, (es.getD i (0, 0)).2) :: es.drop (i + 1) := by
          rw [← ee, ← ms_drop (by omega), List.take_append_drop]
        have eli : (es.take i).length = i := by rw [List.length_take]; omega
        have ed : ms_del k es = es.take i ++ es.drop (i + 1) := by
          have := ms_del_s (k := k) (u := (es.getD i (0, 0)).2) (A := es.take i) (B := es.drop (i + 1)) (by rw [← es_e]; exact hS)
          rw [← es_e] at this; exact this
        have ld : (ms_del k es).length = es.length - 1 := by
          rw [ed, List.length_append, eli, List.length_drop]; omega
        refine nm_r (e' := nI (ms_del k es).length) ?_ ⟨(ms_del k es).length - i + 1, ?_⟩
        · rw [ld]
          obtain ⟨L, hL'⟩ : ∃ L, es.length = L + 1 := ⟨es.length - 1, by omega⟩
          rw [hL', nI_pred]; rfl
        · refine xm_wo57 (L := (ms_del k es).length) (kl := es.map Prod.fst) (vl := es.map Prod.snd) (kd := (ms_del k es).map Prod.fst) (vd := (ms_del k es).map Prod.snd) (i0 := i) (by omega) ?_ ?_ (fun N g' wo' a b => hp N g' wo' ⟨a, b⟩) ((ms_del k es).length - i) (by omega) (by omega) (by omega) (fun c hc => ?_) (fun c c1 c2 => ?_)
          · exact ⟨by rw [List.length_map]; omega, by rw [List.length_map]; omega, by rw [List.length_map], by rw [List.length_map]⟩
          · intro j j1 j2
            have e1 : es.map Prod.fst = (es.take i).map Prod.fst ++ k :: (es.drop (i + 1)).map Prod.fst := by
              conv => lhs; rw [es_e]
              rw [List.map_append, List.map_cons]
            have e2 : es.map Prod.snd = (es.take i).map Prod.snd ++ (es.getD i (0, 0)).2 :: (es.drop (i + 1)).map Prod.snd := by
              conv => lhs; rw [es_e]
              rw [List.map_append, List.map_cons]
            rw [e1, e2, ed, List.map_append, List.map_append]
            exact ⟨pl_shift (by rw [List.length_map, eli]; exact j1), pl_shift (by rw [List.length_map, eli]; exact j1)⟩
          · have r1 := hA.1 c (by rw [List.length_map]; omega)
            have r2 := hA.2 c (by rw [List.length_map]; omega)
            have e1 : es.map Prod.fst = (es.take i).map Prod.fst ++ k :: (es.drop (i + 1)).map Prod.fst := by
              conv => lhs; rw [es_e]
              rw [List.map_append, List.map_cons]
            have e2 : es.map Prod.snd = (es.take i).map Prod.snd ++ (es.getD i (0, 0)).2 :: (es.drop (i + 1)).map Prod.snd := by
              conv => lhs; rw [es_e]
              rw [List.map_append, List.map_cons]
            rw [r1, r2, e1, e2, ed, List.map_append, List.map_append]
            have l1 : c < ((es.take i).map Prod.fst).length := by rw [List.length_map, eli]; exact hc
            have l2 : c < ((es.take i).map Prod.snd).length := by rw [List.length_map, eli]; exact hc
            rw [pl_get1 l1, pl_get1 l2]
            simp only [List.getD_eq_getElem?_getD, List.getElem?_append_left l1, List.getElem?_append_left l2]
            exact ⟨trivial, trivial⟩
          · exact ⟨hA.1 c (by rw [List.length_map]; omega), hA.2 c (by rw [List.length_map]; omega)⟩
      · by_cases z : c' = i
        · subst z; exact c
        · exact hno c' (by omega)
end
section
variable {f_mapRoom f_listRoom f_depth f_many f_first f_second : Int32} {a_held a_root a_data a_links a_more a_keys a_values a_mapMark a_mapFree a_left a_right a_height a_size a_element a_listMark a_listFree a_path a_turns a_stack a_other a_gathered a_worth a_spareKey a_spareValue a_low a_high a_before a_behind : Nat → Int32} {a_total : Nat → Int64}
variable {fr : Nat → Int32} {k : Int32} {es : List (Int32 × Int32)}
theorem xm_without {post : Int32 → SX → Prop} {R : Nat} {m : MH} {x : Int32} (hx : mp_R (ps_F fr R) m 4 x es) (hS : ms_S es) (hl : es.length < 60) (hk : ms_get k es ≠ none) (hI : ps_I fr 720 R)
    (hR : 4 + ((ms_del k es).length + 3) / 4 ≤ R)
    (hp : ∀ x' m' r' dp mn pa g wo, R ≤ r' + (4 + ((ms_del k es).length + 3) / 4) → r' ≤ R → mp_X (ps_F fr R) m (ps_F fr r') m' → mp_M (ps_F fr r') m' x' (ms_del k es) →
      post x' (nI r', f_listRoom, dp, mn, f_first, f_second, a_held, a_root, m'.1, m'.2.1, m'.2.2.1, m'.2.2.2.1, m'.2.2.2.2, a_mapMark, fr, a_left, a_right, a_height, a_size, a_element, a_total, a_listMark, a_listFree, pa, a_turns, a_stack, a_other, g, wo, a_spareKey, a_spareValue, a_low, a_high, a_before, a_behind)) :
    wpX_without post (nI R, f_listRoom, f_depth, f_many, f_first, f_second, a_held, a_root, m.1, m.2.1, m.2.2.1, m.2.2.2.1, m.2.2.2.2, a_mapMark, fr, a_left, a_right, a_height, a_size, a_element, a_total, a_listMark, a_listFree, a_path, a_turns, a_stack, a_other, a_gathered, a_worth, a_spareKey, a_spareValue, a_low, a_high, a_before, a_behind) x k := by
  unfold wpX_without
  refine xm_hash ?_
  refine xm_descend hx (fun x1 d pa hd hx1 hP hlast => ?_)
  have hle : ∀ i, (mp_pf k es i).length ≤ es.length := fun i => mp_pf_le (i := 0) (by omega)
  have hld : ∀ i, (mp_pf k (ms_del k es) i).length + 1 = (mp_pf k es i).length := by
    intro i
    rw [mp_pf_del, ms_lenD (mp_pfS hS i), mp_pf_get, if_neg hk]
    have : mp_pf k es i ≠ [] := by
      intro z
      have := mp_pf_get (k := k) (es := es) i
      rw [z] at this; exact hk this.symm
    have := List.length_pos_iff.mpr this
    omega
  have hnn : 0 < d → mp_pf k (ms_del k es) d ≠ [] := by
    intro hd0 z
    have a := (hP (d - 1) (by omega)).2
    have e : d - 1 + 1 = d := by omega
    rw [e] at a
    have b := hld d
    rw [z] at b; simp at b; omega
  refine pk_eq d 4 (fun c => ?_) (fun c => ?_)
  · subst c
    refine xm_gatherBucket hx1 (by have := hle 4; omega) (fun g1 wo1 hA1 => ⟨(mp_pf k es 4).length + 1, ?_⟩)
    refine xm_wo30 (mp_pfS hS 4) hA1 (by have := hle 4; omega) (by rw [mp_pf_get]; exact hk) ?_ (mp_pf k es 4).length (i := 0) (by omega) (by omega) (fun c hc => absurd hc (by omega))
    intro N g' wo' hA'
    have hb : (ms_del k (mp_pf k es 4)).length ≤ (ms_del k es).length := by
      rw [← mp_pf_del]; exact mp_pf_le (i := 0) (by omega)
    have hb2 := hle 4
    have hb3 := hld 4
    rw [mp_pf_del] at hb3
    refine br_t (nI_le (by omega) (by omega)) (xm_bucketOf (fun _ => False) (fun _ z => z.elim) hA' (by omega) ?_ hI (by omega) (fun x2 m2 r2 g3 g4 X hR2 => ⟨5, ?_⟩))
    · have := hnn (by omega); rw [mp_pf_del] at this; exact this
    · refine xm_wo144 (es := es) (es' := ms_del k es) ms_del_del 4 (by omega) (by omega) (ps_Im g4 hI) (by omega) (fun i hi => ⟨mp_R_m X (hP i hi).1, (hP i hi).2⟩) (by rw [mp_pf_del]; exact mp_R_G hR2) hnn (fun x3 m3 r3 dp g5 g6 X3 hM => ?_)
      exact hp x3 m3 r3 _ _ _ _ _ (by omega) (by omega) (mp_X_t X X3) hM
  · obtain ⟨r0, rfl⟩ : ∃ r0, R = r0 + 1 := ⟨R - 1, by omega⟩
    have hd4 : d < 4 := by omega
    have hlast := hlast hd4
    have hw := mp_wy_lt k d
    obtain ⟨p, ks, vs, p1, rfl, p3, hNp, hkk⟩ := mp_unl hd4 hx1
    refine xm_mapCopy hI p1 p3 hNp (fun n m1 hn hF hne hO hN1 => ⟨vp_in_nI hn (by omega), xm_way ⟨vp_in_nI hn (by omega), nm_r (e' := upd m1.1 n (mb (fb (fun w => decide ((mp_sub d w (mp_pf k es d)).length = 1)) (mp_wy k d) false))) (by rw [nI_clamp (by omega), hN1.1, mb_an hw]) ⟨d + 1, ?_⟩⟩⟩)
    have hO2 : mp_O n m (upd m1.1 n (mb (fb (fun w => decide ((mp_sub d w (mp_pf k es d)).length = 1)) (mp_wy k d) false)), m1.2) :=
      mp_O_t hO (fun j hj z => ⟨pk_un z, rfl, rfl, fun _ _ => ⟨rfl, rfl⟩⟩)
    have X : mp_X (ps_F fr (r0 + 1)) m (ps_F fr r0) (upd m1.1 n (mb (fb (fun w => decide ((mp_sub d w (mp_pf k es d)).length = 1)) (mp_wy k d) false)), m1.2) := mp_O_X hO2 (fun j hj => ps_Fm (by omega) hj) hne
    have hN2 : mp_N (upd m1.1 n (mb (fb (fun w => decide ((mp_sub d w (mp_pf k es d)).length = 1)) (mp_wy k d) false)), m1.2) n (fb (fun w => decide ((mp_sub d w (mp_pf k es d)).length = 1)) (mp_wy k d) false) (fun w => decide (2 ≤ (mp_sub d w (mp_pf k es d)).length)) (-1) ks vs := ⟨pk_us, hN1.2⟩
    refine xm_wo144 (es := es) (es' := ms_del k es) (m := (upd m1.1 n (mb (fb (fun w => decide ((mp_sub d w (mp_pf k es d)).length = 1)) (mp_wy k d) false)), m1.2)) ms_del_del d (by omega) (by omega) (ps_Im (by omega) hI) (by omega) (fun i hi => ⟨mp_R_m X (hP i hi).1, (hP i hi).2⟩) ?_ hnn (fun x3 m3 r3 dp g5 g6 X3 hM => ?_)
    · refine mp_clear (es := mp_pf k es d) hd4 hn hF hN2 (fun w hw => ⟨(hkk w hw).1, fun z => mp_R_m X ((hkk w hw).2 z)⟩) (fun w hw => mp_pf_off ms_del_del hw) ?_ hlast
      have a := hld (d + 1)
      have b : ¬ 2 ≤ (mp_pf k es (d + 1)).length := hlast
      exact List.length_eq_zero_iff.mp (show (mp_pf k (ms_del k es) (d + 1)).length = 0 by omega)
    · exact hp x3 m3 r3 _ _ _ _ _ (by omega) (by omega) (mp_X_t X X3) hM
end
end
section
/-! a node as such, whatever its level; the count of nodes; stacks of tries -/
def pl_SL (s : Nat → List (Int32 × Int32)) : Nat → Nat → List (Int32 × Int32)
  | _, 0 => []
  | w, d + 1 => s w ++ pl_SL s (w + 1) d
def mp_cn : Nat → List (Int32 × Int32) → Nat
  | 0, es => (es.length + 3) / 4
  | r + 1, es => 1 + pl_S (fun w => if 2 ≤ (mp_sub (3 - r) w es).length then mp_cn r (mp_sub (3 - r) w es) else 0) 0 4
theorem pl_S4 (f : Nat → Nat) : pl_S f 0 4 = f 0 + f 1 + f 2 + f 3 := by
  show f 0 + (f 1 + (f 2 + (f 3 + 0))) = _
  omega
theorem mp_cn_b : ∀ r (es : List (Int32 × Int32)), 2 ≤ es.length → 2 * mp_cn r es ≤ (r + 1) * es.length := by
  intro r
  induction r with
  | zero => intro es h; rw [mp_cn]; omega
  | succ r ih =>
    intro es h
    rw [mp_cn, pl_S4]
    have key : ∀ w, 2 * (if 2 ≤ (mp_sub (3 - r) w es).length then mp_cn r (mp_sub (3 - r) w es) else 0) ≤ (r + 1) * (mp_sub (3 - r) w es).length := by
      intro w
      by_cases c : 2 ≤ (mp_sub (3 - r) w es).length
      · rw [if_pos c]; exact ih _ c
      · rw [if_neg c]; omega
    have k0 := key 0
    have k1 := key 1
    have k2 := key 2
    have k3 := key 3
    have e : (r + 1 + 1) * es.length = (r + 1) * (mp_sub (3 - r) 0 es).length + (r + 1) * (mp_sub (3 - r) 1 es).length + (r + 1) * (mp_sub (3 - r) 2 es).length + (r + 1) * (mp_sub (3 - r) 3 es).length + es.length := by
      rw [Nat.succ_mul]
      conv => lhs; arg 1; rw [mp_perm (l := 3 - r) es]
      rw [Nat.mul_add, Nat.mul_add, Nat.mul_add]
    rw [e]
    omega
theorem mp_cn_4 (es : List (Int32 × Int32)) : mp_cn 4 es ≤ 1 + 2 * es.length := by
  rw [mp_cn, pl_S4]
  have key : ∀ w, 2 * (if 2 ≤ (mp_sub (3 - 3) w es).length then mp_cn 3 (mp_sub (3 - 3) w es) else 0) ≤ 4 * (mp_sub (3 - 3) w es).length := by
    intro w
    by_cases c : 2 ≤ (mp_sub (3 - 3) w es).length
    · rw [if_pos c]; exact mp_cn_b 3 _ c
    · rw [if_neg c]; omega
  have k0 := key 0
  have k1 := key 1
  have k2 := key 2
  have k3 := key 3
  have e := mp_perm (l := 3 - 3) es
  omega
theorem mp_subP {l : Nat} (es : List (Int32 × Int32)) : es.Perm (pl_SL (fun w => mp_sub l w es) 0 4) := by
  rw [List.perm_iff_count]
  intro a
  have hw := mp_wy_lt a.1 l
  have key : ∀ w, (mp_sub l w es).count a = if mp_wy a.1 l = w then es.count a else 0 := by
    intro w
    by_cases c : mp_wy a.1 l = w
    · rw [if_pos c]
      unfold mp_sub
      exact List.count_filter (by simp [c])
    · rw [if_neg c]
      exact List.count_eq_zero.mpr (fun h => c (mp_sub_mem.mp h).2)
  simp only [pl_SL, List.count_append, List.count_nil, key]
  have e4 : mp_wy a.1 l = 0 ∨ mp_wy a.1 l = 1 ∨ mp_wy a.1 l = 2 ∨ mp_wy a.1 l = 3 := by omega
  rcases e4 with z | z | z | z <;> rw [z] <;> simp
def mp_E (F : Nat → Prop) (m : MH) (N : Nat) (x : Int32) (es : List (Int32 × Int32)) : Prop := ∃ r, r ≤ 4 ∧ mp_R F m r x es ∧ N = mp_cn r es
theorem mp_E_o {F : Nat → Prop} {m : MH} {N : Nat} {x : Int32} {es : List (Int32 × Int32)} (h : mp_E F m N x es) : (∃ n, n < 720 ∧ x = nI n) ∧ 1 ≤ N := by
  obtain ⟨r, _, hR, hN⟩ := h
  obtain ⟨n, n1, n2, _⟩ := mp_o hR
  refine ⟨⟨n, n1, n2⟩, ?_⟩
  cases r with
  | zero =>
    have := List.length_pos_iff.mpr hR.1
    rw [mp_cn] at hN; omega
  | succ r => rw [mp_cn] at hN; omega
/-- what a walker sees of a node -/
def mp_V (F : Nat → Prop) (m : MH) (N : Nat) (n : Nat) (es : List (Int32 × Int32)) (f g : Nat → Bool) (mo : Int32) (ks vs : Nat → Int32) (t : List (Int32 × Int32)) (s : Nat → List (Int32 × Int32)) (Nt : Nat) (Ns : Nat → Nat) : Prop :=
  n < 720 ∧ F n ∧ mp_N m n f g mo ks vs ∧ ((mo = -1 ∧ t = [] ∧ Nt = 0) ∨ mp_E F m Nt mo t) ∧
    (∀ w, w < 4 → (g w = true → f w = false ∧ mp_E F m (Ns w) (ks w) (s w)) ∧ (g w = false → Ns w = 0 ∧ (f w = true → s w = [(ks w, vs w)]) ∧ (f w = false → s w = []))) ∧
    es.Perm (t ++ pl_SL s 0 4) ∧ N = 1 + Nt + pl_S Ns 0 4
theorem mp_take4 (es : List (Int32 × Int32)) : es.take 4 = pl_SL (fun w => if w < es.length then [es.getD w (0, 0)] else []) 0 4 := by
  rcases es with _ | ⟨a, _ | ⟨b, _ | ⟨c, _ | ⟨d, l⟩⟩⟩⟩ <;> simp [pl_SL]
theorem mp_view0 {F : Nat → Prop} {m : MH} {x : Int32} {es : List (Int32 × Int32)} (hR : mp_R F m 0 x es) : ∃ n f g mo ks vs t s Nt Ns, x = nI n ∧ mp_V F m (mp_cn 0 es) n es f g mo ks vs t s Nt Ns := by
  obtain ⟨hne, d, hB⟩ := hR
  have hpos := List.length_pos_iff.mpr hne
  cases d with
  | zero => exact absurd hB.2 hne
  | succ d =>
    rcases hB with ⟨_, z⟩ | ⟨n, n1, n2, n3, n4, n5, n6, n7, n8⟩
    · exact absurd z hne
    · refine ⟨n, fun w => decide (w < es.length), fun _ => false, m.2.2.1 n, fun w => m.2.2.2.1 (4 * n + w), fun w => m.2.2.2.2 (4 * n + w), es.drop 4, fun w => if w < es.length then [es.getD w (0, 0)] else [], mp_cn 0 (es.drop 4), fun _ => 0, n2, n1, n3, ⟨n5, n6, rfl, fun _ _ => ⟨rfl, rfl⟩⟩, ?_, ?_, ?_, ?_⟩
      · by_cases c : es.drop 4 = []
        · left
          have hx : m.2.2.1 n = -1 := by
            cases d with
            | zero => exact n8.1
            | succ d =>
              rcases n8 with z | ⟨_, _, _, _, z, _⟩
              · exact z.1
              · exact absurd c z
          refine ⟨hx, c, ?_⟩
          rw [mp_cn, c, List.length_nil]
        · exact Or.inr ⟨0, Nat.zero_le _, ⟨c, d, n8⟩, rfl⟩
      · intro w hw
        refine ⟨fun z => absurd z Bool.false_ne_true, fun _ => ⟨rfl, fun z => ?_, fun z => ?_⟩⟩
        · have hl : w < es.length := of_decide_eq_true z
          have q := n7 w hw hl
          dsimp only
          rw [if_pos hl, q.1, q.2]
        · have hl : ¬ w < es.length := of_decide_eq_false z
          exact if_neg hl
      · rw [← mp_take4]
        have := List.perm_append_comm (l₁ := es.drop 4) (l₂ := es.take 4)
        rw [List.take_append_drop] at this
        exact this.symm
      · rw [mp_cn, mp_cn, List.length_drop, pl_S4]
        omega
theorem mp_viewS {F : Nat → Prop} {m : MH} {r : Nat} {x : Int32} {es : List (Int32 × Int32)} (hr : r + 1 ≤ 4) (hR : mp_R F m (r + 1) x es) : ∃ n f g mo ks vs t s Nt Ns, x = nI n ∧ mp_V F m (mp_cn (r + 1) es) n es f g mo ks vs t s Nt Ns := by
  obtain ⟨n, n1, n2, n3, n4, n5, n6, n7⟩ := hR
  refine ⟨n, fun w => decide ((mp_sub (3 - r) w es).length = 1), fun w => decide (2 ≤ (mp_sub (3 - r) w es).length), -1, fun w => m.2.2.2.1 (4 * n + w), fun w => m.2.2.2.2 (4 * n + w), [], fun w => mp_sub (3 - r) w es, 0, fun w => if 2 ≤ (mp_sub (3 - r) w es).length then mp_cn r (mp_sub (3 - r) w es) else 0, n2, n1, n3, ⟨n5, n6, n4, fun _ _ => ⟨rfl, rfl⟩⟩, Or.inl ⟨rfl, rfl, rfl⟩, ?_, ?_, ?_⟩
  · intro w hw
    obtain ⟨q1, q2⟩ := n7 w hw
    constructor
    · intro z
      have z2 : 2 ≤ (mp_sub (3 - r) w es).length := of_decide_eq_true z
      exact ⟨decide_eq_false (by omega), r, by omega, q2 z2, if_pos z2⟩
    · intro z
      have z2 : ¬ 2 ≤ (mp_sub (3 - r) w es).length := of_decide_eq_false z
      refine ⟨if_neg z2, fun y => ?_, fun y => ?_⟩
      · have y1 : (mp_sub (3 - r) w es).length = 1 := of_decide_eq_true y
        obtain ⟨e, he⟩ := mp_len1 y1
        have q := q1 e he
        dsimp only
        rw [he, q.1, q.2]
      · have y1 : ¬ (mp_sub (3 - r) w es).length = 1 := of_decide_eq_false y
        exact List.length_eq_zero_iff.mp (show (mp_sub (3 - r) w es).length = 0 by omega)
  · rw [List.nil_append]; exact mp_subP es
  · rw [mp_cn, Nat.add_zero]
theorem mp_view {F : Nat → Prop} {m : MH} {N : Nat} {x : Int32} {es : List (Int32 × Int32)} (h : mp_E F m N x es) : ∃ n f g mo ks vs t s Nt Ns, x = nI n ∧ mp_V F m N n es f g mo ks vs t s Nt Ns := by
  obtain ⟨r, hr, hR, rfl⟩ := h
  cases r with
  | zero => exact mp_view0 hR
  | succ r => exact mp_viewS hr hR
/-- the stack's tries: their entries, their nodes -/
def mp_W (F : Nat → Prop) (m : MH) (st : Nat → Int32) : Nat → List (Int32 × Int32) → Nat → Prop
  | 0 => fun L W => L = [] ∧ W = 0
  | t + 1 => fun L W => ∃ N x es L' W', st t = x ∧ mp_E F m N x es ∧ L = es ++ L' ∧ W = N + W' ∧ mp_W F m st t L' W'
theorem mp_W_c {F : Nat → Prop} {m : MH} {st st' : Nat → Int32} : ∀ {t W : Nat} {L : List (Int32 × Int32)}, (∀ i, i < t → st' i = st i) → mp_W F m st t L W → mp_W F m st' t L W := by
  intro t
  induction t with
  | zero => exact fun _ z => z
  | succ t ih =>
    rintro W L ho ⟨N, x, es, L', W', eo, hE, eL, eW, hW⟩
    exact ⟨N, x, es, L', W', (ho t (by omega)).trans eo, hE, eL, eW, ih (fun i hi => ho i (by omega)) hW⟩
theorem mp_W_l {F : Nat → Prop} {m : MH} {st : Nat → Int32} : ∀ {t W : Nat} {L : List (Int32 × Int32)}, mp_W F m st t L W → t ≤ W := by
  intro t
  induction t with
  | zero => intros; omega
  | succ t ih =>
    rintro W L ⟨N, x, es, L', W', eo, hE, eL, eW, hW⟩
    have := ih hW
    have := (mp_E_o hE).2
    omega
theorem mp_W_p {F : Nat → Prop} {m : MH} {st : Nat → Int32} {t W N : Nat} {L es : List (Int32 × Int32)} {x : Int32} (hE : mp_E F m N x es) (hW : mp_W F m st t L W) :
    mp_W F m (upd st t x) (t + 1) (es ++ L) (N + W) := ⟨N, x, es, L, W, pk_us, hE, rfl, rfl, mp_W_c (fun i hi => pk_un (by omega)) hW⟩
end
section
/-! mapSize, gather -/
theorem mp_E_s {F : Nat → Prop} {m : MH} {N : Nat} {x : Int32} {es : List (Int32 × Int32)} (h : mp_E F m N x es) : vp_nar .short x = x ∧ vp_nar .short x.toInt16.toInt32 = x ∧ ¬ x < 0 := by
  obtain ⟨⟨n, n1, rfl⟩, _⟩ := mp_E_o h
  exact ⟨ps_s (by omega), ps_ss (by omega), nI_pos (by omega)⟩
section
variable {f_mapRoom f_listRoom f_depth f_many f_first f_second : Int32} {a_held a_root a_data a_links a_more a_keys a_values a_mapMark a_mapFree a_left a_right a_height a_size a_element a_listMark a_listFree a_path a_turns a_stack a_other a_gathered a_worth a_spareKey a_spareValue a_low a_high a_before a_behind : Nat → Int32} {a_total : Nat → Int64}
variable {F : Nat → Prop} {m : MH}
theorem xm_ms63 {post : Int32 → SX → Prop} {J : Int32 → Int32 → (Nat → Int32) → (Nat → Int32) → (Nat → Int32) → (Nat → Int32) → (Nat → Int32) → (Nat → Int32) → (Nat → Int32) → (Nat → Int32) → (Nat → Int32) → (Nat → Int32) → (Nat → Int32) → (Nat → Int32) → (Nat → Int32) → (Nat → Int32) → (Nat → Int64) → (Nat → Int32) → (Nat → Int32) → (Nat → Int32) → (Nat → Int32) → (Nat → Int32) → (Nat → Int32) → (Nat → Int32) → (Nat → Int32) → (Nat → Int32) → (Nat → Int32) → (Nat → Int32) → (Nat → Int32) → (Nat → Int32) → (Nat → Int32) → Prop} {n : Nat} {f g : Nat → Bool} {mo : Int32} {ks vs : Nat → Int32} {s : Nat → List (Int32 × Int32)} {Ns : Nat → Nat} (hn : n < 720) (hN : mp_N m n f g mo ks vs)
    (hV : ∀ w, w < 4 → (g w = true → f w = false ∧ mp_E F m (Ns w) (ks w) (s w)) ∧ (g w = false → Ns w = 0 ∧ (f w = true → s w = [(ks w, vs w)]) ∧ (f w = false → s w = []))) :
    ∀ (d : Nat) {N w sz t W : Nat} {st : Nat → Int32} {L : List (Int32 × Int32)}, d < N → w + d = 4 → mp_W F m st t L W → W + pl_S Ns w d ≤ 700 →
    (∀ sz' t' st' L' W', mp_W F m st' t' L' W' → W' = W + pl_S Ns w d → sz' + L'.length = sz + L.length + (pl_SL s w d).length → J (nI sz') (nI t') a_held a_root m.1 m.2.1 m.2.2.1 m.2.2.2.1 m.2.2.2.2 a_mapMark a_mapFree a_left a_right a_height a_size a_element a_total a_listMark a_listFree a_path a_turns st' a_other a_gathered a_worth a_spareKey a_spareValue a_low a_high a_before a_behind) →
    wX_mapSize_63 post J (nI n) f_mapRoom f_listRoom f_depth f_many f_first f_second N (nI sz) (nI t) (nI w) a_held a_root m.1 m.2.1 m.2.2.1 m.2.2.2.1 m.2.2.2.2 a_mapMark a_mapFree a_left a_right a_height a_size a_element a_total a_listMark a_listFree a_path a_turns st a_other a_gathered a_worth a_spareKey a_spareValue a_low a_high a_before a_behind := by
  intro d
  induction d with
  | zero =>
    intro N w sz t W st L hN' hw hW hb hJ
    have e : w = 4 := by omega
    subst e
    cases N with
    | zero => omega
    | succ N => exact br_t (by decide) (hJ sz t st L W hW rfl rfl)
  | succ d ih =>
    intro N w sz t W st L hN' hw hW hb hJ
    have hl := mp_W_l hW
    rw [pl_S] at hb
    obtain ⟨v1, v2⟩ := hV w (by omega)
    cases N with
    | zero => omega
    | succ N =>
      refine br_f (nI_ge (b := 4) (by omega) (by omega)) ⟨vp_in_nI hn (by omega), nm_r (e' := nI (sz + (f w).toNat)) (by rw [nI_clamp (by omega), hN.1, mb_sh (by omega), nI_add]) ⟨vp_in_nI hn (by omega), ?_⟩⟩
      rw [nI_clamp (n := n) (by omega), hN.2.1]
      refine xm_bit (by omega) (fun c => br_t rfl (nm_r (nI_1 w) ?_)) (fun c => br_f (by decide) (nm_r (nI_1 t) ?_))
      · obtain ⟨u1, u2, u3⟩ := v2 c
        refine ih (by omega) (by omega) hW (by omega) (fun sz' t' st' L' W' hW' eW eL => hJ sz' t' st' L' W' hW' (by rw [pl_S]; omega) ?_)
        rw [pl_SL, List.length_append]
        cases hf : f w
        · rw [u3 hf]; rw [hf] at eL; simp at eL ⊢; omega
        · rw [u2 hf]; rw [hf] at eL; simp at eL ⊢; omega
      · obtain ⟨u1, u2⟩ := v1 c
        have us := mp_E_s u2
        have uo := (mp_E_o u2).2
        refine ⟨by rw [ps_4]; exact vp_in_nI (by omega) (by omega), vp_in_nI (by omega) (by omega), nm_r (e' := upd st t (ks w)) (by rw [ps_4, nI_clamp (by omega), nI_clamp (by omega), (hN.2.2.2 w (by omega)).1, us.2.1]) (nm_r (nI_1 w) ?_)⟩
        refine ih (by omega) (by omega) (mp_W_p u2 hW) (by omega) (fun sz' t' st' L' W' hW' eW eL => hJ sz' t' st' L' W' hW' (by rw [pl_S]; omega) ?_)
        rw [pl_SL, List.length_append]
        rw [u1, List.length_append] at eL
        simp at eL; omega
theorem xm_ms19 {post : Int32 → SX → Prop} {tot : Nat} (hp : ∀ st', post (nI tot) (f_mapRoom, f_listRoom, f_depth, f_many, f_first, f_second, a_held, a_root, m.1, m.2.1, m.2.2.1, m.2.2.2.1, m.2.2.2.2, a_mapMark, a_mapFree, a_left, a_right, a_height, a_size, a_element, a_total, a_listMark, a_listFree, a_path, a_turns, st', a_other, a_gathered, a_worth, a_spareKey, a_spareValue, a_low, a_high, a_before, a_behind)) : ∀ (N : Nat) {sz t W : Nat} {st : Nat → Int32} {L : List (Int32 × Int32)}, W < N → mp_W F m st t L W → W ≤ 700 → sz + L.length = tot →
    wX_mapSize_19 post f_mapRoom f_listRoom f_depth f_many f_first f_second N (nI sz) (nI t) a_held a_root m.1 m.2.1 m.2.2.1 m.2.2.2.1 m.2.2.2.2 a_mapMark a_mapFree a_left a_right a_height a_size a_element a_total a_listMark a_listFree a_path a_turns st a_other a_gathered a_worth a_spareKey a_spareValue a_low a_high a_before a_behind := by
  intro N
  induction N with
  | zero => intros; omega
  | succ N ih =>
    intro sz t W st L hN hW hb ht
    have hl := mp_W_l hW
    cases t with
    | zero =>
      obtain ⟨rfl, rfl⟩ := hW
      have e : sz = tot := by simpa using ht
      subst e
      exact br_t (by decide) (hp st)
    | succ t =>
      obtain ⟨N1, x, es, L', W', eo, hE, rfl, rfl, hW⟩ := hW
      obtain ⟨n, f, g, mo, ks, vs, tl, s, Nt, Ns, rfl, v1, v2, v3, v4, v5, v6, v7⟩ := mp_view hE
      have hlen := v6.length_eq
      rw [List.length_append] at hlen ht
      have hl' := mp_W_l hW
      refine br_f (nI_nle (by omega) (by omega)) (nm_r (pk_m1 t) ⟨vp_in_nI (by omega) (by omega), nm_r (e' := nI n) (by rw [nI_clamp (by omega)]; exact eo) ⟨vp_in_nI v1 (by omega), ?_⟩⟩)
      rw [nI_clamp (n := n) (by omega), v3.2.2.1]
      rcases v4 with ⟨rfl, rfl, rfl⟩ | v4
      · refine br_t ps_m1lt ⟨5, xm_ms63 v1 v3 v5 4 (w := 0) (by omega) (by omega) hW (by omega) (fun sz' t' st' L2 W2 hW2 eW eL => ?_)⟩
        exact ih (by omega) hW2 (by omega) (by simp at hlen; omega)
      · have us := mp_E_s v4
        have uo := (mp_E_o v4).2
        refine br_f us.2.2 (nm_r (nI_1 t) ⟨vp_in_nI v1 (by omega), vp_in_nI (by omega) (by omega), nm_r (e' := upd st t mo) (by rw [nI_clamp (by omega), us.1]) ⟨5, ?_⟩⟩)
        refine xm_ms63 v1 v3 v5 4 (w := 0) (by omega) (by omega) (mp_W_p v4 hW) (by omega) (fun sz' t' st' L2 W2 hW2 eW eL => ?_)
        rw [List.length_append] at eL
        exact ih (by omega) hW2 (by omega) (by omega)
theorem xm_mapSize {post : Int32 → SX → Prop} {x : Int32} {es : List (Int32 × Int32)} (hx : mp_M F m x es) (hl : es.length < 100) (hp : ∀ st', post (nI es.length) (f_mapRoom, f_listRoom, f_depth, f_many, f_first, f_second, a_held, a_root, m.1, m.2.1, m.2.2.1, m.2.2.2.1, m.2.2.2.2, a_mapMark, a_mapFree, a_left, a_right, a_height, a_size, a_element, a_total, a_listMark, a_listFree, a_path, a_turns, st', a_other, a_gathered, a_worth, a_spareKey, a_spareValue, a_low, a_high, a_before, a_behind)) : wpX_mapSize post (f_mapRoom, f_listRoom, f_depth, f_many, f_first, f_second, a_held, a_root, m.1, m.2.1, m.2.2.1, m.2.2.2.1, m.2.2.2.2, a_mapMark, a_mapFree, a_left, a_right, a_height, a_size, a_element, a_total, a_listMark, a_listFree, a_path, a_turns, a_stack, a_other, a_gathered, a_worth, a_spareKey, a_spareValue, a_low, a_high, a_before, a_behind) x := by
  rcases hx with ⟨rfl, rfl⟩ | ⟨_, hx⟩
  · exact br_t ps_m1lt ⟨1, br_t (by decide) (hp _)⟩
  · have hE : mp_E F m (mp_cn 4 es) x es := ⟨4, by omega, hx, rfl⟩
    have us := mp_E_s hE
    have hc := mp_cn_4 es
    refine br_f us.2.2 (nm_r (e' := nI 1) (by decide) (nm_r (e' := upd a_stack 0 x) (by rw [us.2.1]) ⟨mp_cn 4 es + 1, ?_⟩))
    refine xm_ms19 hp (mp_cn 4 es + 1) (sz := 0) (t := 1) (L := es ++ []) (W := mp_cn 4 es + 0) (by omega) (mp_W_p hE ⟨rfl, rfl⟩) (by omega) (by simp)
end
end
section
/-! gather -/
theorem ms_insP {k v : Int32} : ∀ {es : List (Int32 × Int32)}, ms_get k es = none → (ms_ins k v es).Perm ((k, v) :: es) := by
  intro es
  induction es with
  | nil => intro _; exact List.Perm.refl _
  | cons e es ih =>
    intro h
    rw [ms_get_c] at h
    by_cases c : k = e.1
    · rw [if_pos c] at h; exact absurd h (by simp)
    · rw [if_neg c] at h
      rw [ms_ins]
      by_cases c1 : e.1 < k
      · rw [if_pos c1]
        exact (List.Perm.cons e (ih h)).trans (List.Perm.swap _ _ _)
      · rw [if_neg c1, if_neg (fun z => c z.symm)]
theorem ms_nd {es : List (Int32 × Int32)} (h : ms_S es) : (es.map Prod.fst).Nodup := by
  unfold List.Nodup
  rw [List.pairwise_map]
  exact List.Pairwise.imp (fun h => ms_ne h) h
theorem ms_new {k v : Int32} {dl rest tot : List (Int32 × Int32)} (hS : ms_S tot) (hP : (dl ++ (k, v) :: rest).Perm tot) : ms_get k dl = none := by
  rw [ms_get_n]
  intro a ha
  have nd : ((dl ++ (k, v) :: rest).map Prod.fst).Nodup := ((hP.map Prod.fst).nodup_iff).mpr (ms_nd hS)
  rw [List.map_append, List.map_cons] at nd
  exact (List.pairwise_append.mp nd).2.2 a.1 (List.mem_map_of_mem ha) k (by simp)
theorem ms_Peq {a b : List (Int32 × Int32)} (ha : ms_S a) (hb : ms_S b) (h : a.Perm b) : a = b := ms_ext ha hb (fun e => h.mem_iff)
section
variable {f_mapRoom f_listRoom f_depth f_many f_first f_second : Int32} {a_held a_root a_data a_links a_more a_keys a_values a_mapMark a_mapFree a_left a_right a_height a_size a_element a_listMark a_listFree a_path a_turns a_stack a_other a_gathered a_worth a_spareKey a_spareValue a_low a_high a_before a_behind : Nat → Int32} {a_total : Nat → Int64}
variable {F : Nat → Prop} {m : MH} {tot : List (Int32 × Int32)}
theorem xm_ga63 {post : SX → Prop} {J : Int32 → Int32 → Int32 → Int32 → Int32 → Int32 → Int32 → (Nat → Int32) → (Nat → Int32) → (Nat → Int32) → (Nat → Int32) → (Nat → Int32) → (Nat → Int32) → (Nat → Int32) → (Nat → Int32) → (Nat → Int32) → (Nat → Int32) → (Nat → Int32) → (Nat → Int32) → (Nat → Int32) → (Nat → Int32) → (Nat → Int64) → (Nat → Int32) → (Nat → Int32) → (Nat → Int32) → (Nat → Int32) → (Nat → Int32) → (Nat → Int32) → (Nat → Int32) → (Nat → Int32) → (Nat → Int32) → (Nat → Int32) → (Nat → Int32) → (Nat → Int32) → (Nat → Int32) → (Nat → Int32) → Prop} {n : Nat} {f g : Nat → Bool} {mo : Int32} {ks vs : Nat → Int32} {s : Nat → List (Int32 × Int32)} {Ns : Nat → Nat} (hT : ms_S tot) (hTl : tot.length < 64) (hn : n < 720) (hN : mp_N m n f g mo ks vs)
    (hV : ∀ w, w < 4 → (g w = true → f w = false ∧ mp_E F m (Ns w) (ks w) (s w)) ∧ (g w = false → Ns w = 0 ∧ (f w = true → s w = [(ks w, vs w)]) ∧ (f w = false → s w = []))) :
    ∀ (d : Nat) {N w t W : Nat} {st ga wo : Nat → Int32} {L dl : List (Int32 × Int32)}, d < N → w + d = 4 → mp_W F m st t L W → W + pl_S Ns w d ≤ 700 → ms_S dl → ms_A ga wo dl → (dl ++ (pl_SL s w d ++ L)).Perm tot →
    (∀ t' st' L' W' dl' g' wo', mp_W F m st' t' L' W' → W' = W + pl_S Ns w d → ms_S dl' → ms_A g' wo' dl' → (dl' ++ L').Perm tot → J (nI t') f_mapRoom f_listRoom f_depth (nI dl'.length) f_first f_second a_held a_root m.1 m.2.1 m.2.2.1 m.2.2.2.1 m.2.2.2.2 a_mapMark a_mapFree a_left a_right a_height a_size a_element a_total a_listMark a_listFree a_path a_turns st' a_other g' wo' a_spareKey a_spareValue a_low a_high a_before a_behind) →
    wX_gather_63 post J (nI n) N (nI t) (nI w) f_mapRoom f_listRoom f_depth (nI dl.length) f_first f_second a_held a_root m.1 m.2.1 m.2.2.1 m.2.2.2.1 m.2.2.2.2 a_mapMark a_mapFree a_left a_right a_height a_size a_element a_total a_listMark a_listFree a_path a_turns st a_other ga wo a_spareKey a_spareValue a_low a_high a_before a_behind := by
  intro d
  induction d with
  | zero =>
    intro N w t W st ga wo L dl hN' hw hW hb hS hA hP hJ
    have e : w = 4 := by omega
    subst e
    cases N with
    | zero => omega
    | succ N => exact br_t (by decide) (hJ t st L W dl ga wo hW rfl hS hA hP)
  | succ d ih =>
    intro N w t W st ga wo L dl hN' hw hW hb hS hA hP hJ
    have hl := mp_W_l hW
    rw [pl_S] at hb
    rw [pl_SL] at hP
    obtain ⟨v1, v2⟩ := hV w (by omega)
    have hk := hN.2.2.2 w (by omega)
    cases N with
    | zero => omega
    | succ N =>
      refine br_f (nI_ge (b := 4) (by omega) (by omega)) ⟨by rw [ps_4]; exact vp_in_nI (by omega) (by omega), nm_r (e' := ks w) (by rw [ps_4, nI_clamp (by omega)]; exact hk.1) ⟨vp_in_nI hn (by omega), ?_⟩⟩
      rw [nI_clamp (n := n) (by omega), hN.2.1, hN.1, ps_4, nI_clamp (n := 4 * n + w) (by omega), hk.2]
      refine xm_bit (by omega) (fun c => br_t rfl ⟨vp_in_nI hn (by omega), ?_⟩) (fun c => br_f (by decide) (nm_r (nI_1 t) ?_))
      · obtain ⟨u1, u2, u3⟩ := v2 c
        refine xm_bit (by omega) (fun c2 => br_t rfl (nm_r (nI_1 w) ?_)) (fun c2 => br_f (by decide) ⟨vp_in_nI (by omega) (by omega), ?_⟩)
        · rw [u3 c2, List.nil_append] at hP
          exact ih (by omega) (by omega) hW (by omega) hS hA hP (fun t' st' L' W' dl' g' wo' hW' eW => hJ t' st' L' W' dl' g' wo' hW' (by rw [pl_S]; omega))
        · rw [u2 c2, List.cons_append, List.nil_append, List.cons_append] at hP
          have hnew := ms_new hT hP
          have hlen := hP.length_eq
          rw [List.length_append, List.length_cons] at hlen
          refine xm_admit hS hA (by omega) (fun g1 wo1 hA1 => nm_r (nI_1 w) ?_)
          refine ih (by omega) (by omega) hW (by omega) (ms_insS hS) hA1 ?_ (fun t' st' L' W' dl' g' wo' hW' eW => hJ t' st' L' W' dl' g' wo' hW' (by rw [pl_S]; omega))
          exact ((ms_insP hnew).append_right _).trans (List.perm_middle.symm.trans hP)
      · obtain ⟨u1, u2⟩ := v1 c
        have us := mp_E_s u2
        have uo := (mp_E_o u2).2
        refine ⟨vp_in_nI (by omega) (by omega), nm_r (e' := upd st t (ks w)) (by rw [nI_clamp (by omega), us.2.1]) (nm_r (nI_1 w) ?_)⟩
        refine ih (by omega) (by omega) (mp_W_p u2 hW) (by omega) hS hA ?_ (fun t' st' L' W' dl' g' wo' hW' eW => hJ t' st' L' W' dl' g' wo' hW' (by rw [pl_S]; omega))
        refine List.Perm.trans (List.Perm.append_left _ ?_) hP
        rw [List.append_assoc]
        exact List.perm_append_comm_assoc _ _ _
theorem xm_ga22 {post : SX → Prop} (hT : ms_S tot) (hTl : tot.length < 64) (hp : ∀ st' g' wo', ms_A g' wo' tot → post (f_mapRoom, f_listRoom, f_depth, nI tot.length, f_first, f_second, a_held, a_root, m.1, m.2.1, m.2.2.1, m.2.2.2.1, m.2.2.2.2, a_mapMark, a_mapFree, a_left, a_right, a_height, a_size, a_element, a_total, a_listMark, a_listFree, a_path, a_turns, st', a_other, g', wo', a_spareKey, a_spareValue, a_low, a_high, a_before, a_behind)) :
    ∀ (N : Nat) {t W : Nat} {st ga wo : Nat → Int32} {L dl : List (Int32 × Int32)}, W < N → mp_W F m st t L W → W ≤ 700 → ms_S dl → ms_A ga wo dl → (dl ++ L).Perm tot →
    wX_gather_22 post N (nI t) f_mapRoom f_listRoom f_depth (nI dl.length) f_first f_second a_held a_root m.1 m.2.1 m.2.2.1 m.2.2.2.1 m.2.2.2.2 a_mapMark a_mapFree a_left a_right a_height a_size a_element a_total a_listMark a_listFree a_path a_turns st a_other ga wo a_spareKey a_spareValue a_low a_high a_before a_behind := by
  intro N
  induction N with
  | zero => intros; omega
  | succ N ih =>
    intro t W st ga wo L dl hN hW hb hS hA hP
    have hl := mp_W_l hW
    cases t with
    | zero =>
      obtain ⟨rfl, rfl⟩ := hW
      rw [List.append_nil] at hP
      have e := ms_Peq hS hT hP
      subst e
      exact br_t (by decide) (hp st ga wo hA)
    | succ t =>
      obtain ⟨N1, x, es, L', W', eo, hE, rfl, rfl, hW⟩ := hW
      obtain ⟨n, f, g, mo, ks, vs, tl, s, Nt, Ns, rfl, v1, v2, v3, v4, v5, v6, v7⟩ := mp_view hE
      have hl' := mp_W_l hW
      refine br_f (nI_nle (by omega) (by omega)) (nm_r (pk_m1 t) ⟨vp_in_nI (by omega) (by omega), nm_r (e' := nI n) (by rw [nI_clamp (by omega)]; exact eo) ⟨vp_in_nI v1 (by omega), ?_⟩⟩)
      rw [nI_clamp (n := n) (by omega), v3.2.2.1]
      rcases v4 with ⟨rfl, rfl, rfl⟩ | v4
      · refine br_t ps_m1lt ⟨5, xm_ga63 hT hTl v1 v3 v5 4 (w := 0) (by omega) (by omega) hW (by omega) hS hA ?_ (fun t' st' L2 W2 dl' g' wo' hW2 eW hS' hA' hP' => ih (by omega) hW2 (by omega) hS' hA' hP')⟩
        rw [List.nil_append] at v6
        exact List.Perm.trans (List.Perm.append_left _ (v6.symm.append_right _)) hP
      · have us := mp_E_s v4
        have uo := (mp_E_o v4).2
        refine br_f us.2.2 (nm_r (nI_1 t) ⟨vp_in_nI v1 (by omega), vp_in_nI (by omega) (by omega), nm_r (e' := upd st t mo) (by rw [nI_clamp (by omega), us.1]) ⟨5, ?_⟩⟩)
        refine xm_ga63 hT hTl v1 v3 v5 4 (w := 0) (by omega) (by omega) (mp_W_p v4 hW) (by omega) hS hA ?_ (fun t' st' L2 W2 dl' g' wo' hW2 eW hS' hA' hP' => ih (by omega) hW2 (by omega) hS' hA' hP')
        refine List.Perm.trans (List.Perm.append_left _ ?_) hP
        refine (List.perm_append_comm_assoc _ _ _).trans ?_
        rw [← List.append_assoc]
        exact v6.symm.append_right _
theorem xm_gather {post : SX → Prop} {x : Int32} {es : List (Int32 × Int32)} (hx : mp_M F m x es) (hS : ms_S es) (hl : es.length < 64) (hp : ∀ st' g' wo', ms_A g' wo' es → post (f_mapRoom, f_listRoom, f_depth, nI es.length, f_first, f_second, a_held, a_root, m.1, m.2.1, m.2.2.1, m.2.2.2.1, m.2.2.2.2, a_mapMark, a_mapFree, a_left, a_right, a_height, a_size, a_element, a_total, a_listMark, a_listFree, a_path, a_turns, st', a_other, g', wo', a_spareKey, a_spareValue, a_low, a_high, a_before, a_behind)) :
    wpX_gather post (f_mapRoom, f_listRoom, f_depth, f_many, f_first, f_second, a_held, a_root, m.1, m.2.1, m.2.2.1, m.2.2.2.1, m.2.2.2.2, a_mapMark, a_mapFree, a_left, a_right, a_height, a_size, a_element, a_total, a_listMark, a_listFree, a_path, a_turns, a_stack, a_other, a_gathered, a_worth, a_spareKey, a_spareValue, a_low, a_high, a_before, a_behind) x := by
  rcases hx with ⟨rfl, rfl⟩ | ⟨_, hx⟩
  · exact br_t ps_m1lt ⟨1, br_t (by decide) (hp _ _ _ ms_A0)⟩
  · have hE : mp_E F m (mp_cn 4 es) x es := ⟨4, by omega, hx, rfl⟩
    have us := mp_E_s hE
    have hc := mp_cn_4 es
    refine br_f us.2.2 (nm_r (e' := nI 1) (by decide) (nm_r (e' := upd a_stack 0 x) (by rw [us.2.1]) ⟨mp_cn 4 es + 1, ?_⟩))
    refine xm_ga22 hS hl hp (mp_cn 4 es + 1) (t := 1) (dl := []) (L := es ++ []) (W := mp_cn 4 es + 0) (by omega) (mp_W_p hE ⟨rfl, rfl⟩) (by omega) ms_S0 ms_A0 ?_
    rw [List.append_nil, List.nil_append]
end
end
section
/-! sameMaps: equal maps have the same form -/
def mp_ff : Nat → List (Int32 × Int32) → Nat → Bool
  | 0, es, w => decide (w < es.length)
  | r + 1, es, w => decide ((mp_sub (3 - r) w es).length = 1)
def mp_gg : Nat → List (Int32 × Int32) → Nat → Bool
  | 0, _, _ => false
  | r + 1, es, w => decide (2 ≤ (mp_sub (3 - r) w es).length)
def mp_ss : Nat → List (Int32 × Int32) → Nat → List (Int32 × Int32)
  | 0, es, w => if w < es.length then [es.getD w (0, 0)] else []
  | r + 1, es, w => mp_sub (3 - r) w es
def mp_tt : Nat → List (Int32 × Int32) → List (Int32 × Int32)
  | 0, es => es.drop 4
  | _ + 1, _ => []
theorem mp_tt0 (es : List (Int32 × Int32)) : mp_tt 0 es = es.drop 4 := rfl
theorem mp_ttn (r : Nat) (es : List (Int32 × Int32)) : mp_tt (r + 1) es = [] := rfl
theorem mp_ss0 (es : List (Int32 × Int32)) : mp_ss 0 es = fun w => if w < es.length then [es.getD w (0, 0)] else [] := by
  funext w; rfl
theorem mp_ssn (r : Nat) (es : List (Int32 × Int32)) : mp_ss (r + 1) es = fun w => mp_sub (3 - r) w es := by
  funext w; rfl
theorem mp_ssP (r : Nat) (es : List (Int32 × Int32)) : es.Perm (mp_tt r es ++ pl_SL (mp_ss r es) 0 4) := by
  cases r with
  | zero =>
    rw [mp_tt0, mp_ss0, ← mp_take4]
    have := List.perm_append_comm (l₁ := es.drop 4) (l₂ := es.take 4)
    rw [List.take_append_drop] at this
    exact this.symm
  | succ r =>
    rw [mp_ttn, mp_ssn, List.nil_append]
    exact mp_subP es
theorem pl_SL_c {s s' : Nat → List (Int32 × Int32)} : ∀ d w, (∀ j, w ≤ j → j < w + d → s j = s' j) → pl_SL s w d = pl_SL s' w d := by
  intro d
  induction d with
  | zero => intros; rfl
  | succ d ih =>
    intro w h
    rw [pl_SL, pl_SL, h w (by omega) (by omega), ih (w + 1) (fun j h1 h2 => h j (by omega) (by omega))]
theorem mp_eqs {r : Nat} {a b : List (Int32 × Int32)} (ha : ms_S a) (hb : ms_S b) (ht : mp_tt r a = mp_tt r b) (hs : ∀ w, w < 4 → mp_ss r a w = mp_ss r b w) : a = b := by
  refine ms_Peq ha hb ((mp_ssP r a).trans ?_)
  rw [ht, pl_SL_c 4 0 (fun j _ h => hs j (by omega))]
  exact (mp_ssP r b).symm
theorem mp_ssS {r w : Nat} {es : List (Int32 × Int32)} (h : ms_S es) : ms_S (mp_ss r es w) := by
  cases r with
  | zero =>
    rw [mp_ss0]
    dsimp only
    split
    · exact List.pairwise_singleton _ _
    · exact ms_S0
  | succ r => rw [mp_ssn]; exact ms_Sf _ h
theorem mp_ttS {r : Nat} {es : List (Int32 × Int32)} (h : ms_S es) : ms_S (mp_tt r es) := by
  cases r with
  | zero => exact List.Pairwise.sublist (List.drop_sublist 4 es) h
  | succ r => exact ms_S0
/-- a node's view, by its list -/
theorem mp_nv {F : Nat → Prop} {m : MH} {r : Nat} {x : Int32} {es : List (Int32 × Int32)} (h : mp_R F m r x es) :
    ∃ n ks vs mo, x = nI n ∧ n < 720 ∧ mp_N m n (mp_ff r es) (mp_gg r es) mo ks vs ∧ ((mo = -1 ∧ mp_tt r es = []) ∨ (mp_tt r es ≠ [] ∧ r = 0 ∧ mp_R F m 0 mo (mp_tt r es))) ∧
      ∀ w, w < 4 → (mp_gg r es w = true → mp_ff r es w = false ∧ 2 ≤ (mp_ss r es w).length ∧ ∃ r', r = r' + 1 ∧ mp_R F m r' (ks w) (mp_ss r es w)) ∧
        (mp_gg r es w = false → (mp_ff r es w = true → mp_ss r es w = [(ks w, vs w)]) ∧ (mp_ff r es w = false → mp_ss r es w = [])) := by
  cases r with
  | zero =>
    obtain ⟨hne, d, hB⟩ := h
    cases d with
    | zero => exact absurd hB.2 hne
    | succ d =>
      rcases hB with ⟨_, z⟩ | ⟨n, n1, n2, n3, n4, n5, n6, n7, n8⟩
      · exact absurd z hne
      · refine ⟨n, fun w => m.2.2.2.1 (4 * n + w), fun w => m.2.2.2.2 (4 * n + w), m.2.2.1 n, n2, n1, ⟨n5, n6, rfl, fun _ _ => ⟨rfl, rfl⟩⟩, ?_, ?_⟩
        · by_cases c : es.drop 4 = []
          · left
            refine ⟨?_, c⟩
            cases d with
            | zero => exact n8.1
            | succ d =>
              rcases n8 with z | ⟨_, _, _, _, z, _⟩
              · exact z.1
              · exact absurd c z
          · exact Or.inr ⟨c, rfl, c, d, n8⟩
        · intro w hw
          refine ⟨fun z => absurd z Bool.false_ne_true, fun _ => ⟨fun z => ?_, fun z => ?_⟩⟩
          · have hl : w < es.length := of_decide_eq_true z
            have q := n7 w hw hl
            show (if w < es.length then [es.getD w (0, 0)] else []) = _
            rw [if_pos hl]
            dsimp only
            rw [q.1, q.2]
          · have hl : ¬ w < es.length := of_decide_eq_false z
            exact if_neg hl
  | succ r =>
    obtain ⟨n, n1, n2, n3, n4, n5, n6, n7⟩ := h
    refine ⟨n, fun w => m.2.2.2.1 (4 * n + w), fun w => m.2.2.2.2 (4 * n + w), -1, n2, n1, ⟨n5, n6, n4, fun _ _ => ⟨rfl, rfl⟩⟩, Or.inl ⟨rfl, rfl⟩, ?_⟩
    intro w hw
    obtain ⟨q1, q2⟩ := n7 w hw
    constructor
    · intro z
      have z2 : 2 ≤ (mp_sub (3 - r) w es).length := of_decide_eq_true z
      exact ⟨decide_eq_false (by omega), z2, r, rfl, q2 z2⟩
    · intro z
      have z2 : ¬ 2 ≤ (mp_sub (3 - r) w es).length := of_decide_eq_false z
      refine ⟨fun y => ?_, fun y => ?_⟩
      · have y1 : (mp_sub (3 - r) w es).length = 1 := of_decide_eq_true y
        obtain ⟨e, he⟩ := mp_len1 y1
        have q := q1 e he
        show mp_sub (3 - r) w es = _
        rw [he]
        dsimp only
        rw [q.1, q.2]
      · have y1 : ¬ (mp_sub (3 - r) w es).length = 1 := of_decide_eq_false y
        exact List.length_eq_zero_iff.mp (show (mp_sub (3 - r) w es).length = 0 by omega)
/-- a node has one list alone -/
theorem mp_det {F : Nat → Prop} {m : MH} : ∀ (N r : Nat) {x : Int32} {a b : List (Int32 × Int32)}, a.length * (r + 1) < N → ms_S a → ms_S b → mp_R F m r x a → mp_R F m r x b → a = b := by
  intro N
  induction N with
  | zero => intros; omega
  | succ N ih =>
    intro r x a b hN ha hb hA hB
    obtain ⟨n, ks, vs, mo, en, n1, nN, nt, nw⟩ := mp_nv hA
    obtain ⟨n', ks', vs', mo', en', n1', nN', nt', nw'⟩ := mp_nv hB
    have e : n = n' := ps_inj (by omega) (by omega) (en.symm.trans en')
    subst e
    have ef : ∀ w, w < 4 → mp_ff r a w = mp_ff r b w := fun w hw => mb_inj (nN.1.symm.trans nN'.1) hw
    have eg : ∀ w, w < 4 → mp_gg r a w = mp_gg r b w := fun w hw => mb_inj (nN.2.1.symm.trans nN'.2.1) hw
    have em : mo = mo' := nN.2.2.1.symm.trans nN'.2.2.1
    have hlen := (mp_ssP r a).length_eq
    rw [List.length_append] at hlen
    refine mp_eqs (r := r) ha hb ?_ (fun w hw => ?_)
    · rcases nt with ⟨t1, t2⟩ | ⟨t1, t2, t3⟩
      · rcases nt' with ⟨s1, s2⟩ | ⟨s1, s2, s3⟩
        · rw [t2, s2]
        · obtain ⟨j, j1, j2, _⟩ := mp_o s3
          exact absurd (t1.symm.trans (em.trans j2)) (ps_m1ne (by omega))
      · rcases nt' with ⟨s1, s2⟩ | ⟨s1, s2, s3⟩
        · obtain ⟨j, j1, j2, _⟩ := mp_o t3
          exact absurd (s1.symm.trans (em.symm.trans j2)) (ps_m1ne (by omega))
        · subst t2
          refine ih 0 (x := mo) ?_ (mp_ttS ha) (mp_ttS hb) t3 (by rw [em]; exact s3)
          have : 0 < (a.drop 4).length := List.length_pos_iff.mpr t1
          show (a.drop 4).length * 1 < N
          rw [List.length_drop] at this ⊢
          omega
    · obtain ⟨u1, u2⟩ := nw w hw
      obtain ⟨u1', u2'⟩ := nw' w hw
      have ek := (nN.2.2.2 w hw).1.symm.trans (nN'.2.2.2 w hw).1
      have ev := (nN.2.2.2 w hw).2.symm.trans (nN'.2.2.2 w hw).2
      cases hg : mp_gg r a w with
      | true =>
        obtain ⟨_, v2, r', er, v3⟩ := u1 hg
        obtain ⟨_, _, r2, er2, v3'⟩ := u1' ((eg w hw).symm.trans hg)
        have e2 : r' = r2 := by omega
        subst e2
        refine ih r' (x := ks w) ?_ (mp_ssS ha) (mp_ssS hb) v3 (by rw [ek]; exact v3')
        have l1 : (mp_ss r a w).length ≤ a.length := by
          subst er; exact List.length_filter_le _ _
        have l2 : (mp_ss r a w).length * (r' + 1) ≤ a.length * (r' + 1) := Nat.mul_le_mul_right _ l1
        have l3 : a.length * (r + 1) = a.length * (r' + 1) + a.length := by rw [er, Nat.mul_succ]
        omega
      | false =>
        obtain ⟨v1, v2⟩ := u2 hg
        obtain ⟨v1', v2'⟩ := u2' ((eg w hw).symm.trans hg)
        cases hf : mp_ff r a w with
        | true => rw [v1 hf, v1' ((ef w hw).symm.trans hf), ek, ev]
        | false => rw [v2 hf, v2' ((ef w hw).symm.trans hf)]
/-- two tries of the same level -/
def mp_E2 (F : Nat → Prop) (m : MH) (N : Nat) (x y : Int32) (a b : List (Int32 × Int32)) : Prop :=
  ∃ r, r ≤ 4 ∧ mp_R F m r x a ∧ mp_R F m r y b ∧ ms_S a ∧ ms_S b ∧ a ≠ [] ∧ N = a.length * (r + 1)
def mp_W2 (F : Nat → Prop) (m : MH) (st ot : Nat → Int32) : Nat → Prop → Nat → Nat → Prop
  | 0 => fun Q W C => Q ∧ W = 0 ∧ C = 0
  | t + 1 => fun Q W C => ∃ N x y a b Q' W' C', st t = x ∧ ot t = y ∧ mp_E2 F m N x y a b ∧ (Q ↔ (a = b ∧ Q')) ∧ W = N + W' ∧ C = a.length + C' ∧ mp_W2 F m st ot t Q' W' C'
theorem mp_W2_c {F : Nat → Prop} {m : MH} {st st' ot ot' : Nat → Int32} : ∀ {t W C : Nat} {Q : Prop}, (∀ i, i < t → st' i = st i ∧ ot' i = ot i) → mp_W2 F m st ot t Q W C → mp_W2 F m st' ot' t Q W C := by
  intro t
  induction t with
  | zero => exact fun _ z => z
  | succ t ih =>
    rintro W C Q ho ⟨N, x, y, a, b, Q', W', C', e1, e2, hE, eQ, eW, eC, hW⟩
    have o := ho t (by omega)
    exact ⟨N, x, y, a, b, Q', W', C', o.1.trans e1, o.2.trans e2, hE, eQ, eW, eC, ih (fun i hi => ho i (by omega)) hW⟩
theorem mp_W2_l {F : Nat → Prop} {m : MH} {st ot : Nat → Int32} : ∀ {t W C : Nat} {Q : Prop}, mp_W2 F m st ot t Q W C → t ≤ C := by
  intro t
  induction t with
  | zero => intros; omega
  | succ t ih =>
    rintro W C Q ⟨N, x, y, a, b, Q', W', C', e1, e2, hE, eQ, eW, eC, hW⟩
    have := ih hW
    obtain ⟨_, _, _, _, _, _, hne, _⟩ := hE
    have := List.length_pos_iff.mpr hne
    omega
theorem mp_W2_p {F : Nat → Prop} {m : MH} {st ot : Nat → Int32} {t W C N : Nat} {Q : Prop} {a b : List (Int32 × Int32)} {x y : Int32} (hE : mp_E2 F m N x y a b) (hW : mp_W2 F m st ot t Q W C) :
    mp_W2 F m (upd st t x) (upd ot t y) (t + 1) (a = b ∧ Q) (N + W) (a.length + C) :=
  ⟨N, x, y, a, b, Q, W, C, pk_us, pk_us, hE, Iff.rfl, rfl, rfl, mp_W2_c (fun i hi => ⟨pk_un (by omega), pk_un (by omega)⟩) hW⟩
theorem mp_R_s {F : Nat → Prop} {m : MH} {r : Nat} {x : Int32} {es : List (Int32 × Int32)} (h : mp_R F m r x es) : vp_nar .short x = x ∧ vp_nar .short x.toInt16.toInt32 = x ∧ ¬ x < 0 := by
  obtain ⟨n, n1, rfl, _⟩ := mp_o h
  exact ⟨ps_s (by omega), ps_ss (by omega), nI_pos (by omega)⟩
end
section
/-! sameMaps: the walk -/
section
variable {f_mapRoom f_listRoom f_depth f_many f_first f_second : Int32} {a_held a_root a_data a_links a_more a_keys a_values a_mapMark a_mapFree a_left a_right a_height a_size a_element a_listMark a_listFree a_path a_turns a_stack a_other a_gathered a_worth a_spareKey a_spareValue a_low a_high a_before a_behind : Nat → Int32} {a_total : Nat → Int64}
variable {F : Nat → Prop} {m : MH} {T : Prop}
theorem xm_sm147 {post : Int32 → SX → Prop} {J : Int32 → (Nat → Int32) → (Nat → Int32) → (Nat → Int32) → (Nat → Int32) → (Nat → Int32) → (Nat → Int32) → (Nat → Int32) → (Nat → Int32) → (Nat → Int32) → (Nat → Int32) → (Nat → Int32) → (Nat → Int32) → (Nat → Int32) → (Nat → Int32) → (Nat → Int64) → (Nat → Int32) → (Nat → Int32) → (Nat → Int32) → (Nat → Int32) → (Nat → Int32) → (Nat → Int32) → (Nat → Int32) → (Nat → Int32) → (Nat → Int32) → (Nat → Int32) → (Nat → Int32) → (Nat → Int32) → (Nat → Int32) → (Nat → Int32) → Prop} {r n1 n2 : Nat} {a b : List (Int32 × Int32)} {ks1 vs1 ks2 vs2 : Nat → Int32} {mo1 mo2 : Int32}
    (hp0 : ¬ T → ∀ st' ot', post 0 (f_mapRoom, f_listRoom, f_depth, f_many, f_first, f_second, a_held, a_root, m.1, m.2.1, m.2.2.1, m.2.2.2.1, m.2.2.2.2, a_mapMark, a_mapFree, a_left, a_right, a_height, a_size, a_element, a_total, a_listMark, a_listFree, a_path, a_turns, st', ot', a_gathered, a_worth, a_spareKey, a_spareValue, a_low, a_high, a_before, a_behind)) (hr : r ≤ 4) (ha : ms_S a) (hbS : ms_S b) (hn1 : n1 < 720) (hn2 : n2 < 720)
    (N1 : mp_N m n1 (mp_ff r a) (mp_gg r a) mo1 ks1 vs1) (N2 : mp_N m n2 (mp_ff r b) (mp_gg r b) mo2 ks2 vs2)
    (hf : ∀ w, w < 4 → mp_ff r a w = mp_ff r b w) (hg : ∀ w, w < 4 → mp_gg r a w = mp_gg r b w) (hmo : mo1 = -1 ↔ mo2 = -1)
    (nt1 : (mo1 = -1 ∧ mp_tt r a = []) ∨ (mp_tt r a ≠ [] ∧ r = 0 ∧ mp_R F m 0 mo1 (mp_tt r a))) (nt2 : (mo2 = -1 ∧ mp_tt r b = []) ∨ (mp_tt r b ≠ [] ∧ r = 0 ∧ mp_R F m 0 mo2 (mp_tt r b)))
    (v1 : ∀ w, w < 4 → (mp_gg r a w = true → mp_ff r a w = false ∧ 2 ≤ (mp_ss r a w).length ∧ ∃ r', r = r' + 1 ∧ mp_R F m r' (ks1 w) (mp_ss r a w)) ∧ (mp_gg r a w = false → (mp_ff r a w = true → mp_ss r a w = [(ks1 w, vs1 w)]) ∧ (mp_ff r a w = false → mp_ss r a w = [])))
    (v2 : ∀ w, w < 4 → (mp_gg r b w = true → mp_ff r b w = false ∧ 2 ≤ (mp_ss r b w).length ∧ ∃ r', r = r' + 1 ∧ mp_R F m r' (ks2 w) (mp_ss r b w)) ∧ (mp_gg r b w = false → (mp_ff r b w = true → mp_ss r b w = [(ks2 w, vs2 w)]) ∧ (mp_ff r b w = false → mp_ss r b w = []))) :
    ∀ (d : Nat) {N w t W C : Nat} {Q : Prop} {st ot : Nat → Int32}, d < N → w + d = 4 → mp_W2 F m st ot t Q W C → C + (pl_SL (mp_ss r a) w d).length + (mp_tt r a).length ≤ 60 →
    (T ↔ ((mp_tt r a = mp_tt r b ∧ ∀ j, w ≤ j → j < 4 → mp_ss r a j = mp_ss r b j) ∧ Q)) →
    (∀ t' Q' W' C' st' ot', mp_W2 F m st' ot' t' Q' W' C' → (T ↔ Q') → W' ≤ W + (pl_SL (mp_ss r a) w d).length * r + (mp_tt r a).length → C' ≤ C + (pl_SL (mp_ss r a) w d).length + (mp_tt r a).length → J (nI t') a_held a_root m.1 m.2.1 m.2.2.1 m.2.2.2.1 m.2.2.2.2 a_mapMark a_mapFree a_left a_right a_height a_size a_element a_total a_listMark a_listFree a_path a_turns st' ot' a_gathered a_worth a_spareKey a_spareValue a_low a_high a_before a_behind) →
    wX_sameMaps_147 post J (nI n1) (nI n2) f_mapRoom f_listRoom f_depth f_many f_first f_second N (nI t) (nI w) a_held a_root m.1 m.2.1 m.2.2.1 m.2.2.2.1 m.2.2.2.2 a_mapMark a_mapFree a_left a_right a_height a_size a_element a_total a_listMark a_listFree a_path a_turns st ot a_gathered a_worth a_spareKey a_spareValue a_low a_high a_before a_behind := by
  intro d
  induction d with
  | zero =>
    intro N w t W C Q st ot hN hw hW hb hT hJ
    have hl := mp_W2_l hW
    have e : w = 4 := by omega
    subst e
    cases N with
    | zero => omega
    | succ N =>
      refine br_t (by decide) ⟨vp_in_nI hn1 (by omega), ?_⟩
      rw [nI_clamp (n := n1) (by omega), N1.2.2.1]
      rcases nt1 with ⟨m1, t1⟩ | ⟨t1, r0, q1⟩
      · rcases nt2 with ⟨m2, t2⟩ | ⟨t2, _, q2⟩
        · refine br_t (by rw [m1]; exact ps_m1lt) (hJ t Q W C st ot hW ⟨fun z => (hT.mp z).2, fun z => hT.mpr ⟨⟨by rw [t1, t2], fun j h1 h2 => absurd h2 (by omega)⟩, z⟩⟩ (by omega) (by omega))
        · obtain ⟨j, j1, j2, _⟩ := mp_o q2
          exact absurd ((hmo.mp m1).symm.trans j2) (ps_m1ne (by omega))
      · rcases nt2 with ⟨m2, t2⟩ | ⟨t2, _, q2⟩
        · obtain ⟨j, j1, j2, _⟩ := mp_o q1
          exact absurd ((hmo.mpr m2).symm.trans j2) (ps_m1ne (by omega))
        · have s1 := mp_R_s q1
          have s2 := mp_R_s q2
          refine br_f s1.2.2 ⟨vp_in_nI hn1 (by omega), vp_in_nI (by omega) (by omega), nm_r (e' := upd st t mo1) (by rw [nI_clamp (by omega), s1.1]) (nm_r (nI_1 t) ⟨vp_in_nI hn2 (by omega), vp_in_nI (by omega) (by omega), nm_r (e' := upd ot t mo2) (by rw [nI_clamp (by omega), nI_clamp (by omega), N2.2.2.1, s2.1]) ?_⟩)⟩
          have hE : mp_E2 F m ((mp_tt r a).length * (0 + 1)) mo1 mo2 (mp_tt r a) (mp_tt r b) := ⟨0, by omega, q1, q2, mp_ttS ha, mp_ttS hbS, t1, rfl⟩
          refine hJ _ _ _ _ _ _ (mp_W2_p hE hW) ⟨fun z => ⟨(hT.mp z).1.1, (hT.mp z).2⟩, fun z => hT.mpr ⟨⟨z.1, fun j h1 h2 => absurd h2 (by omega)⟩, z.2⟩⟩ (by omega) (by omega)
  | succ d ih =>
    intro N w t W C Q st ot hN hw hW hb hT hJ
    have hl := mp_W2_l hW
    rw [pl_SL, List.length_append] at hb
    have hmul : ((mp_ss r a w).length + (pl_SL (mp_ss r a) (w + 1) d).length) * r = (mp_ss r a w).length * r + (pl_SL (mp_ss r a) (w + 1) d).length * r := Nat.add_mul _ _ _
    obtain ⟨p1, p2⟩ := v1 w (by omega)
    obtain ⟨p1', p2'⟩ := v2 w (by omega)
    have ef := hf w (by omega)
    have eg := hg w (by omega)
    have hk1 := N1.2.2.2 w (by omega)
    have hk2 := N2.2.2.2 w (by omega)
    cases N with
    | zero => omega
    | succ N =>
      have h222 : (mp_gg r a w = false → mp_ss r a w = mp_ss r b w) → wX_sameMaps_222 post J (wX_sameMaps_147 post J (nI n1) (nI n2) f_mapRoom f_listRoom f_depth f_many f_first f_second N) (nI t) (nI n1) (nI n2) (nI w) (nI (4 * n1 + w)) (nI (4 * n2 + w)) f_mapRoom f_listRoom f_depth f_many f_first f_second a_held a_root m.1 m.2.1 m.2.2.1 m.2.2.2.1 m.2.2.2.2 a_mapMark a_mapFree a_left a_right a_height a_size a_element a_total a_listMark a_listFree a_path a_turns st ot a_gathered a_worth a_spareKey a_spareValue a_low a_high a_before a_behind := by
        intro hs
        refine And.intro (vp_in_nI hn1 (by omega)) ?_
        rw [nI_clamp (n := n1) (by omega), N1.2.1]
        refine xm_bit (by omega) (fun c => br_t rfl (nm_r (nI_1 w) ?_)) (fun c => br_f (by decide) ?_)
        · refine ih (by omega) (by omega) hW (by omega) ⟨fun z => ⟨⟨(hT.mp z).1.1, fun j h1 h2 => (hT.mp z).1.2 j (by omega) h2⟩, (hT.mp z).2⟩, fun z => hT.mpr ⟨⟨z.1.1, fun j h1 h2 => ?_⟩, z.2⟩⟩ (fun t' Q' W' C' st' ot' hW' hT' eW eC => hJ t' Q' W' C' st' ot' hW' hT' ?_ ?_)
          · by_cases cj : j = w
            · subst cj; exact hs c
            · exact z.1.2 j (by omega) h2
          · rw [pl_SL, List.length_append, hmul]; omega
          · rw [pl_SL, List.length_append]; omega
        · obtain ⟨_, u2, r', er, u3⟩ := p1 c
          obtain ⟨_, _, r2, er2, u3'⟩ := p1' (eg.symm.trans c)
          have e2 : r' = r2 := by omega
          subst e2
          have s1 := mp_R_s u3
          have s2 := mp_R_s u3'
          refine ⟨vp_in_nI (by omega) (by omega), vp_in_nI (by omega) (by omega), nm_r (e' := upd st t (ks1 w)) (by rw [nI_clamp (by omega), nI_clamp (by omega), hk1.1, s1.2.1]) (nm_r (nI_1 t) ⟨vp_in_nI (by omega) (by omega), vp_in_nI (by omega) (by omega), nm_r (e' := upd ot t (ks2 w)) (by rw [nI_clamp (by omega), nI_clamp (by omega), hk2.1, s2.2.1]) (nm_r (nI_1 w) ?_)⟩)⟩
          have hE : mp_E2 F m ((mp_ss r a w).length * (r' + 1)) (ks1 w) (ks2 w) (mp_ss r a w) (mp_ss r b w) := ⟨r', by omega, u3, u3', mp_ssS ha, mp_ssS hbS, fun z => by rw [z] at u2; simp at u2, rfl⟩
          refine ih (by omega) (by omega) (mp_W2_p hE hW) (by omega) ⟨fun z => ⟨⟨(hT.mp z).1.1, fun j h1 h2 => (hT.mp z).1.2 j (by omega) h2⟩, (hT.mp z).1.2 w (by omega) (by omega), (hT.mp z).2⟩, fun z => hT.mpr ⟨⟨z.1.1, fun j h1 h2 => ?_⟩, z.2.2⟩⟩ (fun t' Q' W' C' st' ot' hW' hT' eW eC => hJ t' Q' W' C' st' ot' hW' hT' ?_ ?_)
          · by_cases cj : j = w
            · subst cj; exact z.2.1
            · exact z.1.2 j (by omega) h2
          · rw [pl_SL, List.length_append, hmul]
            rw [← er] at eW
            omega
          · rw [pl_SL, List.length_append]; omega
      refine br_f (nI_ge (b := 4) (by omega) (by omega)) (nm_r (ps_4 n1 w) (nm_r (ps_4 n2 w) ⟨vp_in_nI hn1 (by omega), ?_⟩))
      rw [nI_clamp (n := n1) (by omega), N1.1, nI_clamp (n := 4 * n1 + w) (by omega), nI_clamp (n := 4 * n2 + w) (by omega), hk1.1, hk1.2, hk2.1, hk2.2]
      refine xm_bit (by omega) (fun c => br_t rfl (h222 (fun z => ?_))) (fun c => br_f (by decide) ?_)
      · rw [(p2 z).2 c, (p2' (eg.symm.trans z)).2 (ef.symm.trans c)]
      · have gz : mp_gg r a w = false := by
          cases hgz : mp_gg r a w with
          | false => rfl
          | true => have := (p1 hgz).1; rw [c] at this; exact absurd this (by simp)
        have q1 := (p2 gz).1 c
        have q2 := (p2' (eg.symm.trans gz)).1 (ef.symm.trans c)
        have ne : (ks1 w, vs1 w) ≠ (ks2 w, vs2 w) → ¬ T := by
          intro hne z
          have := (hT.mp z).1.2 w (by omega) (by omega)
          rw [q1, q2] at this
          simp at this
          exact hne (by rw [this.1, this.2])
        refine ⟨vp_in_nI (by omega) (by omega), vp_in_nI (by omega) (by omega), br_c (fun c2 => ⟨vp_in_nI (by omega) (by omega), vp_in_nI (by omega) (by omega), br_c (fun c3 => h222 (fun _ => ?_)) (fun c3 => hp0 (ne ?_) st ot)⟩) (fun c2 => hp0 (ne ?_) st ot)⟩
        · rw [q1, q2, c2, c3]
        · intro z; exact c3 (congrArg Prod.snd z)
        · intro z; exact c2 (congrArg Prod.fst z)
theorem xm_sm40 {post : Int32 → SX → Prop} (hp0 : ¬ T → ∀ st' ot', post 0 (f_mapRoom, f_listRoom, f_depth, f_many, f_first, f_second, a_held, a_root, m.1, m.2.1, m.2.2.1, m.2.2.2.1, m.2.2.2.2, a_mapMark, a_mapFree, a_left, a_right, a_height, a_size, a_element, a_total, a_listMark, a_listFree, a_path, a_turns, st', ot', a_gathered, a_worth, a_spareKey, a_spareValue, a_low, a_high, a_before, a_behind)) (hp1 : T → ∀ st' ot', post 1 (f_mapRoom, f_listRoom, f_depth, f_many, f_first, f_second, a_held, a_root, m.1, m.2.1, m.2.2.1, m.2.2.2.1, m.2.2.2.2, a_mapMark, a_mapFree, a_left, a_right, a_height, a_size, a_element, a_total, a_listMark, a_listFree, a_path, a_turns, st', ot', a_gathered, a_worth, a_spareKey, a_spareValue, a_low, a_high, a_before, a_behind)) :
    ∀ (N : Nat) {t W C : Nat} {Q : Prop} {st ot : Nat → Int32}, W < N → mp_W2 F m st ot t Q W C → C ≤ 60 → (T ↔ Q) → wX_sameMaps_40 post f_mapRoom f_listRoom f_depth f_many f_first f_second N (nI t) a_held a_root m.1 m.2.1 m.2.2.1 m.2.2.2.1 m.2.2.2.2 a_mapMark a_mapFree a_left a_right a_height a_size a_element a_total a_listMark a_listFree a_path a_turns st ot a_gathered a_worth a_spareKey a_spareValue a_low a_high a_before a_behind := by
  intro N
  induction N with
  | zero => intros; omega
  | succ N ih =>
    intro t W C Q st ot hN hW hC hT
    have hl := mp_W2_l hW
    cases t with
    | zero => exact br_t (by decide) (hp1 (hT.mpr hW.1) st ot)
    | succ t =>
      obtain ⟨N1, x, y, a, b, Q', W', C', e1, e2, ⟨r, hr, hA, hB, ha, hb, hne, rfl⟩, eQ, rfl, rfl, hW⟩ := hW
      have hpos := List.length_pos_iff.mpr hne
      have hl' := mp_W2_l hW
      have hmul : a.length * (r + 1) = a.length * r + a.length := Nat.mul_succ _ _
      refine br_f (nI_nle (by omega) (by omega)) (nm_r (pk_m1 t) ⟨vp_in_nI (by omega) (by omega), nm_r (e' := x) (by rw [nI_clamp (by omega)]; exact e1) ⟨vp_in_nI (by omega) (by omega), nm_r (e' := y) (by rw [nI_clamp (by omega)]; exact e2) (br_c (fun c => ?_) (fun c => ?_))⟩⟩)
      · subst c
        have e := mp_det _ r (Nat.lt_succ_self _) ha hb hA hB
        exact ih (by omega) hW (by omega) ⟨fun z => (eQ.mp (hT.mp z)).2, fun z => hT.mpr (eQ.mpr ⟨e, z⟩)⟩
      · have nT : a ≠ b → ¬ T := fun h z => h (eQ.mp (hT.mp z)).1
        obtain ⟨n1, ks1, vs1, mo1, rfl, hn1, NN1, nt1, v1⟩ := mp_nv hA
        obtain ⟨n2, ks2, vs2, mo2, rfl, hn2, NN2, nt2, v2⟩ := mp_nv hB
        refine ⟨vp_in_nI hn1 (by omega), vp_in_nI hn2 (by omega), ?_⟩
        rw [nI_clamp (n := n1) (by omega), nI_clamp (n := n2) (by omega), NN1.1, NN2.1, NN1.2.1, NN2.2.1, NN1.2.2.1]
        refine br_c (fun c1 => ⟨vp_in_nI hn1 (by omega), vp_in_nI hn2 (by omega), br_c (fun c2 => ⟨vp_in_nI hn1 (by omega), ?_⟩) (fun c2 => hp0 (nT (fun z => c2 (by rw [z]))) st ot)⟩) (fun c1 => hp0 (nT (fun z => c1 (by rw [z]))) st ot)
        have lk : (mo1 = -1 ↔ mp_tt r a = []) := by
          rcases nt1 with ⟨p, q⟩ | ⟨p, _, q⟩
          · exact ⟨fun _ => q, fun _ => p⟩
          · obtain ⟨j, j1, j2, _⟩ := mp_o q
            exact ⟨fun z => absurd (z.symm.trans j2) (ps_m1ne (by omega)), fun z => absurd z p⟩
        have lk2 : (mo2 = -1 ↔ mp_tt r b = []) := by
          rcases nt2 with ⟨p, q⟩ | ⟨p, _, q⟩
          · exact ⟨fun _ => q, fun _ => p⟩
          · obtain ⟨j, j1, j2, _⟩ := mp_o q
            exact ⟨fun z => absurd (z.symm.trans j2) (ps_m1ne (by omega)), fun z => absurd z p⟩
        have hlen := (mp_ssP r a).length_eq
        rw [List.length_append] at hlen
        have go : (mo1 = -1 ↔ mo2 = -1) → ∃ n147, wX_sameMaps_147 post (wX_sameMaps_40 post f_mapRoom f_listRoom f_depth f_many f_first f_second N) (nI n1) (nI n2) f_mapRoom f_listRoom f_depth f_many f_first f_second n147 (nI t) (nI 0) a_held a_root m.1 m.2.1 m.2.2.1 m.2.2.2.1 m.2.2.2.2 a_mapMark a_mapFree a_left a_right a_height a_size a_element a_total a_listMark a_listFree a_path a_turns st ot a_gathered a_worth a_spareKey a_spareValue a_low a_high a_before a_behind := by
          intro hmo
          refine ⟨5, xm_sm147 (F := F) (T := T) (r := r) (a := a) (b := b) hp0 hr ha hb hn1 hn2 NN1 NN2 (fun w hw => mb_inj c1 hw) (fun w hw => mb_inj c2 hw) hmo nt1 nt2 v1 v2 4 (w := 0) (by omega) (by omega) hW (by omega) ⟨fun z => ?_, fun z => ?_⟩ (fun t' Q2 W2 C2 st' ot' hW2 hT2 eW eC => ih ?_ hW2 (by omega) hT2)⟩
          · have := eQ.mp (hT.mp z)
            rw [this.1]
            exact ⟨⟨rfl, fun _ _ _ => rfl⟩, this.2⟩
          · exact hT.mpr (eQ.mpr ⟨mp_eqs ha hb z.1.1 (fun w hw => z.1.2 w (by omega) hw), z.2⟩)
          · have : (pl_SL (mp_ss r a) 0 4).length * r + (mp_tt r a).length < a.length * (r + 1) := by
              cases r with
              | zero =>
                have : (mp_tt 0 a).length = a.length - 4 := by rw [mp_tt0, List.length_drop]
                omega
              | succ r =>
                rw [mp_ttn, List.length_nil] at hlen ⊢
                have : (pl_SL (mp_ss (r + 1) a) 0 4).length = a.length := by omega
                rw [this, hmul]; omega
            omega
        have nmo : ¬ (mo1 = -1 ↔ mo2 = -1) → ¬ T := by
          intro h
          exact nT (fun z => h (by rw [lk, lk2, z]))
        refine br_c (fun c3 => And.intro (vp_in_nI hn2 (by omega)) ?_) (fun c3 => And.intro (vp_in_nI hn2 (by omega)) ?_)
        · rw [nI_clamp (n := n2) (by omega), NN2.2.2.1]
          exact br_c (fun c4 => br_t rfl (go ⟨fun _ => c4, fun _ => c3⟩)) (fun c4 => br_f (by decide) (hp0 (nmo (fun z => c4 (z.mp c3))) st ot))
        · rw [nI_clamp (n := n2) (by omega), NN2.2.2.1]
          exact br_c (fun c4 => br_f (by decide) (hp0 (nmo (fun z => c3 (z.mpr c4))) st ot)) (fun c4 => br_t rfl (go ⟨fun z => absurd z c3, fun z => absurd z c4⟩))
theorem xm_sameMaps {post : Int32 → SX → Prop} {x y : Int32} {a b : List (Int32 × Int32)} (hx : mp_M F m x a) (hy : mp_M F m y b) (ha : ms_S a) (hb : ms_S b) (hl : a.length ≤ 60)
    (hp0 : a ≠ b → ∀ st' ot', post 0 (f_mapRoom, f_listRoom, f_depth, f_many, f_first, f_second, a_held, a_root, m.1, m.2.1, m.2.2.1, m.2.2.2.1, m.2.2.2.2, a_mapMark, a_mapFree, a_left, a_right, a_height, a_size, a_element, a_total, a_listMark, a_listFree, a_path, a_turns, st', ot', a_gathered, a_worth, a_spareKey, a_spareValue, a_low, a_high, a_before, a_behind)) (hp1 : a = b → ∀ st' ot', post 1 (f_mapRoom, f_listRoom, f_depth, f_many, f_first, f_second, a_held, a_root, m.1, m.2.1, m.2.2.1, m.2.2.2.1, m.2.2.2.2, a_mapMark, a_mapFree, a_left, a_right, a_height, a_size, a_element, a_total, a_listMark, a_listFree, a_path, a_turns, st', ot', a_gathered, a_worth, a_spareKey, a_spareValue, a_low, a_high, a_before, a_behind)) : wpX_sameMaps post (f_mapRoom, f_listRoom, f_depth, f_many, f_first, f_second, a_held, a_root, m.1, m.2.1, m.2.2.1, m.2.2.2.1, m.2.2.2.2, a_mapMark, a_mapFree, a_left, a_right, a_height, a_size, a_element, a_total, a_listMark, a_listFree, a_path, a_turns, a_stack, a_other, a_gathered, a_worth, a_spareKey, a_spareValue, a_low, a_high, a_before, a_behind) x y := by
  rcases hx with ⟨rfl, rfl⟩ | ⟨hne, hx⟩
  · refine br_t ps_m1lt ?_
    rcases hy with ⟨rfl, rfl⟩ | ⟨hne', hy⟩
    · exact br_t rfl (hp1 rfl _ _)
    · obtain ⟨j, j1, rfl, _⟩ := mp_o hy
      exact br_f (ps_m1ne (by omega)) (hp0 (fun z => hne' z.symm) _ _)
  · have s1 := mp_R_s hx
    obtain ⟨i, i1, ei, _⟩ := mp_o hx
    refine br_f s1.2.2 ?_
    rcases hy with ⟨rfl, rfl⟩ | ⟨hne', hy⟩
    · refine br_f ps_m1nle (br_f (fun z => ?_) (hp0 hne _ _))
      rw [ei] at z; exact ps_m1ne (by omega) z.symm
    · have s2 := mp_R_s hy
      refine br_t (Int32.not_lt.mp s2.2.2) (nm_r (e' := upd a_stack 0 x) (by rw [s1.2.1]) (nm_r (e' := nI 1) (by decide) (nm_r (e' := upd a_other 0 y) (by rw [s2.2.1]) ⟨a.length * (4 + 1) + 1, ?_⟩)))
      refine xm_sm40 (T := a = b) hp0 hp1 (a.length * (4 + 1) + 1) (t := 1) (W := a.length * (4 + 1) + 0) (C := a.length + 0) (Q := a = b ∧ True) (by omega) (mp_W2_p ⟨4, by omega, hx, hy, ha, hb, hne, rfl⟩ ⟨True.intro, rfl, rfl⟩) (by omega) ⟨fun z => ⟨z, True.intro⟩, fun z => z.1⟩
end
end
section
/-! the sweep of maps; tidy -/
def mp_Ch (m : MH) (n j : Nat) : Prop := m.2.2.1 n = nI j ∨ ∃ w g, w < 4 ∧ m.2.1 n = mb g ∧ g w = true ∧ m.2.2.2.1 (4 * n + w) = nI j
theorem mp_Bsub {F M : Nat → Prop} {m : MH} (hC : ∀ n, n < 720 → M n → ∀ j, j < 720 → mp_Ch m n j → M j) : ∀ {d : Nat} {x : Int32} {es : List (Int32 × Int32)}, mp_B F m d x es → (∀ j, j < 720 → x = nI j → M j) → mp_B M m d x es := by
  intro d
  induction d with
  | zero => exact fun h _ => h
  | succ d ih =>
    rintro x es (z | ⟨n, n1, n2, n3, n4, n5, n6, n7, n8⟩) hM
    · exact Or.inl z
    · have hm := hM n n1 n2
      exact Or.inr ⟨n, n1, n2, hm, n4, n5, n6, n7, ih n8 (fun j hj e => hC n n1 hm j hj (Or.inl e))⟩
theorem mp_Rsub {F M : Nat → Prop} {m : MH} (hC : ∀ n, n < 720 → M n → ∀ j, j < 720 → mp_Ch m n j → M j) : ∀ {r : Nat} {x : Int32} {es : List (Int32 × Int32)}, mp_R F m r x es → (∀ j, j < 720 → x = nI j → M j) → mp_R M m r x es := by
  intro r
  induction r with
  | zero => rintro x es ⟨z, d, hB⟩ hM; exact ⟨z, d, mp_Bsub hC hB hM⟩
  | succ r ih =>
    rintro x es ⟨n, n1, n2, n3, n4, n5, n6, n7⟩ hM
    have hm := hM n n1 n2
    refine ⟨n, n1, n2, hm, n4, n5, n6, fun w hw => ⟨(n7 w hw).1, fun z => ih ((n7 w hw).2 z) (fun j hj e => hC n n1 hm j hj (Or.inr ⟨w, _, hw, n6, decide_eq_true z, e⟩))⟩⟩
def mp_Cl (m : MH) (mk st : Nat → Int32) (t : Nat) : Prop := ∀ n, n < 720 → mk n ≠ 0 → ∀ j, j < 720 → mp_Ch m n j → ps_MS mk st t j
section
variable {f_mapRoom f_listRoom f_depth f_many f_first f_second : Int32} {a_held a_root a_data a_links a_more a_keys a_values a_mapMark a_mapFree a_left a_right a_height a_size a_element a_listMark a_listFree a_path a_turns a_stack a_other a_gathered a_worth a_spareKey a_spareValue a_low a_high a_before a_behind : Nat → Int32} {a_total : Nat → Int64}
variable {post : SX → Prop} {m : MH} {F T : Nat → Prop}
theorem xm_sw187 {mk : Nat → Int32} : ∀ (k : Nat) {N r : Nat} {fr : Nat → Int32}, k < N → ps_B mk fr 720 k r →
    (∀ fr' r', ps_B mk fr' 720 0 r' → post (nI r', f_listRoom, f_depth, f_many, f_first, f_second, a_held, a_root, a_data, a_links, a_more, a_keys, a_values, mk, fr', a_left, a_right, a_height, a_size, a_element, a_total, a_listMark, a_listFree, a_path, a_turns, a_stack, a_other, a_gathered, a_worth, a_spareKey, a_spareValue, a_low, a_high, a_before, a_behind)) →
    wX_sweepMaps_187 post f_listRoom f_depth f_many f_first f_second N (nI k - 1) (nI r) a_held a_root a_data a_links a_more a_keys a_values mk fr a_left a_right a_height a_size a_element a_total a_listMark a_listFree a_path a_turns a_stack a_other a_gathered a_worth a_spareKey a_spareValue a_low a_high a_before a_behind := by
  intro k
  induction k with
  | zero =>
    intro N r fr hN hB hp
    cases N with
    | zero => omega
    | succ N => exact br_t (by decide) (hp fr r hB)
  | succ k ih =>
    intro N r fr hN hB hp
    have hb := hB.1
    cases N with
    | zero => omega
    | succ N =>
      rw [nI_pred]
      refine br_f (nI_pos (by omega)) ⟨vp_in_nI (by omega) (by omega), ?_⟩
      rw [nI_clamp (n := k) (by omega)]
      refine br_c (fun c => nm_r (nI_1 r) ⟨vp_in_nI (by omega) (by omega), nm_r (e' := upd fr r (nI k)) (by rw [nI_clamp (by omega), ps_ss (by omega)]) (nm_r (e' := nI k - 1) (Int32.sub_eq_add_neg ..).symm ?_)⟩) (fun c => nm_r (e' := nI k - 1) (Int32.sub_eq_add_neg ..).symm ?_)
      · exact ih (by omega) (ps_B_y (by omega) c hB) hp
      · exact ih (by omega) (ps_B_n c hB) hp
theorem xm_sw131 {J : Int32 → (Nat → Int32) → (Nat → Int32) → (Nat → Int32) → (Nat → Int32) → (Nat → Int32) → (Nat → Int32) → (Nat → Int32) → (Nat → Int32) → (Nat → Int32) → (Nat → Int32) → (Nat → Int32) → (Nat → Int32) → (Nat → Int32) → (Nat → Int32) → (Nat → Int64) → (Nat → Int32) → (Nat → Int32) → (Nat → Int32) → (Nat → Int32) → (Nat → Int32) → (Nat → Int32) → (Nat → Int32) → (Nat → Int32) → (Nat → Int32) → (Nat → Int32) → (Nat → Int32) → (Nat → Int32) → (Nat → Int32) → (Nat → Int32) → Prop} {n : Nat} {f g : Nat → Bool} {mo : Int32} {ks vs : Nat → Int32} {s : Nat → List (Int32 × Int32)} {Ns : Nat → Nat} {mk : Nat → Int32} (hn : n < 720) (hN : mp_N m n f g mo ks vs)
    (hV : ∀ w, w < 4 → (g w = true → f w = false ∧ mp_E F m (Ns w) (ks w) (s w)) ∧ (g w = false → Ns w = 0 ∧ (f w = true → s w = [(ks w, vs w)]) ∧ (f w = false → s w = []))) :
    ∀ (d : Nat) {N w t W : Nat} {st : Nat → Int32} {L : List (Int32 × Int32)}, d < N → w + d = 4 → mp_W F m st t L W → W + pl_S Ns w d ≤ 700 →
    (∀ t' st' L' W', mp_W F m st' t' L' W' → W' = W + pl_S Ns w d → (∀ j, ps_MS mk st t j → ps_MS mk st' t' j) → (∀ w' j, w ≤ w' → w' < 4 → g w' = true → ks w' = nI j → ps_MS mk st' t' j) →
      J (nI t') a_held a_root m.1 m.2.1 m.2.2.1 m.2.2.2.1 m.2.2.2.2 mk a_mapFree a_left a_right a_height a_size a_element a_total a_listMark a_listFree a_path a_turns st' a_other a_gathered a_worth a_spareKey a_spareValue a_low a_high a_before a_behind) →
    wX_sweepMaps_131 post J (nI n) f_mapRoom f_listRoom f_depth f_many f_first f_second N (nI t) (nI w) a_held a_root m.1 m.2.1 m.2.2.1 m.2.2.2.1 m.2.2.2.2 mk a_mapFree a_left a_right a_height a_size a_element a_total a_listMark a_listFree a_path a_turns st a_other a_gathered a_worth a_spareKey a_spareValue a_low a_high a_before a_behind := by
  intro d
  induction d with
  | zero =>
    intro N w t W st L hN' hw hW hb hJ
    have e : w = 4 := by omega
    subst e
    cases N with
    | zero => omega
    | succ N => exact br_t (by decide) (hJ t st L W hW rfl (fun _ z => z) (fun w' j h1 h2 => absurd h2 (by omega)))
  | succ d ih =>
    intro N w t W st L hN' hw hW hb hJ
    have hl := mp_W_l hW
    rw [pl_S] at hb
    obtain ⟨v1, v2⟩ := hV w (by omega)
    cases N with
    | zero => omega
    | succ N =>
      refine br_f (nI_ge (b := 4) (by omega) (by omega)) ⟨vp_in_nI hn (by omega), ?_⟩
      rw [nI_clamp (n := n) (by omega), hN.2.1]
      refine xm_bit (by omega) (fun c => br_t rfl (nm_r (nI_1 w) ?_)) (fun c => br_f (by decide) (nm_r (nI_1 t) ?_))
      · have u1 := (v2 c).1
        refine ih (by omega) (by omega) hW (by omega) (fun t' st' L' W' hW' eW hk hc => hJ t' st' L' W' hW' (by rw [pl_S]; omega) hk (fun w' j h1 h2 h3 h4 => ?_))
        by_cases z : w' = w
        · subst z; rw [c] at h3; exact absurd h3 (by simp)
        · exact hc w' j (by omega) h2 h3 h4
      · obtain ⟨_, u2⟩ := v1 c
        have us := mp_E_s u2
        have uo := (mp_E_o u2).2
        refine ⟨by rw [ps_4]; exact vp_in_nI (by omega) (by omega), vp_in_nI (by omega) (by omega), nm_r (e' := upd st t (ks w)) (by rw [ps_4, nI_clamp (by omega), nI_clamp (by omega), (hN.2.2.2 w (by omega)).1, us.2.1]) (nm_r (nI_1 w) ?_)⟩
        refine ih (by omega) (by omega) (mp_W_p u2 hW) (by omega) (fun t' st' L' W' hW' eW hk hc => hJ t' st' L' W' hW' (by rw [pl_S]; omega) (fun j z => hk j (ps_MS_p z)) (fun w' j h1 h2 h3 h4 => ?_))
        by_cases z : w' = w
        · subst z; exact hk j (Or.inr ⟨t, by omega, by rw [pk_us]; exact h4⟩)
        · exact hc w' j (by omega) h2 h3 h4
theorem xm_sw72 (hT : ∀ j, T j → j < 720) : ∀ (N : Nat) {t W : Nat} {mk st : Nat → Int32} {L : List (Int32 × Int32)}, W < N → mp_W F m st t L W → ps_cn mk 720 + W ≤ 392 → mp_Cl m mk st t → (∀ j, T j → ps_MS mk st t j) →
    (∀ mk' st' fr' r', ps_B mk' fr' 720 0 r' → ps_cn mk' 720 ≤ 392 → (∀ n, n < 720 → mk' n ≠ 0 → ∀ j, j < 720 → mp_Ch m n j → mk' j ≠ 0) → (∀ j, T j → mk' j ≠ 0) →
      post (nI r', f_listRoom, f_depth, f_many, f_first, f_second, a_held, a_root, m.1, m.2.1, m.2.2.1, m.2.2.2.1, m.2.2.2.2, mk', fr', a_left, a_right, a_height, a_size, a_element, a_total, a_listMark, a_listFree, a_path, a_turns, st', a_other, a_gathered, a_worth, a_spareKey, a_spareValue, a_low, a_high, a_before, a_behind)) →
    wX_sweepMaps_72 post f_mapRoom f_listRoom f_depth f_many f_first f_second N (nI t) a_held a_root m.1 m.2.1 m.2.2.1 m.2.2.2.1 m.2.2.2.2 mk a_mapFree a_left a_right a_height a_size a_element a_total a_listMark a_listFree a_path a_turns st a_other a_gathered a_worth a_spareKey a_spareValue a_low a_high a_before a_behind := by
  intro N
  induction N with
  | zero => intros; omega
  | succ N ih =>
    intro t W mk st L hN hW hc hCl hTS hp
    have hl := mp_W_l hW
    cases t with
    | zero =>
      refine br_t (by decide) ⟨721, ?_⟩
      have clr : ∀ j, ps_MS mk st 0 j → mk j ≠ 0 := by
        rintro j (z | ⟨i, z, _⟩)
        · exact z
        · omega
      have K := xm_sw187 (post := post) (f_listRoom := f_listRoom) (f_depth := f_depth) (f_many := f_many) (f_first := f_first) (f_second := f_second) (mk := mk) 720 (N := 721) (r := 0) (fr := a_mapFree) (by omega) ps_B_0 (fun fr' r' hB => hp mk st fr' r' hB (by omega) (fun n h1 h2 j h3 h4 => clr j (hCl n h1 h2 j h3 h4)) (fun j hj => clr j (hTS j hj)))
      rw [show nI 720 - 1 = 719 from by decide] at K
      exact K
    | succ t =>
      obtain ⟨N1, x, es, L', W', eo, hE, rfl, rfl, hW⟩ := hW
      obtain ⟨n, f, g, mo, ks, vs, tl, s, Nt, Ns, rfl, n1, n2, n3, n4, n5, n6, n7⟩ := mp_view hE
      have hl' := mp_W_l hW
      refine br_f (nI_nle (by omega) (by omega)) (nm_r (pk_m1 t) ⟨vp_in_nI (by omega) (by omega), nm_r (e' := nI n) (by rw [nI_clamp (by omega)]; exact eo) ⟨vp_in_nI n1 (by omega), ?_⟩⟩)
      rw [nI_clamp (n := n) (by omega), n3.2.2.1]
      refine br_c (fun c => ⟨vp_in_nI n1 (by omega), nm_r (e' := upd mk n 1) rfl ⟨vp_in_nI n1 (by omega), ?_⟩⟩) (fun c => ?_)
      · have hcn : ps_cn (upd mk n 1) 720 = ps_cn mk 720 + 1 := by rw [ps_cn_u c, if_pos n1]
        -- the ways, once the rest of a bucket is dealt with
        have rt : ∀ {t' wt : Nat} {st' : Nat → Int32} {L2 : List (Int32 × Int32)}, mp_W F m st' t' L2 wt → wt = W' + Nt → (∀ j, ps_MS (upd mk n 1) st t j → ps_MS (upd mk n 1) st' t' j) →
            (∀ j, j < 720 → mo = nI j → ps_MS (upd mk n 1) st' t' j) →
            ∃ n131, wX_sweepMaps_131 post (wX_sweepMaps_72 post f_mapRoom f_listRoom f_depth f_many f_first f_second N) (nI n) f_mapRoom f_listRoom f_depth f_many f_first f_second n131 (nI t') (nI 0) a_held a_root m.1 m.2.1 m.2.2.1 m.2.2.2.1 m.2.2.2.2 (upd mk n 1) a_mapFree a_left a_right a_height a_size a_element a_total a_listMark a_listFree a_path a_turns st' a_other a_gathered a_worth a_spareKey a_spareValue a_low a_high a_before a_behind := by
          intro t' wt st' L2 hW' hwt hk hmore
          refine ⟨5, xm_sw131 n1 n3 n5 4 (w := 0) (by omega) (by omega) hW' (by omega) (fun t2 st2 L3 W3 hW3 eW3 k2 hch => ?_)⟩
          have base : ∀ j, j < 2 ^ 31 → ps_MS mk st (t + 1) j → ps_MS (upd mk n 1) st2 t2 j := by
            intro j hj z
            rcases ps_MS_pop (by omega) hj eo z with z | z
            · exact k2 j (hk j (ps_MS_m z))
            · subst z; exact Or.inl (by rw [pk_us]; decide)
          refine ih (by omega) hW3 (by omega) (fun i i1 i2 j j1 j2 => ?_) (fun j hj => base j (by have := hT j hj; omega) (hTS j hj)) hp
          by_cases ci : i = n
          · subst ci
            rcases j2 with j2 | ⟨w, g', w1, w2, w3, w4⟩
            · exact k2 j (hmore j j1 (n3.2.2.1.symm.trans j2))
            · have eg : g w = true := (mb_inj (n3.2.1.symm.trans w2) w1).trans w3
              exact hch w j (by omega) w1 eg ((n3.2.2.2 w w1).1.symm.trans w4)
          · rw [pk_un ci] at i2
            exact base j (by omega) (hCl i i1 i2 j j1 j2)
        rcases n4 with ⟨rfl, rfl, rfl⟩ | n4
        · refine br_t ps_m1lt ?_
          exact rt hW (by omega) (fun j z => z) (fun j j1 j2 => absurd j2 (ps_m1ne (by omega)))
        · have us := mp_E_s n4
          have uo := (mp_E_o n4).2
          refine br_f us.2.2 (nm_r (nI_1 t) ⟨vp_in_nI n1 (by omega), vp_in_nI (by omega) (by omega), nm_r (e' := upd st t mo) (by rw [nI_clamp (by omega), us.1]) ?_⟩)
          exact rt (mp_W_p n4 hW) (by omega) (fun j z => ps_MS_p z) (fun j j1 j2 => Or.inr ⟨t, by omega, by rw [pk_us]; exact j2⟩)
      · have base : ∀ j, j < 2 ^ 31 → ps_MS mk st (t + 1) j → ps_MS mk st t j := by
          intro j hj z
          rcases ps_MS_pop (by omega) hj eo z with z | z
          · exact z
          · subst z; exact Or.inl c
        exact ih (by omega) hW (by omega) (fun i i1 i2 j j1 j2 => base j (by omega) (hCl i i1 i2 j j1 j2)) (fun j hj => base j (by have := hT j hj; omega) (hTS j hj)) hp
theorem xm_sw26 (hT : ∀ j, T j ↔ j < 720 ∧ ∃ p, p < 8 ∧ a_held p = 1 ∧ a_root p = nI j) (hA : ∀ p, p < 8 → a_held p = 1 → ∃ es, mp_M F m (a_root p) es ∧ es.length ≤ 24) {mk : Nat → Int32} (hmk : ∀ j, j < 720 → mk j = 0)
    (hp : ∀ mk' st' fr' r', ps_B mk' fr' 720 0 r' → ps_cn mk' 720 ≤ 392 → (∀ n, n < 720 → mk' n ≠ 0 → ∀ j, j < 720 → mp_Ch m n j → mk' j ≠ 0) → (∀ j, T j → mk' j ≠ 0) →
      post (nI r', f_listRoom, f_depth, f_many, f_first, f_second, a_held, a_root, m.1, m.2.1, m.2.2.1, m.2.2.2.1, m.2.2.2.2, mk', fr', a_left, a_right, a_height, a_size, a_element, a_total, a_listMark, a_listFree, a_path, a_turns, st', a_other, a_gathered, a_worth, a_spareKey, a_spareValue, a_low, a_high, a_before, a_behind)) :
    ∀ (d : Nat) {N p t W : Nat} {st : Nat → Int32} {L : List (Int32 × Int32)}, d < N → p + d = 8 → mp_W F m st t L W → W ≤ 49 * p → t ≤ p → (∀ j, j < 720 → ∀ p', p' < p → a_held p' = 1 → a_root p' = nI j → ∃ i, i < t ∧ st i = nI j) →
    wX_sweepMaps_26 post f_mapRoom f_listRoom f_depth f_many f_first f_second N (nI t) (nI p) a_held a_root m.1 m.2.1 m.2.2.1 m.2.2.2.1 m.2.2.2.2 mk a_mapFree a_left a_right a_height a_size a_element a_total a_listMark a_listFree a_path a_turns st a_other a_gathered a_worth a_spareKey a_spareValue a_low a_high a_before a_behind := by
  intro d
  induction d with
  | zero =>
    intro N p t W st L hN hpd hW hw ht hS
    have e : p = 8 := by omega
    subst e
    cases N with
    | zero => omega
    | succ N =>
      refine br_t (by decide) ⟨W + 1, xm_sw72 (T := T) (fun j hj => ((hT j).mp hj).1) (W + 1) (by omega) hW (by rw [ps_cn_0 720 hmk]; omega) (fun n n1 n2 => absurd (hmk n n1) n2) (fun j hj => ?_) hp⟩
      obtain ⟨j1, p, p1, p2, p3⟩ := (hT j).mp hj
      exact Or.inr (hS j j1 p p1 p2 p3)
  | succ d ih =>
    intro N p t W st L hN hpd hW hw ht hS
    cases N with
    | zero => omega
    | succ N =>
      refine br_f (nI_ge (b := 8) (by omega) (by omega)) ⟨vp_in_nI (by omega) (by omega), ?_⟩
      rw [nI_clamp (n := p) (by omega)]
      refine br_c (fun c => ⟨vp_in_nI (by omega) (by omega), ?_⟩) (fun c => ?_)
      · obtain ⟨es, hM, hx⟩ := hA p (by omega) c
        rcases hM with ⟨z, zx⟩ | ⟨_, hR⟩
        · refine br_t (by rw [z]; exact ps_m1lt) (nm_r (nI_1 p) (ih (by omega) (by omega) hW (by omega) (by omega) ?_))
          intro j j1 p' h1 h2 h3
          by_cases cp : p' = p
          · subst cp; exact absurd (z.symm.trans h3) (ps_m1ne (by omega))
          · exact hS j j1 p' (by omega) h2 h3
        · have hE : mp_E F m (mp_cn 4 es) (a_root p) es := ⟨4, by omega, hR, rfl⟩
          have us := mp_E_s hE
          have hcn := mp_cn_4 es
          refine br_f us.2.2 (nm_r (nI_1 t) ⟨vp_in_nI (by omega) (by omega), vp_in_nI (by omega) (by omega), nm_r (e' := upd st t (a_root p)) (by rw [nI_clamp (by omega), us.1]) (nm_r (nI_1 p) ?_)⟩)
          refine ih (by omega) (by omega) (mp_W_p hE hW) (by omega) (by omega) ?_
          intro j j1 p' h1 h2 h3
          by_cases cp : p' = p
          · subst cp; exact ⟨t, by omega, by rw [pk_us]; exact h3⟩
          · obtain ⟨i, i1, i2⟩ := hS j j1 p' (by omega) h2 h3
            exact ⟨i, by omega, by rw [pk_un (by omega)]; exact i2⟩
      · refine nm_r (nI_1 p) (ih (by omega) (by omega) hW (by omega) (by omega) ?_)
        intro j j1 p' h1 h2 h3
        by_cases cp : p' = p
        · subst cp; exact absurd h2 c
        · exact hS j j1 p' (by omega) h2 h3
theorem xm_sw2 (hp : ∀ mk, (∀ j, j < 720 → mk j = 0) → ∃ n, wX_sweepMaps_26 post f_mapRoom f_listRoom f_depth f_many f_first f_second n (nI 0) (nI 0) a_held a_root a_data a_links a_more a_keys a_values mk a_mapFree a_left a_right a_height a_size a_element a_total a_listMark a_listFree a_path a_turns a_stack a_other a_gathered a_worth a_spareKey a_spareValue a_low a_high a_before a_behind) :
    ∀ (d : Nat) {N k : Nat} {mk : Nat → Int32}, d < N → k + d = 720 → (∀ j, j < k → mk j = 0) → wX_sweepMaps_2 post f_mapRoom f_listRoom f_depth f_many f_first f_second N (nI k) a_held a_root a_data a_links a_more a_keys a_values mk a_mapFree a_left a_right a_height a_size a_element a_total a_listMark a_listFree a_path a_turns a_stack a_other a_gathered a_worth a_spareKey a_spareValue a_low a_high a_before a_behind := by
  intro d
  induction d with
  | zero =>
    intro N k mk hN hk hm
    have e : k = 720 := by omega
    subst e
    cases N with
    | zero => omega
    | succ N => exact br_t (by decide) (hp mk hm)
  | succ d ih =>
    intro N k mk hN hk hm
    cases N with
    | zero => omega
    | succ N =>
      refine br_f (nI_ge (b := 720) (by omega) (by omega)) ⟨vp_in_nI (by omega) (by omega), nm_r (e' := upd mk k 0) (by rw [nI_clamp (by omega)]; rfl) (nm_r (nI_1 k) (ih (by omega) (by omega) ?_))⟩
      intro j hj
      by_cases c : j = k
      · subst c; exact pk_us
      · rw [pk_un c]; exact hm j (by omega)
theorem xm_sweepMaps (hA : ∀ p, p < 8 → a_held p = 1 → ∃ es, mp_M F m (a_root p) es ∧ es.length ≤ 24)
    (hp : ∀ mk' st' fr' r', ps_I fr' 720 r' → 300 ≤ r' → (∀ p, p < 8 → a_held p = 1 → ∀ es, mp_M F m (a_root p) es → mp_M (ps_F fr' r') m (a_root p) es) →
      post (nI r', f_listRoom, f_depth, f_many, f_first, f_second, a_held, a_root, m.1, m.2.1, m.2.2.1, m.2.2.2.1, m.2.2.2.2, mk', fr', a_left, a_right, a_height, a_size, a_element, a_total, a_listMark, a_listFree, a_path, a_turns, st', a_other, a_gathered, a_worth, a_spareKey, a_spareValue, a_low, a_high, a_before, a_behind)) :
    wpX_sweepMaps post (f_mapRoom, f_listRoom, f_depth, f_many, f_first, f_second, a_held, a_root, m.1, m.2.1, m.2.2.1, m.2.2.2.1, m.2.2.2.2, a_mapMark, a_mapFree, a_left, a_right, a_height, a_size, a_element, a_total, a_listMark, a_listFree, a_path, a_turns, a_stack, a_other, a_gathered, a_worth, a_spareKey, a_spareValue, a_low, a_high, a_before, a_behind) := by
  refine ⟨721, xm_sw2 ?_ 720 (k := 0) (by omega) (by omega) (fun j hj => absurd hj (by omega))⟩
  intro mk hmk
  refine ⟨9, xm_sw26 (F := F) (T := fun j => j < 720 ∧ ∃ p, p < 8 ∧ a_held p = 1 ∧ a_root p = nI j) (fun j => Iff.rfl) hA hmk ?_ 8 (p := 0) (t := 0) (W := 0) (L := []) (by omega) (by omega) ⟨rfl, rfl⟩ (by omega) (by omega) (fun j _ p' hp' => absurd hp' (by omega))⟩
  intro mk' st' fr' r' hB hc hcl hT
  obtain ⟨i1, i2, i3⟩ := ps_B_I (by omega) hB
  refine hp mk' st' fr' r' i1 (by omega) ?_
  rintro p p1 p2 es (z | ⟨z, hR⟩)
  · exact Or.inl z
  · refine Or.inr ⟨z, ?_⟩
    have K := mp_Rsub (M := fun n => n < 720 ∧ mk' n ≠ 0) (fun n n1 n2 j j1 j2 => ⟨j1, hcl n n1 n2.2 j j1 j2⟩) hR (fun j j1 j2 => ⟨j1, hT j ⟨j1, p, p1, p2, j2⟩⟩)
    exact mp_R_m ⟨fun n hn => i2 n hn.1 hn.2, fun _ _ _ => ⟨rfl, rfl, rfl, fun _ _ => ⟨rfl, rfl⟩⟩⟩ K
end
/-- what the places hold -/
def xs_P (he ro : Nat → Int32) (Fm : Nat → Prop) (m : MH) (Fl : Nat → Prop) (h : LH) (ct : Nat → List (Int32 × Int32)) (p : Nat) : Prop :=
  (he p = 0 ∧ ct p = []) ∨ (he p = 1 ∧ mp_M Fm m (ro p) (ct p) ∧ ms_S (ct p) ∧ (ct p).length ≤ 24) ∨
    (he p = 2 ∧ ∃ xs k, ct p = xs.map (fun x => (x, 0)) ∧ pl_L Fl h (ro p) k xs ∧ xs.length ≤ 48)
section
variable {f_mapRoom f_listRoom f_depth f_many f_first f_second : Int32} {a_held a_root a_data a_links a_more a_keys a_values a_mapMark a_mapFree a_left a_right a_height a_size a_element a_listMark a_listFree a_path a_turns a_stack a_other a_gathered a_worth a_spareKey a_spareValue a_low a_high a_before a_behind : Nat → Int32} {a_total : Nat → Int64}
variable {post : SX → Prop} {m : MH} {h : LH} {fm fl : Nat → Int32} {rm rl : Nat} {ct : Nat → List (Int32 × Int32)}
theorem xt_tidy (hIm : ps_I fm 720 rm) (hIl : ps_I fl 640 rl) (hP : ∀ p, p < 8 → xs_P a_held a_root (ps_F fm rm) m (ps_F fl rl) h ct p)
    (hp : ∀ mm lm st fm' rm' fl' rl', ps_I fm' 720 rm' → 300 ≤ rm' → ps_I fl' 640 rl' → 200 ≤ rl' → (∀ p, p < 8 → xs_P a_held a_root (ps_F fm' rm') m (ps_F fl' rl') h ct p) →
      post (nI rm', nI rl', f_depth, f_many, f_first, f_second, a_held, a_root, m.1, m.2.1, m.2.2.1, m.2.2.2.1, m.2.2.2.2, mm, fm', h.1, h.2.1, h.2.2.1, h.2.2.2.1, h.2.2.2.2.1, h.2.2.2.2.2, lm, fl', a_path, a_turns, st, a_other, a_gathered, a_worth, a_spareKey, a_spareValue, a_low, a_high, a_before, a_behind)) :
    wpX_tidy post (nI rm, nI rl, f_depth, f_many, f_first, f_second, a_held, a_root, m.1, m.2.1, m.2.2.1, m.2.2.2.1, m.2.2.2.2, a_mapMark, fm, h.1, h.2.1, h.2.2.1, h.2.2.2.1, h.2.2.2.2.1, h.2.2.2.2.2, a_listMark, fl, a_path, a_turns, a_stack, a_other, a_gathered, a_worth, a_spareKey, a_spareValue, a_low, a_high, a_before, a_behind) := by
  have hr1 := hIm.1
  have hr2 := hIl.1
  have lists : ∀ {mm st fm' : Nat → Int32} {rm' : Nat}, ps_I fm' 720 rm' → 300 ≤ rm' → (∀ p, p < 8 → xs_P a_held a_root (ps_F fm' rm') m (ps_F fl rl) h ct p) →
      wX_tidy_14 post (nI rm') (nI rl) f_depth f_many f_first f_second a_held a_root m.1 m.2.1 m.2.2.1 m.2.2.2.1 m.2.2.2.2 mm fm' h.1 h.2.1 h.2.2.1 h.2.2.2.1 h.2.2.2.2.1 h.2.2.2.2.2 a_listMark fl a_path a_turns st a_other a_gathered a_worth a_spareKey a_spareValue a_low a_high a_before a_behind := by
    intro mm st fm' rm' hI' h3 hP'
    refine pk_le 200 rl (fun c => hp _ _ _ _ _ _ _ hI' h3 hIl c hP') (fun c => ?_)
    refine xl_sweepLists (F := ps_F fl rl) (fun p p1 p2 => ?_) (fun mk' st' fr' r' j1 j2 j3 => hp _ _ _ _ _ _ _ hI' h3 j1 j2 (fun p p1 => ?_))
    · rcases hP' p p1 with ⟨z, _⟩ | ⟨z, _⟩ | ⟨_, xs, k, _, z1, z2⟩
      · rw [p2] at z; exact absurd z (by decide)
      · rw [p2] at z; exact absurd z (by decide)
      · exact ⟨k, xs, z1, z2⟩
    · rcases hP' p p1 with z | z | ⟨z, xs, k, z0, z1, z2⟩
      · exact Or.inl z
      · exact Or.inr (Or.inl z)
      · exact Or.inr (Or.inr ⟨z, xs, k, z0, j3 p p1 z k xs z1, z2⟩)
  refine pk_le 300 rm (fun c => lists hIm c hP) (fun c => ?_)
  refine xm_sweepMaps (F := ps_F fm rm) (fun p p1 p2 => ?_) (fun mk' st' fr' r' j1 j2 j3 => lists j1 j2 (fun p p1 => ?_))
  · rcases hP p p1 with ⟨z, _⟩ | ⟨_, z1, _, z2⟩ | ⟨z, _⟩
    · rw [p2] at z; exact absurd z (by decide)
    · exact ⟨_, z1, z2⟩
    · rw [p2] at z; exact absurd z (by decide)
  · rcases hP p p1 with z | ⟨z, z1, z2⟩ | z
    · exact Or.inl z
    · exact Or.inr (Or.inl ⟨z, j3 p p1 z _ z1, z2⟩)
    · exact Or.inr (Or.inr z)
end
end
section
/-! the reference's own methods -/
theorem yk_and (v : Int32) (h : v &&& (-8) = 0) : ∃ j, j < 8 ∧ v = nI j := by
  have e : v = v &&& 7 := by
    apply Int32.toBitVec_inj.mp
    have h2 : v.toBitVec &&& (-8 : Int32).toBitVec = 0#32 := by
      have := congrArg Int32.toBitVec h
      rw [Int32.toBitVec_and] at this
      exact this
    rw [Int32.toBitVec_and]
    apply BitVec.eq_of_getLsbD_eq
    intro i hi
    have h3 := congrArg (fun b => BitVec.getLsbD b i) h2
    simp only [BitVec.getLsbD_and, BitVec.getLsbD_zero] at h3
    rw [BitVec.getLsbD_and]
    have key : ∀ i, i < 32 → ((-8 : Int32).toBitVec.getLsbD i = true ∨ (7 : Int32).toBitVec.getLsbD i = true) := by decide +kernel
    rcases key i hi with z | z
    · rw [z, Bool.and_true] at h3; rw [h3, Bool.false_and]
    · rw [z, Bool.and_true]
  obtain ⟨j, hj, e2⟩ := pk_andE v (m := 7) 3 (by decide)
  exact ⟨j, hj, e.trans e2⟩
theorem yk_8 (v : Int32) : (∃ j, j < 8 ∧ v = nI j) ∨ (¬ v &&& (-8) = 0 ∧ (v < 0 ∨ (8 : Int32) ≤ v)) := by
  rcases pk_ix v (n := 8) (by omega) with z | z | z
  · refine Or.inr ⟨fun q => ?_, Or.inl z⟩
    obtain ⟨j, hj, rfl⟩ := yk_and v q
    exact nI_pos (by omega) z
  · refine Or.inr ⟨fun q => ?_, Or.inr z⟩
    obtain ⟨j, hj, rfl⟩ := yk_and v q
    exact nI_ge hj (by omega) z
  · exact Or.inl z
theorem yk_no8 : ∀ j, j < 8 → nI j &&& (-8) = 0 := by decide +kernel
theorem xn_ok {post : Int32 → Prop} {j : Nat} (hj : j < 8) (h : post 0) : wpX_no post (nI j) := br_t (yk_no8 j hj) h
theorem xn_bad {post : Int32 → Prop} {v : Int32} (hv : ¬ v &&& (-8) = 0 ∧ (v < 0 ∨ (8 : Int32) ≤ v)) (h : post 1) : wpX_no post v := br_f hv.1 h
theorem yp_ok {post : Int32 → Prop} {j : Nat} (hj : j < 8) (h : post 1) : wpY_place post (nI j) := br_f (nI_pos (by omega)) (br_f (nI_ge (b := 8) hj (by omega)) h)
theorem yp_bad {post : Int32 → Prop} {v : Int32} (hv : ¬ v &&& (-8) = 0 ∧ (v < 0 ∨ (8 : Int32) ≤ v)) (h : post 0) : wpY_place post v := by
  rcases hv.2 with z | z
  · exact br_t z h
  · exact br_f (fun q => absurd (Int32.le_trans (show (0 : Int32) ≤ 8 by decide) z) (Int32.not_le.mpr q)) (br_t z h)
/-- what a place of the reference holds -/
def ys_P (bs ba bb : Nat → Int32) (ct : Nat → List (Int32 × Int32)) (p : Nat) : Prop :=
  bs p = nI (ct p).length ∧ (ct p).length ≤ 48 ∧ ∀ i, i < (ct p).length → ba (50 * p + i) = ((ct p).getD i (0, 0)).1 ∧ bb (50 * p + i) = ((ct p).getD i (0, 0)).2
theorem ps_50 (p j : Nat) : (50 : Int32) * nI p + nI j = nI (50 * p + j) := by
  show nI 50 * nI p + nI j = _
  rw [pk_mul, nI_add]
theorem ms_Amk {g wo : Nat → Int32} {es : List (Int32 × Int32)} (h : ∀ i, i < es.length → g i = (es.getD i (0, 0)).1 ∧ wo i = (es.getD i (0, 0)).2) : ms_A g wo es := by
  constructor
  · intro i hi
    rw [List.length_map] at hi
    rw [(ms_gd hi).1]; exact (h i hi).1
  · intro i hi
    rw [List.length_map] at hi
    rw [(ms_gd hi).2]; exact (h i hi).2
section
variable {g_n : Int32} {b_kind b_size b_a b_b b_x b_y : Nat → Int32}
variable {es : List (Int32 × Int32)} {ct : Nat → List (Int32 × Int32)}
theorem yk_keep41 {post : Int32 → SY → Prop} {to : Nat} {a0 b0 : Nat → Int32} (ht : to < 8) (hA : ms_A b_x b_y es) (hl : es.length ≤ 48)
    (hp : ∀ a' b', (∀ c, (∀ i, i < es.length → c ≠ 50 * to + i) → a' c = a0 c ∧ b' c = b0 c) → (∀ i, i < es.length → a' (50 * to + i) = (es.getD i (0, 0)).1 ∧ b' (50 * to + i) = (es.getD i (0, 0)).2) → post (nI es.length) (nI es.length, b_kind, b_size, a', b', b_x, b_y)) :
    ∀ (d : Nat) {N i : Nat} {a b : Nat → Int32}, d < N → i + d = es.length → (∀ c, (∀ i, i < es.length → c ≠ 50 * to + i) → a c = a0 c ∧ b c = b0 c) → (∀ j, j < i → a (50 * to + j) = (es.getD j (0, 0)).1 ∧ b (50 * to + j) = (es.getD j (0, 0)).2) →
    wY_keep_41 post (nI to) (nI es.length) N (nI i) b_kind b_size a b b_x b_y := by
  intro d
  induction d with
  | zero =>
    intro N i a b hN hi h1 h2
    have e : i = es.length := by omega
    subst e
    cases N with
    | zero => omega
    | succ N => exact br_t (nI_le (by omega) (by omega)) (hp a b h1 h2)
  | succ d ih =>
    intro N i a b hN hi h1 h2
    cases N with
    | zero => omega
    | succ N =>
      have q := ms_Ag hA (i := i) (by omega)
      refine br_f (nI_ge (by omega) (by omega)) ⟨vp_in_nI (by omega) (by omega), by rw [ps_50]; exact vp_in_nI (by omega) (by omega), nm_r (e' := upd a (50 * to + i) (es.getD i (0, 0)).1) (by rw [ps_50, nI_clamp (by omega), nI_clamp (by omega), q.1]) ⟨vp_in_nI (by omega) (by omega), by rw [ps_50]; exact vp_in_nI (by omega) (by omega), nm_r (e' := upd b (50 * to + i) (es.getD i (0, 0)).2) (by rw [ps_50, nI_clamp (by omega), nI_clamp (by omega), q.2]) (nm_r (nI_1 i) ?_)⟩⟩
      refine ih (by omega) (by omega) (fun c hc => ?_) (fun j hj => ?_)
      · rw [pk_un (hc i (by omega)), pk_un (hc i (by omega))]; exact h1 c hc
      · by_cases z : j = i
        · subst z; rw [pk_us, pk_us]; exact ⟨rfl, rfl⟩
        · rw [pk_un (by omega), pk_un (by omega)]; exact h2 j (by omega)
/-- the place's new contents -/
def uc (ct : Nat → List (Int32 × Int32)) (to : Nat) (es : List (Int32 × Int32)) : Nat → List (Int32 × Int32) := fun p => if p = to then es else ct p
theorem uc_s {to : Nat} : uc ct to es to = es := if_pos rfl
theorem uc_n {to p : Nat} (h : p ≠ to) : uc ct to es p = ct p := if_neg h
theorem yk_keep {post : Int32 → SY → Prop} {to lim : Nat} {kd : Int32} (ht : to < 8) (hk : (kd = 1 ∧ lim = 24) ∨ (kd ≠ 1 ∧ lim = 48)) (hA : ms_A b_x b_y es) (hl : es.length < 100) (hC : ∀ p, p < 8 → ys_P b_size b_a b_b ct p)
    (hf : lim < es.length → post (-4) (nI es.length, b_kind, b_size, b_a, b_b, b_x, b_y))
    (hp : es.length ≤ lim → ∀ a' b' s', (∀ p, p < 8 → ys_P s' a' b' (uc ct to es) p) → post (nI es.length) (nI es.length, upd b_kind to kd, s', a', b', b_x, b_y)) :
    wpY_keep post (nI es.length, b_kind, b_size, b_a, b_b, b_x, b_y) kd (nI to) := by
  have go : wY_keep_16 post kd (nI to) (nI lim) (nI es.length) (nI es.length) b_kind b_size b_a b_b b_x b_y := by
    refine pk_le es.length lim (fun c => ⟨vp_in_nI ht (by omega), nm_r (e' := upd b_kind to kd) (by rw [nI_clamp (by omega)]) ⟨vp_in_nI ht (by omega), nm_r (e' := upd b_size to (nI es.length)) (by rw [nI_clamp (by omega)]) ⟨es.length + 1, ?_⟩⟩⟩) (fun c => hf c) rfl rfl (by omega) (by rcases hk with ⟨_, z⟩ | ⟨_, z⟩ <;> omega)
    have hl48 : es.length ≤ 48 := by rcases hk with ⟨_, z⟩ | ⟨_, z⟩ <;> omega
    refine yk_keep41 (a0 := b_a) (b0 := b_b) ht hA hl48 (fun a' b' h1 h2 => hp c a' b' _ (fun p hp8 => ?_)) es.length (i := 0) (by omega) (by omega) (fun _ _ => ⟨rfl, rfl⟩) (fun j hj => absurd hj (by omega))
    by_cases z : p = to
    · subst z
      refine ⟨by rw [pk_us, uc_s], by rw [uc_s]; exact hl48, ?_⟩
      rw [uc_s]; exact h2
    · obtain ⟨o1, o2, o3⟩ := hC p hp8
      refine ⟨by rw [pk_un z, uc_n z]; exact o1, by rw [uc_n z]; exact o2, ?_⟩
      rw [uc_n z]
      intro i hi
      have := h1 (50 * p + i) (fun j hj q => z (by omega))
      rw [this.1, this.2]; exact o3 i hi
  rcases hk with ⟨z, rfl⟩ | ⟨z, rfl⟩
  · exact br_t z go
  · exact br_f z go
theorem yk_add {post : SY → Prop} {v : Int32} (hA : ms_A b_x b_y es) (hl : es.length < 100) (hp : ∀ x' y', ms_A x' y' (es ++ [(v, 0)]) → post (nI (es ++ [(v, (0 : Int32))]).length, b_kind, b_size, b_a, b_b, x', y')) :
    wpY_add post (nI es.length, b_kind, b_size, b_a, b_b, b_x, b_y) v := by
  refine And.intro (vp_in_nI hl (by omega)) (nm_r (e' := upd b_x es.length v) (by rw [nI_clamp (by omega)]) ⟨vp_in_nI hl (by omega), nm_r (e' := upd b_y es.length 0) (by rw [nI_clamp (by omega)]) (nm_r (e' := nI (es ++ [(v, (0 : Int32))]).length) (by rw [nI_1, List.length_append]; rfl) (hp _ _ (ms_Ap hA)))⟩)
theorem yk_take7 {post : SY → Prop} {p : Nat} (hp8 : p < 8) (hC : ys_P b_size b_a b_b ct p) (hp : ∀ x' y', ms_A x' y' (ct p) → post (nI (ct p).length, b_kind, b_size, b_a, b_b, x', y')) :
    ∀ (d : Nat) {N i : Nat} {x y : Nat → Int32}, d < N → i + d = (ct p).length → (∀ j, j < i → x j = ((ct p).getD j (0, 0)).1 ∧ y j = ((ct p).getD j (0, 0)).2) →
    wY_take_7 post (nI p) g_n N (nI i) b_kind b_size b_a b_b x y := by
  obtain ⟨o1, o2, o3⟩ := hC
  intro d
  induction d with
  | zero =>
    intro N i x y hN hi h
    have e : i = (ct p).length := by omega
    subst e
    cases N with
    | zero => omega
    | succ N =>
      refine And.intro (vp_in_nI hp8 (by omega)) ?_
      rw [nI_clamp (n := p) (by omega), o1]
      exact br_t (nI_le (by omega) (by omega)) ⟨vp_in_nI hp8 (by omega), nm_e (hp x y (ms_Amk h))⟩
  | succ d ih =>
    intro N i x y hN hi h
    cases N with
    | zero => omega
    | succ N =>
      have q := o3 i (by omega)
      refine And.intro (vp_in_nI hp8 (by omega)) ?_
      rw [nI_clamp (n := p) (by omega), o1]
      refine br_f (nI_ge (by omega) (by omega)) ⟨by rw [ps_50]; exact vp_in_nI (by omega) (by omega), vp_in_nI (by omega) (by omega), nm_r (e' := upd x i ((ct p).getD i (0, 0)).1) (by rw [ps_50, nI_clamp (by omega), nI_clamp (by omega), q.1]) ⟨by rw [ps_50]; exact vp_in_nI (by omega) (by omega), vp_in_nI (by omega) (by omega), nm_r (e' := upd y i ((ct p).getD i (0, 0)).2) (by rw [ps_50, nI_clamp (by omega), nI_clamp (by omega), q.2]) (nm_r (nI_1 i) ?_)⟩⟩
      refine ih (by omega) (by omega) (fun j hj => ?_)
      by_cases z : j = i
      · subst z; rw [pk_us, pk_us]; exact ⟨rfl, rfl⟩
      · rw [pk_un z, pk_un z]; exact h j (by omega)
theorem yk_take {post : SY → Prop} {p : Nat} (hp8 : p < 8) (hC : ys_P b_size b_a b_b ct p) (hp : ∀ x' y', ms_A x' y' (ct p) → post (nI (ct p).length, b_kind, b_size, b_a, b_b, x', y')) : wpY_take post (g_n, b_kind, b_size, b_a, b_b, b_x, b_y) (nI p) :=
  ⟨(ct p).length + 1, yk_take7 hp8 hC hp (ct p).length (i := 0) (by omega) (by omega) (fun j hj => absurd hj (by omega))⟩
theorem yk_find2 {post : Int32 → Prop} {p : Nat} {k : Int32} (hp8 : p < 8) (hC : ys_P b_size b_a b_b ct p) (hf : ∀ i v, i < (ct p).length → ms_get k (ct p) = some v → (ct p).getD i (0, 0) = (k, v) → post (nI i)) (hn : ms_get k (ct p) = none → post (-1)) :
    ∀ (d : Nat) {N i : Nat}, d < N → i + d = (ct p).length → ms_get k (ct p) = ms_get k ((ct p).drop i) → wY_find_2 post (nI p) k g_n b_kind b_size b_a b_b b_x b_y N (nI i) := by
  obtain ⟨o1, o2, o3⟩ := hC
  intro d
  induction d with
  | zero =>
    intro N i hN hi hg
    have e : i = (ct p).length := by omega
    subst e
    cases N with
    | zero => omega
    | succ N =>
      refine And.intro (vp_in_nI hp8 (by omega)) ?_
      rw [nI_clamp (n := p) (by omega), o1]
      refine br_t (nI_le (by omega) (by omega)) (hn ?_)
      rw [hg, List.drop_length]; rfl
  | succ d ih =>
    intro N i hN hi hg
    cases N with
    | zero => omega
    | succ N =>
      have q := o3 i (by omega)
      refine And.intro (vp_in_nI hp8 (by omega)) ?_
      rw [nI_clamp (n := p) (by omega), o1]
      refine br_f (nI_ge (by omega) (by omega)) ⟨by rw [ps_50]; exact vp_in_nI (by omega) (by omega), ?_⟩
      rw [ps_50, nI_clamp (n := 50 * p + i) (by omega), q.1]
      rw [ms_drop (by omega), ms_get_c] at hg
      refine br_c (fun c => hf i ((ct p).getD i (0, 0)).2 (by omega) (by rw [hg, if_pos c.symm]) (by rw [← c])) (fun c => nm_r (nI_1 i) (ih (by omega) (by omega) ?_))
      rw [hg, if_neg (fun z => c z.symm)]
theorem yk_find {post : Int32 → Prop} {p : Nat} {k : Int32} (hp8 : p < 8) (hC : ys_P b_size b_a b_b ct p) (hf : ∀ i v, i < (ct p).length → ms_get k (ct p) = some v → (ct p).getD i (0, 0) = (k, v) → post (nI i)) (hn : ms_get k (ct p) = none → post (-1)) : wpY_find post (g_n, b_kind, b_size, b_a, b_b, b_x, b_y) (nI p) k :=
  ⟨(ct p).length + 1, yk_find2 hp8 hC hf hn (ct p).length (i := 0) (by omega) (by omega) rfl⟩
end
end
section
/-! the reference's set -/
section
variable {g_n : Int32} {b_kind b_size b_a b_b b_x b_y : Nat → Int32}
variable {post : SY → Prop} {k v : Int32}
theorem yk_s50 {i L : Nat} {x0 y0 : Nat → Int32} (hL : L < 100)
    (hp : ∀ x' y', (∀ c, c < i → x' c = x0 c ∧ y' c = y0 c) → x' i = k → y' i = v → (∀ c, i < c → c ≤ L → x' c = x0 (c - 1) ∧ y' c = y0 (c - 1)) → post (nI (L + 1), b_kind, b_size, b_a, b_b, x', y')) :
    ∀ (d : Nat) {N j : Nat} {x y : Nat → Int32}, d < N → j = i + d → j ≤ L → (∀ c, c ≤ j → x c = x0 c ∧ y c = y0 c) → (∀ c, j < c → c ≤ L → x c = x0 (c - 1) ∧ y c = y0 (c - 1)) →
    wY_set_50 post k v (nI i) (nI L) N (nI j) b_kind b_size b_a b_b x y := by
  intro d
  induction d with
  | zero =>
    rintro N j x y hN rfl hj h1 h2
    cases N with
    | zero => omega
    | succ N =>
      refine br_t (nI_le (by omega) (by omega)) (nm_r (nI_1 L) (And.intro (vp_in_nI (by omega) (by omega)) (nm_r (e' := upd x j k) (by rw [nI_clamp (by omega)]) ⟨vp_in_nI (by omega) (by omega), nm_r (e' := upd y j v) (by rw [nI_clamp (by omega)]) ?_⟩)))
      refine hp _ _ (fun c hc => ?_) pk_us pk_us (fun c c1 c2 => ?_)
      · rw [pk_un (by omega), pk_un (by omega)]; exact h1 c (by omega)
      · rw [pk_un (by omega), pk_un (by omega)]; exact h2 c (by omega) c2
  | succ d ih =>
    rintro N j x y hN rfl hj h1 h2
    cases N with
    | zero => omega
    | succ N =>
      have e1 : nI (i + (d + 1)) - 1 = nI (i + d) := nI_pred (i + d)
      have q := h1 (i + d) (by omega)
      refine br_f (nI_ge (by omega) (by omega)) ⟨by rw [e1]; exact vp_in_nI (by omega) (by omega), vp_in_nI (by omega) (by omega), nm_r (e' := upd x (i + (d + 1)) (x0 (i + d))) (by rw [e1, nI_clamp (by omega), nI_clamp (by omega), q.1]) ⟨by rw [e1]; exact vp_in_nI (by omega) (by omega), vp_in_nI (by omega) (by omega), nm_r (e' := upd y (i + (d + 1)) (y0 (i + d))) (by rw [e1, nI_clamp (by omega), nI_clamp (by omega), q.2]) (nm_r (pk_m1 (i + d)) ?_)⟩⟩
      refine ih (by omega) rfl (by omega) (fun c hc => ?_) (fun c c1 c2 => ?_)
      · rw [pk_un (by omega), pk_un (by omega)]; exact h1 c (by omega)
      · by_cases z : c = i + (d + 1)
        · subst z; rw [pk_us, pk_us]; exact ⟨rfl, rfl⟩
        · rw [pk_un z, pk_un z]; exact h2 c (by omega) c2
theorem yk_set {es : List (Int32 × Int32)} (hS : ms_S es) (hA : ms_A b_x b_y es) (hL : es.length < 99)
    (hp : ∀ x' y', ms_A x' y' (ms_ins k v es) → post (nI (ms_ins k v es).length, b_kind, b_size, b_a, b_b, x', y')) : wpY_set post (nI es.length, b_kind, b_size, b_a, b_b, b_x, b_y) k v := by
  have hsplit : ∀ i, i ≤ es.length → es = es.take i ++ es.drop i := fun i _ => (List.take_append_drop i es).symm
  have put : ∀ i, i ≤ es.length → (∀ a, a ∈ es.take i → a.1 < k) → (∀ a, a ∈ es.drop i → k < a.1) → ∃ n50, wY_set_50 post k v (nI i) (nI es.length) n50 (nI es.length) b_kind b_size b_a b_b b_x b_y := by
    intro i hi hlo hhi
    have ei : ms_ins k v es = es.take i ++ (k, v) :: es.drop i := by
      have := ms_ins_app (k := k) (v := v) (B := es.drop i) hlo
      rw [List.take_append_drop, ms_ins_all hhi] at this
      exact this
    have eli : (es.take i).length = i := by rw [List.length_take]; omega
    have hlen : (ms_ins k v es).length = es.length + 1 := by
      rw [ei, List.length_append, List.length_cons, eli, List.length_drop]; omega
    refine ⟨es.length - i + 1, yk_s50 (i := i) (x0 := b_x) (y0 := b_y) (by omega) ?_ (es.length - i) (by omega) (by omega) (by omega) (fun c _ => ⟨rfl, rfl⟩) (fun c c1 c2 => absurd c2 (by omega))⟩
    intro g' wo' h1 h2 h3 h4
    have K := hp g' wo' ?_
    · rw [hlen] at K; exact K
    · have hA' := hA
      rw [hsplit i hi] at hA'
      have a1 := hA'.1
      have a2 := hA'.2
      rw [List.map_append] at a1 a2
      have tl : (es.take i ++ es.drop i).length = es.length := by rw [List.take_append_drop]
      rw [ei]
      constructor
      · rw [List.map_append, List.map_cons]
        refine ps_Ai a1 (by rw [List.length_map, eli]) (fun c hc => (h1 c hc).1) h2 (fun c c1 c2 => (h4 c c1 ?_).1)
        rw [← List.map_append, List.length_map, tl] at c2; exact c2
      · rw [List.map_append, List.map_cons]
        refine ps_Ai a2 (by rw [List.length_map, eli]) (fun c hc => (h1 c hc).2) h3 (fun c c1 c2 => (h4 c c1 ?_).2)
        rw [← List.map_append, List.length_map, tl] at c2; exact c2
  have scan : ∀ (d : Nat) {N i : Nat}, d < N → i + d = es.length → (∀ a, a ∈ es.take i → a.1 < k) → wY_set_2 post k v (nI es.length) b_kind b_size b_a b_b b_x b_y N (nI i) := by
    intro d
    induction d with
    | zero =>
      intro N i hN hi hlo
      cases N with
      | zero => omega
      | succ N =>
        have e : i = es.length := by omega
        subst e
        refine br_t (nI_le (by omega) (by omega)) (br_t rfl ?_)
        exact put es.length (by omega) hlo (fun a ha => by rw [List.drop_length] at ha; exact absurd ha (by simp))
    | succ d ih =>
      intro N i hN hi hlo
      cases N with
      | zero => omega
      | succ N =>
        have q := ms_Ag hA (i := i) (by omega)
        have ed := ms_drop (es := es) (w := i) (by omega)
        have hS2 := hS
        unfold ms_S at hS2
        rw [hsplit i (by omega), ed, List.pairwise_append, List.pairwise_cons] at hS2
        refine br_f (nI_ge (by omega) (by omega)) ⟨vp_in_nI (by omega) (by omega), ?_⟩
        rw [nI_clamp (n := i) (by omega), q.1]
        refine br_c (fun c => ?_) (fun c => nm_r (nI_1 i) (ih (by omega) (by omega) ?_))
        · refine br_f (fun z => absurd (ps_inj (by omega) (by omega) z) (by omega)) ⟨vp_in_nI (by omega) (by omega), ?_⟩
          rw [nI_clamp (n := i) (by omega), q.1]
          refine br_c (fun c2 => And.intro (vp_in_nI (by omega) (by omega)) (nm_r (e' := upd b_x i k) (by rw [nI_clamp (by omega)]) ⟨vp_in_nI (by omega) (by omega), nm_r (e' := upd b_y i v) (by rw [nI_clamp (by omega)]) ?_⟩)) (fun c2 => ?_)
          · have ee : es.getD i (0, 0) = (k, (es.getD i (0, 0)).2) := by rw [← c2]
            have eli : (es.take i).length = i := by rw [List.length_take]; omega
            have ei : ms_ins k v es = es.take i ++ (k, v) :: es.drop (i + 1) := by
              have := ms_ins_app (k := k) (v := v) (B := es.drop i) hlo
              rw [List.take_append_drop, ed, ee, ms_ins_eq] at this
              exact this
            have hlen : (ms_ins k v es).length = es.length := by
              rw [ei, List.length_append, List.length_cons, eli, List.length_drop]; omega
            have K := hp (upd b_x i k) (upd b_y i v) ?_
            · rw [hlen] at K; exact K
            · have hA' := hA
              rw [hsplit i (by omega), ed, ee] at hA'
              have a1 := hA'.1
              have a2 := hA'.2
              rw [List.map_append, List.map_cons] at a1 a2
              rw [ei]
              exact ⟨by rw [List.map_append, List.map_cons]; exact ps_Au a1 (by rw [List.length_map, eli]), by rw [List.map_append, List.map_cons]; exact ps_Au a2 (by rw [List.length_map, eli])⟩
          · have lt : k < (es.getD i (0, 0)).1 := by
              rcases ms_tri (es.getD i (0, 0)).1 k with z | z | z
              · exact absurd c (Int32.not_le.mpr z)
              · exact absurd z c2
              · exact z
            refine put i (by omega) hlo (fun a ha => ?_)
            rw [ed, List.mem_cons] at ha
            rcases ha with rfl | ha
            · exact lt
            · exact ms_tr lt (hS2.2.1.1 a ha)
        · intro a ha
          rw [ms_take (by omega), List.mem_append] at ha
          rcases ha with ha | ha
          · exact hlo a ha
          · rw [List.mem_singleton] at ha; rw [ha]; exact Int32.not_le.mp c
  exact ⟨es.length + 1, scan es.length (i := 0) (by omega) (by omega) (fun a ha => absurd ha (by simp))⟩
end
end
section
/-! the relation; place -/
def rl_F (rm rl : Nat) (ct : Nat → List (Int32 × Int32)) (he ro mf lf : Nat → Int32) (m : MH) (h : LH) (bk bs ba bb : Nat → Int32) : Prop :=
  ps_I mf 720 rm ∧ ps_I lf 640 rl ∧ (∀ p, p < 8 → xs_P he ro (ps_F mf rm) m (ps_F lf rl) h ct p) ∧ ∀ p, p < 8 → bk p = he p ∧ ys_P bs ba bb ct p
/-- the relation at the head of a turn: the rooms are counts, every place's tree holds what the reference's arrays hold -/
def i_Rel (k : Nat) (u : SX) (v : SY) : Prop := match u with
  | (f_mapRoom, f_listRoom, f_depth, f_many, f_first, f_second, a_held, a_root, a_data, a_links, a_more, a_keys, a_values, a_mapMark, a_mapFree, a_left, a_right, a_height, a_size, a_element, a_total, a_listMark, a_listFree, a_path, a_turns, a_stack, a_other, a_gathered, a_worth, a_spareKey, a_spareValue, a_low, a_high, a_before, a_behind) => match v with
    | (g_n, b_kind, b_size, b_a, b_b, b_x, b_y) => ∃ rm rl ct, f_mapRoom = nI rm ∧ f_listRoom = nI rl ∧
        rl_F rm rl ct a_held a_root a_mapFree a_listFree (a_data, a_links, a_more, a_keys, a_values) (a_left, a_right, a_height, a_size, a_element, a_total) b_kind b_size b_a b_b
theorem i_up {k : Nat} {u : SX} {v : SY} (h : i_Rel k u v) : i_Rel (k + 5) u v := h
theorem rl_el {k : Nat} {P : SX → SY → Prop} {u : SX} {v : SY}
    (H : ∀ {f_depth f_many f_first f_second : Int32} {a_held a_root a_mapMark a_mapFree a_listMark a_listFree a_path a_turns a_stack a_other a_gathered a_worth a_spareKey a_spareValue a_low a_high a_before a_behind : Nat → Int32} {g_n : Int32} {b_kind b_size b_a b_b b_x b_y : Nat → Int32} {rm rl : Nat} {ct : Nat → List (Int32 × Int32)} {m : MH} {h : LH},
      rl_F rm rl ct a_held a_root a_mapFree a_listFree m h b_kind b_size b_a b_b → P (nI rm, nI rl, f_depth, f_many, f_first, f_second, a_held, a_root, m.1, m.2.1, m.2.2.1, m.2.2.2.1, m.2.2.2.2, a_mapMark, a_mapFree, h.1, h.2.1, h.2.2.1, h.2.2.2.1, h.2.2.2.2.1, h.2.2.2.2.2, a_listMark, a_listFree, a_path, a_turns, a_stack, a_other, a_gathered, a_worth, a_spareKey, a_spareValue, a_low, a_high, a_before, a_behind) (g_n, b_kind, b_size, b_a, b_b, b_x, b_y)) (I : i_Rel k u v) : P u v := by
  obtain ⟨f_mapRoom, f_listRoom, f_depth, f_many, f_first, f_second, a_held, a_root, a_data, a_links, a_more, a_keys, a_values, a_mapMark, a_mapFree, a_left, a_right, a_height, a_size, a_element, a_total, a_listMark, a_listFree, a_path, a_turns, a_stack, a_other, a_gathered, a_worth, a_spareKey, a_spareValue, a_low, a_high, a_before, a_behind⟩ := u
  obtain ⟨g_n, b_kind, b_size, b_a, b_b, b_x, b_y⟩ := v
  obtain ⟨rm, rl, ct, e1, e2, F⟩ := I
  subst e1
  subst e2
  exact H (m := (a_data, a_links, a_more, a_keys, a_values)) (h := (a_left, a_right, a_height, a_size, a_element, a_total)) F
section
variable {f_mapRoom f_listRoom f_depth f_many f_first f_second : Int32} {a_held a_root a_data a_links a_more a_keys a_values a_mapMark a_mapFree a_left a_right a_height a_size a_element a_listMark a_listFree a_path a_turns a_stack a_other a_gathered a_worth a_spareKey a_spareValue a_low a_high a_before a_behind : Nat → Int32} {a_total : Nat → Int64}
variable {g_n : Int32} {b_kind b_size b_a b_b b_x b_y : Nat → Int32}
variable {rm rl k : Nat} {ct : Nat → List (Int32 × Int32)} {m : MH} {h : LH}
theorem rl_in (F : rl_F rm rl ct a_held a_root a_mapFree a_listFree m h b_kind b_size b_a b_b) : i_Rel k (nI rm, nI rl, f_depth, f_many, f_first, f_second, a_held, a_root, m.1, m.2.1, m.2.2.1, m.2.2.2.1, m.2.2.2.2, a_mapMark, a_mapFree, h.1, h.2.1, h.2.2.1, h.2.2.2.1, h.2.2.2.2.1, h.2.2.2.2.2, a_listMark, a_listFree, a_path, a_turns, a_stack, a_other, a_gathered, a_worth, a_spareKey, a_spareValue, a_low, a_high, a_before, a_behind) (g_n, b_kind, b_size, b_a, b_b, b_x, b_y) := ⟨rm, rl, ct, rfl, rfl, F⟩
end
section
variable {f_mapRoom f_listRoom f_depth f_many f_first f_second : Int32} {a_held a_root a_data a_links a_more a_keys a_values a_mapMark a_mapFree a_left a_right a_height a_size a_element a_listMark a_listFree a_path a_turns a_stack a_other a_gathered a_worth a_spareKey a_spareValue a_low a_high a_before a_behind : Nat → Int32} {a_total : Nat → Int64}
theorem rl_i254 {post : SX → Prop} (hp : ∀ ro, post (f_mapRoom, f_listRoom, f_depth, f_many, f_first, f_second, a_held, ro, a_data, a_links, a_more, a_keys, a_values, a_mapMark, a_mapFree, a_left, a_right, a_height, a_size, a_element, a_total, a_listMark, a_listFree, a_path, a_turns, a_stack, a_other, a_gathered, a_worth, a_spareKey, a_spareValue, a_low, a_high, a_before, a_behind)) : ∀ (d : Nat) {N k : Nat} {ro : Nat → Int32}, d < N → k + d = 8 → wX_init_254 post f_mapRoom f_listRoom f_depth f_many f_first f_second N (nI k) a_held ro a_data a_links a_more a_keys a_values a_mapMark a_mapFree a_left a_right a_height a_size a_element a_total a_listMark a_listFree a_path a_turns a_stack a_other a_gathered a_worth a_spareKey a_spareValue a_low a_high a_before a_behind := by
  intro d
  induction d with
  | zero =>
    intro N k ro hN hk
    have e : k = 8 := by omega
    subst e
    cases N with
    | zero => omega
    | succ N => exact br_t (by decide) (hp ro)
  | succ d ih =>
    intro N k ro hN hk
    cases N with
    | zero => omega
    | succ N => exact br_f (nI_ge (b := 8) (by omega) (by omega)) ⟨vp_in_nI (by omega) (by omega), nm_e (nm_r (nI_1 k) (ih (by omega) (by omega)))⟩
end
theorem i_vc0 : wpX_init (fun u => wpY_init (fun v => i_Rel 0 u v)) := by
  refine ⟨9, rl_i254 (fun ro => ?_) 8 (k := 0) (by omega) (by omega)⟩
  refine ⟨0, 0, fun _ => [], rfl, rfl, ?_, ?_, fun p hp => Or.inl ⟨rfl, rfl⟩, fun p hp => ⟨rfl, rfl, by simp, fun i hi => absurd hi (by simp)⟩⟩
  · exact ⟨by omega, fun i hi => absurd hi (by omega), fun i j hi => absurd hi (by omega)⟩
  · exact ⟨by omega, fun i hi => absurd hi (by omega), fun i j hi => absurd hi (by omega)⟩
/-! the places once more -/
theorem xs_m {he ro : Nat → Int32} {Fm Fm' Fl Fl' : Nat → Prop} {m m' : MH} {h h' : LH} {ct : Nat → List (Int32 × Int32)} {p : Nat} (X : mp_X Fm m Fm' m') (Y : pl_X Fl h Fl' h') (H : xs_P he ro Fm m Fl h ct p) : xs_P he ro Fm' m' Fl' h' ct p := by
  rcases H with z | ⟨z, z1, z2⟩ | ⟨z, xs, k, z0, z1, z2⟩
  · exact Or.inl z
  · refine Or.inr (Or.inl ⟨z, ?_, z2⟩)
    rcases z1 with q | ⟨q, q2⟩
    · exact Or.inl q
    · exact Or.inr ⟨q, mp_R_m X q2⟩
  · exact Or.inr (Or.inr ⟨z, xs, k, z0, pl_mono Y z1, z2⟩)
theorem xs_put {he ro : Nat → Int32} {Fm Fl : Nat → Prop} {m : MH} {h : LH} {ct : Nat → List (Int32 × Int32)} {to : Nat} {kd x : Int32} {es : List (Int32 × Int32)} (H : ∀ p, p < 8 → xs_P he ro Fm m Fl h ct p)
    (h0 : (kd = 0 ∧ es = []) ∨ (kd = 1 ∧ mp_M Fm m x es ∧ ms_S es ∧ es.length ≤ 24) ∨ (kd = 2 ∧ ∃ xs k, es = xs.map (fun x => (x, 0)) ∧ pl_L Fl h x k xs ∧ xs.length ≤ 48)) :
    ∀ p, p < 8 → xs_P (upd he to kd) (upd ro to x) Fm m Fl h (uc ct to es) p := by
  intro p hp
  unfold xs_P
  by_cases c : p = to
  · subst c; rw [pk_us, pk_us, uc_s]; exact h0
  · rw [pk_un c, pk_un c, uc_n c]; exact H p hp
theorem rl_put {rm rl : Nat} {ct : Nat → List (Int32 × Int32)} {he ro mf lf bk bs ba bb : Nat → Int32} {m : MH} {h : LH} {to : Nat} {kd x : Int32} {es : List (Int32 × Int32)} (h1 : ps_I mf 720 rm) (h2 : ps_I lf 640 rl)
    (H : ∀ p, p < 8 → xs_P he ro (ps_F mf rm) m (ps_F lf rl) h ct p) (hk : ∀ p, p < 8 → bk p = he p)
    (h0 : (kd = 0 ∧ es = []) ∨ (kd = 1 ∧ mp_M (ps_F mf rm) m x es ∧ ms_S es ∧ es.length ≤ 24) ∨ (kd = 2 ∧ ∃ xs k, es = xs.map (fun x => (x, 0)) ∧ pl_L (ps_F lf rl) h x k xs ∧ xs.length ≤ 48))
    (hY : ∀ p, p < 8 → ys_P bs ba bb (uc ct to es) p) : rl_F rm rl (uc ct to es) (upd he to kd) (upd ro to x) mf lf m h (upd bk to kd) bs ba bb := by
  refine ⟨h1, h2, xs_put H h0, fun p hp => ⟨?_, hY p hp⟩⟩
  by_cases c : p = to
  · subst c; rw [pk_us, pk_us]
  · rw [pk_un c, pk_un c]; exact hk p hp
section
variable {f_mapRoom f_listRoom f_depth f_many f_first f_second : Int32} {a_held a_root a_data a_links a_more a_keys a_values a_mapMark a_mapFree a_left a_right a_height a_size a_element a_listMark a_listFree a_path a_turns a_stack a_other a_gathered a_worth a_spareKey a_spareValue a_low a_high a_before a_behind : Nat → Int32} {a_total : Nat → Int64}
variable {F : Nat → Prop} {m : MH} {h : LH} {to : Nat}
theorem xp_map {post : Int32 → SX → Prop} {x : Int32} {es : List (Int32 × Int32)} (ht : to < 8) (hM : mp_M F m x es) (hl : es.length < 100)
    (hp : ∀ st', post (nI es.length) (f_mapRoom, f_listRoom, f_depth, f_many, f_first, f_second, upd a_held to 1, upd a_root to x, m.1, m.2.1, m.2.2.1, m.2.2.2.1, m.2.2.2.2, a_mapMark, a_mapFree, a_left, a_right, a_height, a_size, a_element, a_total, a_listMark, a_listFree, a_path, a_turns, st', a_other, a_gathered, a_worth, a_spareKey, a_spareValue, a_low, a_high, a_before, a_behind)) : wpX_place post (f_mapRoom, f_listRoom, f_depth, f_many, f_first, f_second, a_held, a_root, m.1, m.2.1, m.2.2.1, m.2.2.2.1, m.2.2.2.2, a_mapMark, a_mapFree, a_left, a_right, a_height, a_size, a_element, a_total, a_listMark, a_listFree, a_path, a_turns, a_stack, a_other, a_gathered, a_worth, a_spareKey, a_spareValue, a_low, a_high, a_before, a_behind) (nI to) 1 x := by
  have hx : ps_o 720 x := by
    rcases hM with ⟨z, _⟩ | ⟨_, z⟩
    · exact Or.inl z
    · obtain ⟨n, n1, n2, _⟩ := mp_o z; exact Or.inr ⟨n, n1, n2⟩
  refine And.intro (vp_in_nI ht (by omega)) (nm_r (e' := upd a_held to 1) (by rw [nI_clamp (by omega)]; exact congrArg _ (by decide)) ⟨vp_in_nI ht (by omega), nm_r (e' := upd a_root to x) (by rw [nI_clamp (by omega), ps_oss (by omega) hx]) (br_t rfl ?_)⟩)
  exact xm_mapSize hM hl hp
theorem xp_list {post : Int32 → SX → Prop} {x : Int32} {k q : Nat} {xs : List Int32} (ht : to < 8) (hq : q < 128) (hq1 : q ≠ 1) (hL : pl_L F h x k xs) (hp : post (nI xs.length) (f_mapRoom, f_listRoom, f_depth, f_many, f_first, f_second, upd a_held to (nI q), upd a_root to x, a_data, a_links, a_more, a_keys, a_values, a_mapMark, a_mapFree, h.1, h.2.1, h.2.2.1, h.2.2.2.1, h.2.2.2.2.1, h.2.2.2.2.2, a_listMark, a_listFree, a_path, a_turns, a_stack, a_other, a_gathered, a_worth, a_spareKey, a_spareValue, a_low, a_high, a_before, a_behind)) :
    wpX_place post (f_mapRoom, f_listRoom, f_depth, f_many, f_first, f_second, a_held, a_root, a_data, a_links, a_more, a_keys, a_values, a_mapMark, a_mapFree, h.1, h.2.1, h.2.2.1, h.2.2.2.1, h.2.2.2.2.1, h.2.2.2.2.2, a_listMark, a_listFree, a_path, a_turns, a_stack, a_other, a_gathered, a_worth, a_spareKey, a_spareValue, a_low, a_high, a_before, a_behind) (nI to) (nI q) x := by
  refine And.intro (vp_in_nI ht (by omega)) (nm_r (e' := upd a_held to (nI q)) (by rw [nI_clamp (by omega), ps_bb hq]) ⟨vp_in_nI ht (by omega), nm_r (e' := upd a_root to x) (by rw [nI_clamp (by omega), ps_oss (by omega) (pl_o hL)]) (br_f (fun z => hq1 (ps_inj (by omega) (by omega) z)) ?_)⟩)
  exact xl_length (pl_at_s hL) hp
end
end
section
/-! make, copy, about, value, key -/
section
variable {f_mapRoom f_listRoom f_depth f_many f_first f_second : Int32} {a_held a_root a_data a_links a_more a_keys a_values a_mapMark a_mapFree a_left a_right a_height a_size a_element a_listMark a_listFree a_path a_turns a_stack a_other a_gathered a_worth a_spareKey a_spareValue a_low a_high a_before a_behind : Nat → Int32} {a_total : Nat → Int64}
variable {g_n : Int32} {b_kind b_size b_a b_b b_x b_y : Nat → Int32}
variable {rm rl k : Nat} {ct : Nat → List (Int32 × Int32)} {m : MH} {h : LH}
theorem vc_make {v1 v2 : Int32} (F : rl_F rm rl ct a_held a_root a_mapFree a_listFree m h b_kind b_size b_a b_b) :
    wpX_make (fun r u' => wpY_make (fun r' v' => r' = r ∧ i_Rel (k + 5) u' v') (g_n, b_kind, b_size, b_a, b_b, b_x, b_y) v1 v2) (nI rm, nI rl, f_depth, f_many, f_first, f_second, a_held, a_root, m.1, m.2.1, m.2.2.1, m.2.2.2.1, m.2.2.2.2, a_mapMark, a_mapFree, h.1, h.2.1, h.2.2.1, h.2.2.2.1, h.2.2.2.2.1, h.2.2.2.2.2, a_listMark, a_listFree, a_path, a_turns, a_stack, a_other, a_gathered, a_worth, a_spareKey, a_spareValue, a_low, a_high, a_before, a_behind) v1 v2 := by
  unfold wpX_make wpY_make
  rcases yk_8 v1 with ⟨to, ht, rfl⟩ | hv
  · refine xn_ok ht ?_
    refine br_t rfl ?_
    by_cases c1 : v2 < 0
    · refine br_t c1 ?_
      refine yp_ok ht ?_
      exact br_f (by decide) (br_t c1 ⟨rfl, rl_in F⟩)
    · refine br_f c1 ?_
      by_cases c2 : v2 ≤ 2
      · refine br_t c2 ?_
        have ys : ∀ p, p < 8 → ys_P (upd b_size to 0) b_a b_b (uc ct to []) p := by
          intro p hp
          by_cases c : p = to
          · subst c; unfold ys_P; rw [pk_us, uc_s]; exact ⟨rfl, by simp, fun i hi => absurd hi (by simp)⟩
          · unfold ys_P; rw [pk_un c, uc_n c]; exact (F.2.2.2 p hp).2
        obtain ⟨q, hq, rfl⟩ := nI_of2 (M := 2) (n := 2) (by decide) c1 c2
        have e3 : q = 0 ∨ q = 1 ∨ q = 2 := by omega
        rcases e3 with rfl | rfl | rfl
        · refine xp_list (F := ps_F a_listFree rl) (q := 0) ht (by omega) (by omega) pl_nil ?_
          refine yp_ok ht ?_
          exact br_f (by decide) (br_f c1 (br_t c2 ⟨vp_in_nI ht (by omega), nm_r (e' := upd b_kind to _) (by rw [nI_clamp (by omega)] <;> rfl) ⟨vp_in_nI ht (by omega), nm_r (e' := upd b_size to 0) (by rw [nI_clamp (by omega)]) ⟨rfl, rl_in (rl_put F.1 F.2.1 F.2.2.1 (fun p hp => (F.2.2.2 p hp).1) (Or.inl ⟨rfl, rfl⟩) ys)⟩⟩⟩))
        · refine xp_map (F := ps_F a_mapFree rm) (es := []) ht (Or.inl ⟨rfl, rfl⟩) (by decide) (fun st' => ?_)
          refine yp_ok ht ?_
          exact br_f (by decide) (br_f c1 (br_t c2 ⟨vp_in_nI ht (by omega), nm_r (e' := upd b_kind to _) (by rw [nI_clamp (by omega)] <;> rfl) ⟨vp_in_nI ht (by omega), nm_r (e' := upd b_size to 0) (by rw [nI_clamp (by omega)]) ⟨rfl, rl_in (rl_put F.1 F.2.1 F.2.2.1 (fun p hp => (F.2.2.2 p hp).1) (Or.inr (Or.inl ⟨rfl, Or.inl ⟨rfl, rfl⟩, ms_S0, by simp⟩)) ys)⟩⟩⟩))
        · refine xp_list (F := ps_F a_listFree rl) (q := 2) ht (by omega) (by omega) pl_nil ?_
          refine yp_ok ht ?_
          exact br_f (by decide) (br_f c1 (br_t c2 ⟨vp_in_nI ht (by omega), nm_r (e' := upd b_kind to _) (by rw [nI_clamp (by omega)] <;> rfl) ⟨vp_in_nI ht (by omega), nm_r (e' := upd b_size to 0) (by rw [nI_clamp (by omega)]) ⟨rfl, rl_in (rl_put F.1 F.2.1 F.2.2.1 (fun p hp => (F.2.2.2 p hp).1) (Or.inr (Or.inr ⟨rfl, [], 0, rfl, pl_nil, by simp⟩)) ys)⟩⟩⟩))
      · refine br_f c2 ?_
        refine yp_ok ht ?_
        exact br_f (by decide) (br_f c1 (br_f c2 ⟨rfl, rl_in F⟩))
  · refine xn_bad hv ?_
    refine br_f (by decide) ?_
    refine yp_bad hv ?_
    exact br_t rfl ⟨rfl, rl_in F⟩
/-- a copy's contents, placed -/
theorem vc_copy {v1 v2 : Int32} (F : rl_F rm rl ct a_held a_root a_mapFree a_listFree m h b_kind b_size b_a b_b) :
    wpX_copy (fun r u' => wpY_copy (fun r' v' => r' = r ∧ i_Rel (k + 5) u' v') (g_n, b_kind, b_size, b_a, b_b, b_x, b_y) v1 v2) (nI rm, nI rl, f_depth, f_many, f_first, f_second, a_held, a_root, m.1, m.2.1, m.2.2.1, m.2.2.2.1, m.2.2.2.2, a_mapMark, a_mapFree, h.1, h.2.1, h.2.2.1, h.2.2.2.1, h.2.2.2.2.1, h.2.2.2.2.2, a_listMark, a_listFree, a_path, a_turns, a_stack, a_other, a_gathered, a_worth, a_spareKey, a_spareValue, a_low, a_high, a_before, a_behind) v1 v2 := by
  unfold wpX_copy wpY_copy
  rcases yk_8 v1 with ⟨fr, hf, rfl⟩ | hv
  · refine xn_ok hf ?_
    refine br_t rfl ?_
    rcases yk_8 v2 with ⟨to, ht, rfl⟩ | hv
    · refine xn_ok ht ?_
      refine br_t rfl ⟨vp_in_nI hf (by omega), ?_⟩
      rw [nI_clamp (n := fr) (by omega)]
      have hkd := (F.2.2.2 fr hf).1
      have hys := fun p hp => (F.2.2.2 p hp).2
      have hkk := fun p hp => (F.2.2.2 p hp).1
      rcases F.2.2.1 fr hf with ⟨z, ze⟩ | ⟨z, z1, z2, z3⟩ | ⟨z, xs, kk, z0, z1, z2⟩
      · refine br_t z ?_
        refine yp_ok hf ?_
        refine br_f (by decide) ?_
        refine yp_ok ht ?_
        refine br_f (by decide) ⟨vp_in_nI hf (by omega), ?_⟩
        rw [hkd]
        exact br_t z ⟨rfl, rl_in F⟩
      · refine br_f (by rw [z]; decide) ⟨vp_in_nI hf (by omega), vp_in_nI hf (by omega), ?_⟩
        rw [z]
        refine xp_map ht z1 (by omega) (fun st' => ?_)
        refine yp_ok hf ?_
        refine br_f (by decide) ?_
        refine yp_ok ht ?_
        refine br_f (by decide) ⟨vp_in_nI hf (by omega), ?_⟩
        rw [hkd, z]
        refine br_f (by decide) ?_
        refine yk_take hf (hys fr hf) (fun x' y' hA => ⟨vp_in_nI hf (by omega), ?_⟩)
        rw [hkd, z]
        refine yk_keep ht (Or.inl ⟨rfl, rfl⟩) hA (by omega) hys (fun c => absurd c (by omega)) (fun _ a' b' s' hY => ⟨rfl, ?_⟩)
        exact rl_in (rl_put F.1 F.2.1 F.2.2.1 hkk (Or.inr (Or.inl ⟨rfl, z1, z2, z3⟩)) hY)
      · have hlen : (ct fr).length = xs.length := by rw [z0, List.length_map]
        refine br_f (by rw [z]; decide) ⟨vp_in_nI hf (by omega), vp_in_nI hf (by omega), ?_⟩
        rw [z]
        refine xp_list (q := 2) ht (by omega) (by omega) z1 ?_
        refine yp_ok hf ?_
        refine br_f (by decide) ?_
        refine yp_ok ht ?_
        refine br_f (by decide) ⟨vp_in_nI hf (by omega), ?_⟩
        rw [hkd, z]
        refine br_f (by decide) ?_
        refine yk_take hf (hys fr hf) (fun x' y' hA => ⟨vp_in_nI hf (by omega), ?_⟩)
        rw [hkd, z]
        refine yk_keep ht (Or.inr ⟨by decide, rfl⟩) hA (by omega) hys (fun c => absurd c (by omega)) (fun _ a' b' s' hY => ⟨by rw [hlen], ?_⟩)
        exact rl_in (rl_put F.1 F.2.1 F.2.2.1 hkk (Or.inr (Or.inr ⟨rfl, xs, kk, z0, z1, z2⟩)) hY)
    · refine xn_bad hv ?_
      refine br_f (by decide) ?_
      refine yp_ok hf ?_
      refine br_f (by decide) ?_
      refine yp_bad hv ?_
      exact br_t rfl ⟨rfl, rl_in F⟩
  · refine xn_bad hv ?_
    refine br_f (by decide) ?_
    refine yp_bad hv ?_
    exact br_t rfl ⟨rfl, rl_in F⟩
theorem vc_about {v1 v2 : Int32} (F : rl_F rm rl ct a_held a_root a_mapFree a_listFree m h b_kind b_size b_a b_b) :
    wpX_about (fun r u' => wpY_about (fun r' => r' = r ∧ i_Rel (k + 5) u' (g_n, b_kind, b_size, b_a, b_b, b_x, b_y)) (g_n, b_kind, b_size, b_a, b_b, b_x, b_y) v1 v2) (nI rm, nI rl, f_depth, f_many, f_first, f_second, a_held, a_root, m.1, m.2.1, m.2.2.1, m.2.2.2.1, m.2.2.2.2, a_mapMark, a_mapFree, h.1, h.2.1, h.2.2.1, h.2.2.2.1, h.2.2.2.2.1, h.2.2.2.2.2, a_listMark, a_listFree, a_path, a_turns, a_stack, a_other, a_gathered, a_worth, a_spareKey, a_spareValue, a_low, a_high, a_before, a_behind) v1 v2 := by
  unfold wpX_about wpY_about
  rcases yk_8 v1 with ⟨p, hp, rfl⟩ | hv
  · have hkd := (F.2.2.2 p hp).1
    have hys := (F.2.2.2 p hp).2
    refine xn_ok hp ?_
    refine br_t rfl ?_
    by_cases c1 : v2 < 0
    · refine br_t c1 ?_
      refine yp_ok hp ?_
      exact br_f (by decide) (br_t c1 ⟨rfl, rl_in F⟩)
    · refine br_f c1 ?_
      by_cases c2 : v2 ≤ 1
      · refine br_t c2 ?_
        by_cases c3 : v2 = 0
        · refine br_t c3 ⟨vp_in_nI hp (by omega), ?_⟩
          refine yp_ok hp ?_
          refine br_f (by decide) (br_f c1 (br_t c2 (br_t c3 ⟨vp_in_nI hp (by omega), ?_, rl_in F⟩)))
          rw [nI_clamp (n := p) (by omega)]; exact hkd
        · refine br_f c3 ⟨vp_in_nI hp (by omega), ?_⟩
          rw [nI_clamp (n := p) (by omega)]
          rcases F.2.2.1 p hp with ⟨z, ze⟩ | ⟨z, z1, z2, z3⟩ | ⟨z, xs, kk, z0, z1, z2⟩
          · refine br_f (by rw [z]; decide) ⟨vp_in_nI hp (by omega), br_f (by rw [z]; decide) ?_⟩
            refine yp_ok hp ?_
            exact br_f (by decide) (br_f c1 (br_t c2 (br_f c3 ⟨vp_in_nI hp (by omega), hys.1.trans (by rw [ze]; rfl), rl_in F⟩)))
          · refine br_t z ⟨vp_in_nI hp (by omega), ?_⟩
            refine xm_mapSize z1 (by omega) (fun st' => ?_)
            refine yp_ok hp ?_
            exact br_f (by decide) (br_f c1 (br_t c2 (br_f c3 ⟨vp_in_nI hp (by omega), hys.1, rl_in F⟩)))
          · refine br_f (by rw [z]; decide) ⟨vp_in_nI hp (by omega), br_t z ⟨vp_in_nI hp (by omega), ?_⟩⟩
            refine xl_length (pl_at_s z1) ?_
            refine yp_ok hp ?_
            exact br_f (by decide) (br_f c1 (br_t c2 (br_f c3 ⟨vp_in_nI hp (by omega), hys.1.trans (by rw [z0, List.length_map]), rl_in F⟩)))
      · refine br_f c2 ?_
        refine yp_ok hp ?_
        exact br_f (by decide) (br_f c1 (br_f c2 ⟨rfl, rl_in F⟩))
  · refine xn_bad hv ?_
    refine br_f (by decide) ?_
    refine yp_bad hv ?_
    exact br_t rfl ⟨rfl, rl_in F⟩
theorem yh_ok {post : Int32 → Prop} {j : Nat} {c : Int32} (hj : j < 8) (h1 : b_kind j = c → post 1) (h0 : ¬ b_kind j = c → post 0) : wpY_holds post (g_n, b_kind, b_size, b_a, b_b, b_x, b_y) (nI j) c := by
  unfold wpY_holds
  refine yp_ok hj ?_
  refine br_f (by decide) ⟨vp_in_nI hj (by omega), ?_⟩
  rw [nI_clamp (n := j) (by omega)]
  exact br_c h1 h0
theorem yh_bad {post : Int32 → Prop} {v c : Int32} (hv : ¬ v &&& (-8) = 0 ∧ (v < 0 ∨ (8 : Int32) ≤ v)) (h : post 0) : wpY_holds post (g_n, b_kind, b_size, b_a, b_b, b_x, b_y) v c := by
  unfold wpY_holds
  refine yp_bad hv ?_
  exact br_t rfl h
end
end
section
/-! value, key, at, sum, same -/
theorem pl_det {F : Nat → Prop} {h : LH} {x : Int32} {k : Nat} {xs : List Int32} (H : pl_L F h x k xs) : ∀ {k' : Nat} {ys : List Int32}, pl_L F h x k' ys → xs = ys := by
  refine pl_ind (P := fun x k xs => ∀ {k' : Nat} {ys : List Int32}, pl_L F h x k' ys → xs = ys) ?_ ?_ H
  · intro k' ys hy
    rcases pl_cases hy with ⟨_, _, rfl⟩ | ⟨n, kl, kr, xl, xr, e, hN, _⟩
    · rfl
    · exact absurd e (ps_m1ne (by have := hN.1; omega))
  · intro n kl kr xl xr k xs hN _ il _ ir k' ys hy
    rcases pl_cases hy with ⟨e, _⟩ | ⟨n', kl', kr', xl', xr', e, hN', gl, gr⟩
    · exact absurd e.symm (ps_m1ne (by have := hN.1; omega))
    · have en : n = n' := ps_inj (by have := hN.1; omega) (by have := hN'.1; omega) e
      subst en
      rw [hN.2.2.2.2.2.1, hN'.2.2.2.2.2.1, il gl, ir gr]
theorem pl_map0 {xs ys : List Int32} (h : xs.map (fun x => (x, (0 : Int32))) = ys.map (fun x => (x, (0 : Int32)))) : xs = ys := by
  have := congrArg (List.map Prod.fst) h
  rw [List.map_map, List.map_map] at this
  have e : ∀ l : List Int32, List.map (Prod.fst ∘ fun x => (x, (0 : Int32))) l = l := by
    intro l
    induction l with
    | nil => rfl
    | cons a l ih => rw [List.map_cons, ih]; rfl
  rw [e, e] at this
  exact this
theorem pl_mget {xs : List Int32} {i : Nat} (h : i < xs.length) : (xs.map (fun x => (x, (0 : Int32)))).getD i (0, 0) = (xs.getD i 0, 0) := by
  simp [List.getD_eq_getElem?_getD, List.getElem?_eq_getElem h]
theorem pl_gext {xs ys : List Int32} (hl : xs.length = ys.length) (h : ∀ i, i < xs.length → xs.getD i 0 = ys.getD i 0) : xs = ys := by
  apply List.ext_getElem hl
  intro i h1 h2
  have := h i h1
  rw [List.getD_eq_getElem?_getD, List.getD_eq_getElem?_getD, List.getElem?_eq_getElem h1, List.getElem?_eq_getElem h2] at this
  exact this
theorem ms_gext2 {a b : List (Int32 × Int32)} (hl : a.length = b.length) (h : ∀ i, i < a.length → a.getD i (0, 0) = b.getD i (0, 0)) : a = b := by
  apply List.ext_getElem hl
  intro i h1 h2
  have := h i h1
  rw [List.getD_eq_getElem?_getD, List.getD_eq_getElem?_getD, List.getElem?_eq_getElem h1, List.getElem?_eq_getElem h2] at this
  exact this
section
variable {f_mapRoom f_listRoom f_depth f_many f_first f_second : Int32} {a_held a_root a_data a_links a_more a_keys a_values a_mapMark a_mapFree a_left a_right a_height a_size a_element a_listMark a_listFree a_path a_turns a_stack a_other a_gathered a_worth a_spareKey a_spareValue a_low a_high a_before a_behind : Nat → Int32} {a_total : Nat → Int64}
variable {g_n : Int32} {b_kind b_size b_a b_b b_x b_y : Nat → Int32}
variable {rm rl k : Nat} {ct : Nat → List (Int32 × Int32)} {m : MH} {h : LH}
theorem vc_value {v1 v2 : Int32} (F : rl_F rm rl ct a_held a_root a_mapFree a_listFree m h b_kind b_size b_a b_b) :
    wpX_value (fun r => wpY_value (fun r' => r' = r ∧ i_Rel (k + 5) (nI rm, nI rl, f_depth, f_many, f_first, f_second, a_held, a_root, m.1, m.2.1, m.2.2.1, m.2.2.2.1, m.2.2.2.2, a_mapMark, a_mapFree, h.1, h.2.1, h.2.2.1, h.2.2.2.1, h.2.2.2.2.1, h.2.2.2.2.2, a_listMark, a_listFree, a_path, a_turns, a_stack, a_other, a_gathered, a_worth, a_spareKey, a_spareValue, a_low, a_high, a_before, a_behind) (g_n, b_kind, b_size, b_a, b_b, b_x, b_y)) (g_n, b_kind, b_size, b_a, b_b, b_x, b_y) v1 v2) (nI rm, nI rl, f_depth, f_many, f_first, f_second, a_held, a_root, m.1, m.2.1, m.2.2.1, m.2.2.2.1, m.2.2.2.2, a_mapMark, a_mapFree, h.1, h.2.1, h.2.2.1, h.2.2.2.1, h.2.2.2.2.1, h.2.2.2.2.2, a_listMark, a_listFree, a_path, a_turns, a_stack, a_other, a_gathered, a_worth, a_spareKey, a_spareValue, a_low, a_high, a_before, a_behind) v1 v2 := by
  unfold wpX_value wpY_value
  rcases yk_8 v1 with ⟨p, hp, rfl⟩ | hv
  · have hkd := (F.2.2.2 p hp).1
    have hys := (F.2.2.2 p hp).2
    refine xn_ok hp ?_
    refine br_t rfl ⟨vp_in_nI hp (by omega), ?_⟩
    rw [nI_clamp (n := p) (by omega)]
    have no : ¬ a_held p = 1 → wpY_holds (fun r_1 => ((r_1 = 0 → wY_value_19 (fun r' => r' = 0 ∧ i_Rel (k + 5) (nI rm, nI rl, f_depth, f_many, f_first, f_second, a_held, a_root, m.1, m.2.1, m.2.2.1, m.2.2.2.1, m.2.2.2.2, a_mapMark, a_mapFree, h.1, h.2.1, h.2.2.1, h.2.2.2.1, h.2.2.2.2.1, h.2.2.2.2.2, a_listMark, a_listFree, a_path, a_turns, a_stack, a_other, a_gathered, a_worth, a_spareKey, a_spareValue, a_low, a_high, a_before, a_behind) (g_n, b_kind, b_size, b_a, b_b, b_x, b_y)) (nI p) (-1) g_n b_kind b_size b_a b_b b_x b_y) ∧ (¬ r_1 = 0 → wpY_find (fun r_12 => wY_value_19 (fun r' => r' = 0 ∧ i_Rel (k + 5) (nI rm, nI rl, f_depth, f_many, f_first, f_second, a_held, a_root, m.1, m.2.1, m.2.2.1, m.2.2.2.1, m.2.2.2.2, a_mapMark, a_mapFree, h.1, h.2.1, h.2.2.1, h.2.2.2.1, h.2.2.2.2.1, h.2.2.2.2.2, a_listMark, a_listFree, a_path, a_turns, a_stack, a_other, a_gathered, a_worth, a_spareKey, a_spareValue, a_low, a_high, a_before, a_behind) (g_n, b_kind, b_size, b_a, b_b, b_x, b_y)) (nI p) r_12 g_n b_kind b_size b_a b_b b_x b_y) (g_n, b_kind, b_size, b_a, b_b, b_x, b_y) (nI p) v2))) (g_n, b_kind, b_size, b_a, b_b, b_x, b_y) (nI p) 1 := by
      intro z
      exact yh_ok hp (fun c => absurd (hkd.symm.trans c) z) (fun _ => br_t rfl (br_f ps_m1nle ⟨rfl, rl_in F⟩))
    rcases F.2.2.1 p hp with ⟨z, ze⟩ | ⟨z, z1, z2, z3⟩ | ⟨z, xs, kk, z0, z1, z2⟩
    · exact br_f (by rw [z]; decide) (no (by rw [z]; decide))
    · refine br_t z ⟨vp_in_nI hp (by omega), ?_⟩
      refine xm_find z1 (fun c v hc hg hv => ?_) (fun hg => ?_)
      · refine br_t (nI_pos' (by omega)) ⟨vp_in_nI hc (by omega), ?_⟩
        rw [nI_clamp (n := c) (by omega), hv]
        refine yh_ok hp (fun _ => br_f (by decide) ?_) (fun c => absurd (hkd.trans z) c)
        refine yk_find hp hys (fun i v' hi hg' he => ?_) (fun hg' => absurd (hg.symm.trans hg') (by simp))
        have ev : v' = v := by rw [hg] at hg'; exact (Option.some.inj hg').symm
        have q := hys.2.2 i hi
        have hl := hys.2.1
        refine br_t (nI_pos' (by omega)) ⟨by rw [ps_50]; exact vp_in_nI (by omega) (by omega), ?_, rl_in F⟩
        rw [ps_50, nI_clamp (n := 50 * p + i) (by omega), q.2, he, ev]
      · refine br_f ps_m1nle ?_
        refine yh_ok hp (fun _ => br_f (by decide) ?_) (fun c => absurd (hkd.trans z) c)
        exact yk_find hp hys (fun i v' hi hg' he => absurd (hg.symm.trans hg') (by simp)) (fun _ => br_f ps_m1nle ⟨rfl, rl_in F⟩)
    · exact br_f (by rw [z]; decide) (no (by rw [z]; decide))
  · refine xn_bad hv ?_
    refine br_f (by decide) ?_
    exact yh_bad hv (br_t rfl (br_f ps_m1nle ⟨rfl, rl_in F⟩))
theorem vc_key {v1 v2 : Int32} (F : rl_F rm rl ct a_held a_root a_mapFree a_listFree m h b_kind b_size b_a b_b) :
    wpX_key (fun r u' => wpY_key (fun r' => r' = r ∧ i_Rel (k + 5) u' (g_n, b_kind, b_size, b_a, b_b, b_x, b_y)) (g_n, b_kind, b_size, b_a, b_b, b_x, b_y) v1 v2) (nI rm, nI rl, f_depth, f_many, f_first, f_second, a_held, a_root, m.1, m.2.1, m.2.2.1, m.2.2.2.1, m.2.2.2.2, a_mapMark, a_mapFree, h.1, h.2.1, h.2.2.1, h.2.2.2.1, h.2.2.2.2.1, h.2.2.2.2.2, a_listMark, a_listFree, a_path, a_turns, a_stack, a_other, a_gathered, a_worth, a_spareKey, a_spareValue, a_low, a_high, a_before, a_behind) v1 v2 := by
  unfold wpX_key wpY_key
  rcases yk_8 v1 with ⟨p, hp, rfl⟩ | hv
  · have hkd := (F.2.2.2 p hp).1
    have hys := (F.2.2.2 p hp).2
    have hl48 := hys.2.1
    refine xn_ok hp ?_
    refine br_t rfl ⟨vp_in_nI hp (by omega), ?_⟩
    rw [nI_clamp (n := p) (by omega)]
    rcases F.2.2.1 p hp with ⟨z, ze⟩ | ⟨z, z1, z2, z3⟩ | ⟨z, xs, kk, z0, z1, z2⟩
    · refine br_f (by rw [z]; decide) ?_
      exact yh_ok hp (fun c => absurd (z.symm.trans (hkd.symm.trans c)) (by decide)) (fun _ => br_t rfl ⟨rfl, rl_in F⟩)
    · refine br_t z ⟨vp_in_nI hp (by omega), ?_⟩
      refine xm_gather z1 z2 (by omega) (fun st' g' wo' hA => ?_)
      by_cases c1 : v2 < 0
      · refine br_t c1 ?_
        exact yh_ok hp (fun _ => br_f (by decide) (br_t c1 ⟨rfl, rl_in F⟩)) (fun c => absurd (hkd.trans z) c)
      · refine br_f c1 ?_
        obtain ⟨i, hi, rfl⟩ := nI_of c1
        by_cases c2 : i < (ct p).length
        · refine br_t (nI_lt c2 (by omega)) ⟨vp_in_nI (by omega) (by omega), ?_⟩
          rw [nI_clamp (n := i) (by omega)]
          refine yh_ok hp (fun _ => br_f (by decide) (br_f c1 ⟨vp_in_nI hp (by omega), ?_⟩)) (fun c => absurd (hkd.trans z) c)
          rw [hys.1]
          refine br_f (nI_ge c2 (by omega)) ⟨by rw [ps_50]; exact vp_in_nI (by omega) (by omega), ?_, rl_in F⟩
          rw [ps_50, nI_clamp (n := 50 * p + i) (by omega), (hys.2.2 i c2).1, (ms_Ag hA c2).1]
        · refine br_f (nI_nlt (by omega) hi) ?_
          refine yh_ok hp (fun _ => br_f (by decide) (br_f c1 ⟨vp_in_nI hp (by omega), ?_⟩)) (fun c => absurd (hkd.trans z) c)
          rw [hys.1]
          exact br_t (nI_le (by omega) hi) ⟨rfl, rl_in F⟩
    · refine br_f (by rw [z]; decide) ?_
      exact yh_ok hp (fun c => absurd (z.symm.trans (hkd.symm.trans c)) (by decide)) (fun _ => br_t rfl ⟨rfl, rl_in F⟩)
  · refine xn_bad hv ?_
    refine br_f (by decide) ?_
    exact yh_bad hv (br_t rfl ⟨rfl, rl_in F⟩)
theorem vc_at {v1 v2 : Int32} (F : rl_F rm rl ct a_held a_root a_mapFree a_listFree m h b_kind b_size b_a b_b) :
    wpX_at (fun r => wpY_at (fun r' => r' = r ∧ i_Rel (k + 5) (nI rm, nI rl, f_depth, f_many, f_first, f_second, a_held, a_root, m.1, m.2.1, m.2.2.1, m.2.2.2.1, m.2.2.2.2, a_mapMark, a_mapFree, h.1, h.2.1, h.2.2.1, h.2.2.2.1, h.2.2.2.2.1, h.2.2.2.2.2, a_listMark, a_listFree, a_path, a_turns, a_stack, a_other, a_gathered, a_worth, a_spareKey, a_spareValue, a_low, a_high, a_before, a_behind) (g_n, b_kind, b_size, b_a, b_b, b_x, b_y)) (g_n, b_kind, b_size, b_a, b_b, b_x, b_y) v1 v2) (nI rm, nI rl, f_depth, f_many, f_first, f_second, a_held, a_root, m.1, m.2.1, m.2.2.1, m.2.2.2.1, m.2.2.2.2, a_mapMark, a_mapFree, h.1, h.2.1, h.2.2.1, h.2.2.2.1, h.2.2.2.2.1, h.2.2.2.2.2, a_listMark, a_listFree, a_path, a_turns, a_stack, a_other, a_gathered, a_worth, a_spareKey, a_spareValue, a_low, a_high, a_before, a_behind) v1 v2 := by
  unfold wpX_at wpY_at
  rcases yk_8 v1 with ⟨p, hp, rfl⟩ | hv
  · have hkd := (F.2.2.2 p hp).1
    have hys := (F.2.2.2 p hp).2
    have hl48 := hys.2.1
    refine xn_ok hp ?_
    refine br_t rfl ⟨vp_in_nI hp (by omega), ?_⟩
    rw [nI_clamp (n := p) (by omega)]
    rcases F.2.2.1 p hp with ⟨z, ze⟩ | ⟨z, z1, z2, z3⟩ | ⟨z, xs, kk, z0, z1, z2⟩
    · refine br_f (by rw [z]; decide) ?_
      exact yh_ok hp (fun c => absurd (z.symm.trans (hkd.symm.trans c)) (by decide)) (fun _ => br_t rfl ⟨rfl, rl_in F⟩)
    · refine br_f (by rw [z]; decide) ?_
      exact yh_ok hp (fun c => absurd (z.symm.trans (hkd.symm.trans c)) (by decide)) (fun _ => br_t rfl ⟨rfl, rl_in F⟩)
    · have hlen : (ct p).length = xs.length := by rw [z0, List.length_map]
      refine br_t z ?_
      by_cases c1 : v2 < 0
      · refine br_t c1 ?_
        exact yh_ok hp (fun _ => br_f (by decide) (br_t c1 ⟨rfl, rl_in F⟩)) (fun c => absurd (hkd.trans z) c)
      · refine br_f c1 ⟨vp_in_nI hp (by omega), ?_⟩
        obtain ⟨i, hi, rfl⟩ := nI_of c1
        refine xl_length (pl_at_s z1) ?_
        by_cases c2 : i < xs.length
        · refine br_t (nI_lt c2 (by omega)) ⟨vp_in_nI hp (by omega), ?_⟩
          refine xl_elementAt z1 c2 (by omega) ?_
          refine yh_ok hp (fun _ => br_f (by decide) (br_f c1 ⟨vp_in_nI hp (by omega), ?_⟩)) (fun c => absurd (hkd.trans z) c)
          rw [hys.1, hlen]
          refine br_f (nI_ge c2 (by omega)) ⟨by rw [ps_50]; exact vp_in_nI (by omega) (by omega), ?_, rl_in F⟩
          rw [ps_50, nI_clamp (n := 50 * p + i) (by omega), (hys.2.2 i (by omega)).1, z0, pl_mget c2]
        · refine br_f (nI_nlt (by omega) hi) ?_
          refine yh_ok hp (fun _ => br_f (by decide) (br_f c1 ⟨vp_in_nI hp (by omega), ?_⟩)) (fun c => absurd (hkd.trans z) c)
          rw [hys.1, hlen]
          exact br_t (nI_le (by omega) hi) ⟨rfl, rl_in F⟩
  · refine xn_bad hv ?_
    refine br_f (by decide) ?_
    exact yh_bad hv (br_t rfl ⟨rfl, rl_in F⟩)
end
end
section
/-! sum, same -/
/-- an index as a natural number: negative ones count as 0 -/
def ps_nn (x : Int32) : Nat := x.toNatClampNeg
theorem ps_nn_neg {x : Int32} (h : x < 0) : ps_nn x = 0 := by
  unfold ps_nn
  have h1 := Int32.lt_iff_toInt_lt.mp h
  have h2 : (0 : Int32).toInt = 0 := by decide
  show x.toInt.toNat = 0
  omega
theorem ps_nn_n {n : Nat} (h : n < 2 ^ 31) : ps_nn (nI n) = n := nI_clamp h
theorem ps_nn_lt {x : Int32} {c : Nat} (hc : c < 2 ^ 31) : nI c < x ↔ c < ps_nn x := by
  by_cases h : x < 0
  · rw [ps_nn_neg h]
    constructor
    · intro z
      exact absurd (ms_tr z h) (nI_pos hc)
    · intro z; omega
  · obtain ⟨j, hj, rfl⟩ := nI_of h
    rw [ps_nn_n hj, nI_ltI hc hj]
theorem ps_nn_le {x : Int32} {c : Nat} (hc : c < 2 ^ 31) : x ≤ nI c ↔ ps_nn x ≤ c := by
  rw [← Int32.not_lt, ps_nn_lt hc]; omega
theorem pl_seg_s {ws : List Int32} {a c : Nat} (h1 : a ≤ c) (h2 : c < ws.length) : pl_seg ws a (c + 1) = pl_seg ws a c ++ [ws.getD c 0] := by
  have := pl_seg_c (ws := ws) (lo := a) (mid := c) (hi := c + 1) h1 (by omega) (by omega)
  rw [pl_seg_e (ws := ws) (Nat.le_refl (c + 1))] at this
  exact this
theorem pl_seg_t {ws : List Int32} {a b : Nat} (h : a ≤ b) : ws.take b = ws.take a ++ pl_seg ws a b := by
  unfold pl_seg
  obtain ⟨d, rfl⟩ : ∃ d, b = a + d := ⟨b - a, by omega⟩
  rw [Nat.add_sub_cancel_left, List.take_add]
section
variable {f_mapRoom f_listRoom f_depth f_many f_first f_second : Int32} {a_held a_root a_data a_links a_more a_keys a_values a_mapMark a_mapFree a_left a_right a_height a_size a_element a_listMark a_listFree a_path a_turns a_stack a_other a_gathered a_worth a_spareKey a_spareValue a_low a_high a_before a_behind : Nat → Int32} {a_total : Nat → Int64}
variable {g_n : Int32} {b_kind b_size b_a b_b b_x b_y : Nat → Int32}
variable {rm rl k : Nat} {ct : Nat → List (Int32 × Int32)} {m : MH} {h : LH}
theorem yk_sum18 {post : Int64 → Prop} {p : Nat} {i j : Int32} {xs : List Int32} (hp8 : p < 8) (hC : ys_P b_size b_a b_b ct p) (hx : ct p = xs.map (fun x => (x, 0))) (hp : post (pl_sum (pl_seg xs (ps_nn i) (min xs.length (ps_nn j))))) :
    ∀ (d : Nat) {N c : Nat} {s : Int64}, d < N → c + d = xs.length → s = pl_sum (pl_seg xs (ps_nn i) (min c (ps_nn j))) → wY_sum_18 post (nI p) i j g_n b_kind b_size b_a b_b b_x b_y N s (nI c) := by
  obtain ⟨o1, o2, o3⟩ := hC
  have hlen : (ct p).length = xs.length := by rw [hx, List.length_map]
  rw [hlen] at o1 o2 o3
  intro d
  induction d with
  | zero =>
    intro N c s hN hc hs
    have e : c = xs.length := by omega
    subst e
    cases N with
    | zero => omega
    | succ N =>
      refine And.intro (vp_in_nI hp8 (by omega)) ?_
      rw [nI_clamp (n := p) (by omega), o1]
      exact br_t (nI_le (by omega) (by omega)) (by rw [hs]; exact hp)
  | succ d ih =>
    intro N c s hN hc hs
    cases N with
    | zero => omega
    | succ N =>
      refine And.intro (vp_in_nI hp8 (by omega)) ?_
      rw [nI_clamp (n := p) (by omega), o1]
      refine br_f (nI_ge (by omega) (by omega)) ?_
      rw [ps_nn_lt (by omega), ps_nn_le (by omega)]
      refine br_c (fun c1 => nm_r (nI_1 c) (ih (by omega) (by omega) ?_)) (fun c1 => br_c (fun c2 => nm_r (nI_1 c) (ih (by omega) (by omega) ?_)) (fun c2 => ⟨by rw [ps_50]; exact vp_in_nI (by omega) (by omega), nm_e (nm_r (nI_1 c) (ih (by omega) (by omega) ?_))⟩))
      · rw [hs, pl_seg_e (by omega), pl_seg_e (by omega)]
      · have e : min (c + 1) (ps_nn j) = min c (ps_nn j) := by omega
        rw [e]; exact hs
      · have e1 : min (c + 1) (ps_nn j) = c + 1 := by omega
        have e2 : min c (ps_nn j) = c := by omega
        rw [e1, pl_seg_s (by omega) (by omega), pl_sum_app, hs, e2, ps_50, nI_clamp (by omega), (o3 c (by omega)).1, hx, pl_mget (by omega)]
        simp [pl_sum]
theorem vc_sum {v1 v2 v3 : Int32} (F : rl_F rm rl ct a_held a_root a_mapFree a_listFree m h b_kind b_size b_a b_b) :
    wpX_sum (fun r => wpY_sum (fun r' => r' = r ∧ i_Rel (k + 5) (nI rm, nI rl, f_depth, f_many, f_first, f_second, a_held, a_root, m.1, m.2.1, m.2.2.1, m.2.2.2.1, m.2.2.2.2, a_mapMark, a_mapFree, h.1, h.2.1, h.2.2.1, h.2.2.2.1, h.2.2.2.2.1, h.2.2.2.2.2, a_listMark, a_listFree, a_path, a_turns, a_stack, a_other, a_gathered, a_worth, a_spareKey, a_spareValue, a_low, a_high, a_before, a_behind) (g_n, b_kind, b_size, b_a, b_b, b_x, b_y)) (g_n, b_kind, b_size, b_a, b_b, b_x, b_y) v1 v2 v3) (nI rm, nI rl, f_depth, f_many, f_first, f_second, a_held, a_root, m.1, m.2.1, m.2.2.1, m.2.2.2.1, m.2.2.2.2, a_mapMark, a_mapFree, h.1, h.2.1, h.2.2.1, h.2.2.2.1, h.2.2.2.2.1, h.2.2.2.2.2, a_listMark, a_listFree, a_path, a_turns, a_stack, a_other, a_gathered, a_worth, a_spareKey, a_spareValue, a_low, a_high, a_before, a_behind) v1 v2 v3 := by
  unfold wpX_sum wpY_sum
  rcases yk_8 v1 with ⟨p, hp, rfl⟩ | hv
  · have hkd := (F.2.2.2 p hp).1
    have hys := (F.2.2.2 p hp).2
    have hl48 := hys.2.1
    refine xn_ok hp ?_
    refine br_t rfl ⟨vp_in_nI hp (by omega), ?_⟩
    rw [nI_clamp (n := p) (by omega)]
    rcases F.2.2.1 p hp with ⟨z, ze⟩ | ⟨z, z1, z2, z3⟩ | ⟨z, xs, kk, z0, z1, z2⟩
    · refine br_f (by rw [z]; decide) ?_
      exact yh_ok hp (fun c => absurd (z.symm.trans (hkd.symm.trans c)) (by decide)) (fun _ => br_t rfl ⟨rfl, rl_in F⟩)
    · refine br_f (by rw [z]; decide) ?_
      exact yh_ok hp (fun c => absurd (z.symm.trans (hkd.symm.trans c)) (by decide)) (fun _ => br_t rfl ⟨rfl, rl_in F⟩)
    · refine br_t z ⟨vp_in_nI hp (by omega), nm_e ?_⟩
      refine xl_length (pl_at_s z1) ?_
      -- what both give
      have Y : ∀ r : Int64, r = pl_sum (pl_seg xs (ps_nn v2) (min xs.length (ps_nn v3))) → wpY_holds (fun r_1 => ((r_1 = 0 → ((0 : Int64) = r ∧ i_Rel (k + 5) (nI rm, nI rl, f_depth, f_many, f_first, f_second, a_held, a_root, m.1, m.2.1, m.2.2.1, m.2.2.2.1, m.2.2.2.2, a_mapMark, a_mapFree, h.1, h.2.1, h.2.2.1, h.2.2.2.1, h.2.2.2.2.1, h.2.2.2.2.2, a_listMark, a_listFree, a_path, a_turns, a_stack, a_other, a_gathered, a_worth, a_spareKey, a_spareValue, a_low, a_high, a_before, a_behind) (g_n, b_kind, b_size, b_a, b_b, b_x, b_y))) ∧ (¬ r_1 = 0 → ∃ n18, wY_sum_18 (fun r' => r' = r ∧ i_Rel (k + 5) (nI rm, nI rl, f_depth, f_many, f_first, f_second, a_held, a_root, m.1, m.2.1, m.2.2.1, m.2.2.2.1, m.2.2.2.2, a_mapMark, a_mapFree, h.1, h.2.1, h.2.2.1, h.2.2.2.1, h.2.2.2.2.1, h.2.2.2.2.2, a_listMark, a_listFree, a_path, a_turns, a_stack, a_other, a_gathered, a_worth, a_spareKey, a_spareValue, a_low, a_high, a_before, a_behind) (g_n, b_kind, b_size, b_a, b_b, b_x, b_y)) (nI p) v2 v3 g_n b_kind b_size b_a b_b b_x b_y n18 0 0))) (g_n, b_kind, b_size, b_a, b_b, b_x, b_y) (nI p) 2 := by
        intro r hr
        refine yh_ok hp (fun _ => br_f (by decide) ⟨xs.length + 1, ?_⟩) (fun c => absurd (hkd.trans z) c)
        refine yk_sum18 hp hys z0 ⟨hr.symm, rl_in F⟩ xs.length (c := 0) (by omega) (by omega) ?_
        rw [pl_seg_e (by omega)]; rfl
      -- the ends, as naturals
      have last : ∀ A : Nat, A < 2 ^ 31 → A = ps_nn v2 → wX_sum_44 (fun r => wpY_holds (fun r_1 => ((r_1 = 0 → ((0 : Int64) = r ∧ i_Rel (k + 5) (nI rm, nI rl, f_depth, f_many, f_first, f_second, a_held, a_root, m.1, m.2.1, m.2.2.1, m.2.2.2.1, m.2.2.2.2, a_mapMark, a_mapFree, h.1, h.2.1, h.2.2.1, h.2.2.2.1, h.2.2.2.2.1, h.2.2.2.2.2, a_listMark, a_listFree, a_path, a_turns, a_stack, a_other, a_gathered, a_worth, a_spareKey, a_spareValue, a_low, a_high, a_before, a_behind) (g_n, b_kind, b_size, b_a, b_b, b_x, b_y))) ∧ (¬ r_1 = 0 → ∃ n18, wY_sum_18 (fun r' => r' = r ∧ i_Rel (k + 5) (nI rm, nI rl, f_depth, f_many, f_first, f_second, a_held, a_root, m.1, m.2.1, m.2.2.1, m.2.2.2.1, m.2.2.2.2, a_mapMark, a_mapFree, h.1, h.2.1, h.2.2.1, h.2.2.2.1, h.2.2.2.2.1, h.2.2.2.2.2, a_listMark, a_listFree, a_path, a_turns, a_stack, a_other, a_gathered, a_worth, a_spareKey, a_spareValue, a_low, a_high, a_before, a_behind) (g_n, b_kind, b_size, b_a, b_b, b_x, b_y)) (nI p) v2 v3 g_n b_kind b_size b_a b_b b_x b_y n18 0 0))) (g_n, b_kind, b_size, b_a, b_b, b_x, b_y) (nI p) 2) v3 (a_root p) (nI xs.length) (nI A) (nI rm) (nI rl) f_depth f_many f_first f_second a_held a_root m.1 m.2.1 m.2.2.1 m.2.2.2.1 m.2.2.2.2 a_mapMark a_mapFree h.1 h.2.1 h.2.2.1 h.2.2.2.1 h.2.2.2.2.1 h.2.2.2.2.2 a_listMark a_listFree a_path a_turns a_stack a_other a_gathered a_worth a_spareKey a_spareValue a_low a_high a_before a_behind := by
        intro A hA eA
        have two : ∀ b : Nat, b ≤ xs.length → b = min xs.length (ps_nn v3) → wX_sum_58 (fun r => wpY_holds (fun r_1 => ((r_1 = 0 → ((0 : Int64) = r ∧ i_Rel (k + 5) (nI rm, nI rl, f_depth, f_many, f_first, f_second, a_held, a_root, m.1, m.2.1, m.2.2.1, m.2.2.2.1, m.2.2.2.2, a_mapMark, a_mapFree, h.1, h.2.1, h.2.2.1, h.2.2.2.1, h.2.2.2.2.1, h.2.2.2.2.2, a_listMark, a_listFree, a_path, a_turns, a_stack, a_other, a_gathered, a_worth, a_spareKey, a_spareValue, a_low, a_high, a_before, a_behind) (g_n, b_kind, b_size, b_a, b_b, b_x, b_y))) ∧ (¬ r_1 = 0 → ∃ n18, wY_sum_18 (fun r' => r' = r ∧ i_Rel (k + 5) (nI rm, nI rl, f_depth, f_many, f_first, f_second, a_held, a_root, m.1, m.2.1, m.2.2.1, m.2.2.2.1, m.2.2.2.2, a_mapMark, a_mapFree, h.1, h.2.1, h.2.2.1, h.2.2.2.1, h.2.2.2.2.1, h.2.2.2.2.2, a_listMark, a_listFree, a_path, a_turns, a_stack, a_other, a_gathered, a_worth, a_spareKey, a_spareValue, a_low, a_high, a_before, a_behind) (g_n, b_kind, b_size, b_a, b_b, b_x, b_y)) (nI p) v2 v3 g_n b_kind b_size b_a b_b b_x b_y n18 0 0))) (g_n, b_kind, b_size, b_a, b_b, b_x, b_y) (nI p) 2) (a_root p) (nI A) (nI b) (nI rm) (nI rl) f_depth f_many f_first f_second a_held a_root m.1 m.2.1 m.2.2.1 m.2.2.2.1 m.2.2.2.2 a_mapMark a_mapFree h.1 h.2.1 h.2.2.1 h.2.2.2.1 h.2.2.2.2.1 h.2.2.2.2.2 a_listMark a_listFree a_path a_turns a_stack a_other a_gathered a_worth a_spareKey a_spareValue a_low a_high a_before a_behind := by
          intro b hb eb
          refine pk_lt A b (fun c => ?_) (fun c => Y 0 ?_)
          · refine xl_sumBefore z1 hb (by omega) ?_
            refine xl_sumBefore z1 (by omega) (by omega) ?_
            refine Y _ ?_
            rw [← eA, ← eb, pl_seg_t (ws := xs) (Nat.le_of_lt c), pl_sum_app, Int64.add_comm, Int64.add_sub_cancel]
          · rw [← eA, ← eb, pl_seg_e c]; rfl
        by_cases c3 : v3 < 0
        · refine br_t (Int32.le_trans (Int32.le_of_lt c3) (nI_pos' (by omega))) ?_
          refine br_f (fun z => nI_pos hA (ms_tr z c3)) ?_
          refine Y 0 ?_
          rw [ps_nn_neg c3, pl_seg_e (by omega)]; rfl
        · obtain ⟨B, hB, rfl⟩ := nI_of c3
          refine pk_le B xs.length (fun c => two B c (by rw [ps_nn_n hB]; omega)) (fun c => two xs.length (by omega) (by rw [ps_nn_n hB]; omega))
      by_cases c2 : v2 < 0
      · refine br_f (Int32.not_le.mpr c2) ?_
        exact last 0 (by omega) (ps_nn_neg c2).symm
      · obtain ⟨A, hA, rfl⟩ := nI_of c2
        refine br_t (nI_pos' hA) ?_
        exact last A hA (ps_nn_n hA).symm
  · refine xn_bad hv ?_
    refine br_f (by decide) ?_
    exact yh_bad hv (br_t rfl ⟨rfl, rl_in F⟩)
end
end
section
/-! same -/
section
variable {f_mapRoom f_listRoom f_depth f_many f_first f_second : Int32} {a_held a_root a_data a_links a_more a_keys a_values a_mapMark a_mapFree a_left a_right a_height a_size a_element a_listMark a_listFree a_path a_turns a_stack a_other a_gathered a_worth a_spareKey a_spareValue a_low a_high a_before a_behind : Nat → Int32} {a_total : Nat → Int64}
variable {g_n : Int32} {b_kind b_size b_a b_b b_x b_y : Nat → Int32}
variable {rm rl k : Nat} {ct : Nat → List (Int32 × Int32)} {m : MH} {h : LH}
theorem yk_same57 {post : Int32 → Prop} {p q : Nat} (hp8 : p < 8) (hq8 : q < 8) (hC : ys_P b_size b_a b_b ct p) (hD : ys_P b_size b_a b_b ct q) (hl : (ct p).length = (ct q).length)
    (hz : ¬ b_kind p = 1 → ∀ i, i < (ct p).length → ((ct p).getD i (0, 0)).2 = ((ct q).getD i (0, 0)).2) (hp1 : ct p = ct q → post 1) (hp0 : ct p ≠ ct q → post 0) :
    ∀ (d : Nat) {N i : Nat}, d < N → i + d = (ct p).length → (∀ c, c < i → (ct p).getD c (0, 0) = (ct q).getD c (0, 0)) → wY_same_57 post (nI p) (nI q) g_n b_kind b_size b_a b_b b_x b_y N (nI i) := by
  obtain ⟨o1, o2, o3⟩ := hC
  obtain ⟨r1, r2, r3⟩ := hD
  intro d
  induction d with
  | zero =>
    intro N i hN hi hh
    have e : i = (ct p).length := by omega
    subst e
    cases N with
    | zero => omega
    | succ N =>
      refine And.intro (vp_in_nI hp8 (by omega)) ?_
      rw [nI_clamp (n := p) (by omega), o1]
      exact br_t (nI_le (by omega) (by omega)) (hp1 (ms_gext2 hl hh))
  | succ d ih =>
    intro N i hN hi hh
    cases N with
    | zero => omega
    | succ N =>
      have q1 := o3 i (by omega)
      have q2 := r3 i (by omega)
      have ne : (ct p).getD i (0, 0) ≠ (ct q).getD i (0, 0) → ct p ≠ ct q := fun h e => h (by rw [e])
      have nx : (ct p).getD i (0, 0) = (ct q).getD i (0, 0) → wY_same_57 post (nI p) (nI q) g_n b_kind b_size b_a b_b b_x b_y N (nI (i + 1)) := by
        intro e
        refine ih (by omega) (by omega) (fun c hc => ?_)
        by_cases cc : c = i
        · subst cc; exact e
        · exact hh c (by omega)
      refine And.intro (vp_in_nI hp8 (by omega)) ?_
      rw [nI_clamp (n := p) (by omega), o1]
      refine br_f (nI_ge (by omega) (by omega)) ⟨by rw [ps_50]; exact vp_in_nI (by omega) (by omega), by rw [ps_50]; exact vp_in_nI (by omega) (by omega), ?_⟩
      rw [ps_50, ps_50, nI_clamp (n := 50 * p + i) (by omega), nI_clamp (n := 50 * q + i) (by omega), q1.1, q1.2, q2.1, q2.2]
      refine br_c (fun c1 => ⟨vp_in_nI hp8 (by omega), br_c (fun c2 => ⟨vp_in_nI (by omega) (by omega), vp_in_nI (by omega) (by omega), br_c (fun c3 => nm_r (nI_1 i) (nx ?_)) (fun c3 => hp0 (ne ?_))⟩) (fun c2 => nm_r (nI_1 i) (nx ?_))⟩) (fun c1 => hp0 (ne ?_))
      · exact Prod.ext c1 c3
      · intro e; exact c3 (by rw [e])
      · exact Prod.ext c1 (hz c2 i (by omega))
      · intro e; exact c1 (by rw [e])
theorem xl_same96 {post : Int32 → SX → Prop} {Fl : Nat → Prop} {x y : Int32} {k1 k2 : Nat} {xs ys : List Int32} (hx : pl_L Fl h x k1 xs) (hy : pl_L Fl h y k2 ys) (hl : xs.length = ys.length) (h48 : xs.length ≤ 48)
    (hp1 : xs = ys → post 1 (f_mapRoom, f_listRoom, f_depth, f_many, f_first, f_second, a_held, a_root, a_data, a_links, a_more, a_keys, a_values, a_mapMark, a_mapFree, h.1, h.2.1, h.2.2.1, h.2.2.2.1, h.2.2.2.2.1, h.2.2.2.2.2, a_listMark, a_listFree, a_path, a_turns, a_stack, a_other, a_gathered, a_worth, a_spareKey, a_spareValue, a_low, a_high, a_before, a_behind)) (hp0 : xs ≠ ys → post 0 (f_mapRoom, f_listRoom, f_depth, f_many, f_first, f_second, a_held, a_root, a_data, a_links, a_more, a_keys, a_values, a_mapMark, a_mapFree, h.1, h.2.1, h.2.2.1, h.2.2.2.1, h.2.2.2.2.1, h.2.2.2.2.2, a_listMark, a_listFree, a_path, a_turns, a_stack, a_other, a_gathered, a_worth, a_spareKey, a_spareValue, a_low, a_high, a_before, a_behind)) : ∀ (d : Nat) {N i : Nat}, d < N → i + d = xs.length → (∀ c, c < i → xs.getD c 0 = ys.getD c 0) →
    wX_same_96 post x y (nI xs.length) f_mapRoom f_listRoom f_depth f_many f_first f_second a_held a_root a_data a_links a_more a_keys a_values a_mapMark a_mapFree h.1 h.2.1 h.2.2.1 h.2.2.2.1 h.2.2.2.2.1 h.2.2.2.2.2 a_listMark a_listFree a_path a_turns a_stack a_other a_gathered a_worth a_spareKey a_spareValue a_low a_high a_before a_behind N (nI i) := by
  intro d
  induction d with
  | zero =>
    intro N i hN hi hh
    have e : i = xs.length := by omega
    subst e
    cases N with
    | zero => omega
    | succ N => exact br_t (nI_le (by omega) (by omega)) (hp1 (pl_gext hl hh))
  | succ d ih =>
    intro N i hN hi hh
    cases N with
    | zero => omega
    | succ N =>
      refine br_f (nI_ge (by omega) (by omega)) (br_c (fun c => hp1 ?_) (fun c => ?_))
      · subst c; exact pl_det hx hy
      · refine xl_elementAt hx (by omega) (by omega) ?_
        refine xl_elementAt hy (by omega) (by omega) ?_
        refine br_c (fun c2 => nm_r (nI_1 i) (ih (by omega) (by omega) (fun j hj => ?_))) (fun c2 => hp0 (fun e => c2 (by rw [e])))
        by_cases cc : j = i
        · subst cc; exact c2
        · exact hh j (by omega)
theorem vc_same {v1 v2 : Int32} (F : rl_F rm rl ct a_held a_root a_mapFree a_listFree m h b_kind b_size b_a b_b) :
    wpX_same (fun r u' => wpY_same (fun r' => r' = r ∧ i_Rel (k + 5) u' (g_n, b_kind, b_size, b_a, b_b, b_x, b_y)) (g_n, b_kind, b_size, b_a, b_b, b_x, b_y) v1 v2) (nI rm, nI rl, f_depth, f_many, f_first, f_second, a_held, a_root, m.1, m.2.1, m.2.2.1, m.2.2.2.1, m.2.2.2.2, a_mapMark, a_mapFree, h.1, h.2.1, h.2.2.1, h.2.2.2.1, h.2.2.2.2.1, h.2.2.2.2.2, a_listMark, a_listFree, a_path, a_turns, a_stack, a_other, a_gathered, a_worth, a_spareKey, a_spareValue, a_low, a_high, a_before, a_behind) v1 v2 := by
  unfold wpX_same wpY_same
  rcases yk_8 v1 with ⟨p, hp, rfl⟩ | hv
  · have hkp := (F.2.2.2 p hp).1
    have hyp := (F.2.2.2 p hp).2
    refine xn_ok hp ?_
    refine br_t rfl ?_
    rcases yk_8 v2 with ⟨q, hq, rfl⟩ | hv
    · have hkq := (F.2.2.2 q hq).1
      have hyq := (F.2.2.2 q hq).2
      have hb1 := hyp.2.1
      have hb2 := hyq.2.1
      refine xn_ok hq ?_
      refine br_t rfl ⟨vp_in_nI hp (by omega), ?_⟩
      rw [nI_clamp (n := p) (by omega), nI_clamp (n := q) (by omega)]
      by_cases c0 : a_held p = 0
      · refine br_t c0 ?_
        refine yp_ok hp ?_
        refine br_f (by decide) ?_
        refine yp_ok hq ?_
        refine br_f (by decide) ⟨vp_in_nI hp (by omega), ?_⟩
        rw [hkp]
        exact br_t c0 ⟨rfl, rl_in F⟩
      · refine br_f c0 ⟨vp_in_nI hp (by omega), vp_in_nI hq (by omega), ?_⟩
        by_cases ce : a_held p = a_held q
        · refine br_t ce ⟨vp_in_nI hp (by omega), nm_e ⟨vp_in_nI hq (by omega), nm_e ⟨vp_in_nI hp (by omega), ?_⟩⟩⟩
          rcases F.2.2.1 p hp with ⟨z, ze⟩ | ⟨z, z1, z2, z3⟩ | ⟨z, xs, kk, z0, z1, z2⟩
          · exact absurd z c0
          · refine br_t z ?_
            rcases F.2.2.1 q hq with ⟨w, we⟩ | ⟨w, w1, w2, w3⟩ | ⟨w, ys, kk, w0, w1, w2⟩
            · exact absurd (z.symm.trans (ce.trans w)) (by decide)
            · refine xm_sameMaps z1 w1 z2 w2 (by omega) (fun e st' ot' => ⟨rfl, ?_⟩) (fun e st' ot' => ⟨rfl, ?_⟩)
              · refine yp_ok hp ?_
                refine br_f (by decide) ?_
                refine yp_ok hq ?_
                refine br_f (by decide) ⟨vp_in_nI hp (by omega), ?_⟩
                rw [hkp, hkq]
                refine br_f c0 ⟨vp_in_nI hp (by omega), vp_in_nI hq (by omega), br_t ce ⟨vp_in_nI hp (by omega), vp_in_nI hq (by omega), ?_⟩⟩
                rw [hyp.1, hyq.1]
                refine pk_eq (ct p).length (ct q).length (fun cl => ⟨(ct p).length + 1, ?_⟩) (fun cl => ⟨rfl, rl_in F⟩)
                exact yk_same57 hp hq hyp hyq cl (fun zz => absurd (hkp.trans z) zz) (fun e2 => absurd e2 e) (fun _ => ⟨rfl, rl_in F⟩) (ct p).length (i := 0) (by omega) (by omega) (fun c hc => absurd hc (by omega))
              · refine yp_ok hp ?_
                refine br_f (by decide) ?_
                refine yp_ok hq ?_
                refine br_f (by decide) ⟨vp_in_nI hp (by omega), ?_⟩
                rw [hkp, hkq]
                refine br_f c0 ⟨vp_in_nI hp (by omega), vp_in_nI hq (by omega), br_t ce ⟨vp_in_nI hp (by omega), vp_in_nI hq (by omega), ?_⟩⟩
                rw [hyp.1, hyq.1]
                refine pk_eq (ct p).length (ct q).length (fun cl => ⟨(ct p).length + 1, ?_⟩) (fun cl => absurd (by rw [e]) cl)
                exact yk_same57 hp hq hyp hyq cl (fun zz => absurd (hkp.trans z) zz) (fun _ => ⟨rfl, rl_in F⟩) (fun e2 => absurd e e2) (ct p).length (i := 0) (by omega) (by omega) (fun c hc => absurd hc (by omega))
            · exact absurd (z.symm.trans (ce.trans w)) (by decide)
          · refine br_f (by rw [z]; decide) ?_
            rcases F.2.2.1 q hq with ⟨w, we⟩ | ⟨w, w1, w2, w3⟩ | ⟨w, ys, kk2, w0, w1, w2⟩
            · exact absurd (z.symm.trans (ce.trans w)) (by decide)
            · exact absurd (z.symm.trans (ce.trans w)) (by decide)
            · have hl1 : (ct p).length = xs.length := by rw [z0, List.length_map]
              have hl2 : (ct q).length = ys.length := by rw [w0, List.length_map]
              have hzz : ∀ i, i < (ct p).length → (ct p).length = (ct q).length → ((ct p).getD i (0, 0)).2 = ((ct q).getD i (0, 0)).2 := by
                intro i hi hle
                rw [z0, w0, pl_mget (by omega), pl_mget (by omega)]
              refine xl_length (pl_at_s z1) ?_
              refine xl_length (pl_at_s w1) ?_
              refine pk_eq xs.length ys.length (fun cl => ⟨xs.length + 1, ?_⟩) (fun cl => ?_)
              · refine xl_same96 z1 w1 cl (by omega) (fun e => ?_) (fun e => ?_) xs.length (i := 0) (by omega) (by omega) (fun c hc => absurd hc (by omega))
                · refine yp_ok hp ?_
                  refine br_f (by decide) ?_
                  refine yp_ok hq ?_
                  refine br_f (by decide) ⟨vp_in_nI hp (by omega), ?_⟩
                  rw [hkp, hkq]
                  refine br_f c0 ⟨vp_in_nI hp (by omega), vp_in_nI hq (by omega), br_t ce ⟨vp_in_nI hp (by omega), vp_in_nI hq (by omega), ?_⟩⟩
                  rw [hyp.1, hyq.1]
                  refine pk_eq (ct p).length (ct q).length (fun cl => ⟨(ct p).length + 1, ?_⟩) (fun cl => absurd (by omega) cl)
                  exact yk_same57 hp hq hyp hyq cl (fun _ i hi => hzz i hi cl) (fun _ => ⟨rfl, rl_in F⟩) (fun e2 => absurd (by rw [z0, w0, e]) e2) (ct p).length (i := 0) (by omega) (by omega) (fun c hc => absurd hc (by omega))
                · refine yp_ok hp ?_
                  refine br_f (by decide) ?_
                  refine yp_ok hq ?_
                  refine br_f (by decide) ⟨vp_in_nI hp (by omega), ?_⟩
                  rw [hkp, hkq]
                  refine br_f c0 ⟨vp_in_nI hp (by omega), vp_in_nI hq (by omega), br_t ce ⟨vp_in_nI hp (by omega), vp_in_nI hq (by omega), ?_⟩⟩
                  rw [hyp.1, hyq.1]
                  refine pk_eq (ct p).length (ct q).length (fun cl => ⟨(ct p).length + 1, ?_⟩) (fun cl => ⟨rfl, rl_in F⟩)
                  exact yk_same57 hp hq hyp hyq cl (fun _ i hi => hzz i hi cl) (fun e2 => absurd (pl_map0 (z0.symm.trans (e2.trans w0))) e) (fun _ => ⟨rfl, rl_in F⟩) (ct p).length (i := 0) (by omega) (by omega) (fun c hc => absurd hc (by omega))
              · refine yp_ok hp ?_
                refine br_f (by decide) ?_
                refine yp_ok hq ?_
                refine br_f (by decide) ⟨vp_in_nI hp (by omega), ?_⟩
                rw [hkp, hkq]
                refine br_f c0 ⟨vp_in_nI hp (by omega), vp_in_nI hq (by omega), br_t ce ⟨vp_in_nI hp (by omega), vp_in_nI hq (by omega), ?_⟩⟩
                rw [hyp.1, hyq.1]
                exact pk_eq (ct p).length (ct q).length (fun cl2 => absurd (by omega) cl) (fun _ => ⟨rfl, rl_in F⟩)
        · refine br_f ce ?_
          refine yp_ok hp ?_
          refine br_f (by decide) ?_
          refine yp_ok hq ?_
          refine br_f (by decide) ⟨vp_in_nI hp (by omega), ?_⟩
          rw [hkp, hkq]
          exact br_f c0 ⟨vp_in_nI hp (by omega), vp_in_nI hq (by omega), br_f ce ⟨rfl, rl_in F⟩⟩
    · refine xn_bad hv ?_
      refine br_f (by decide) ?_
      refine yp_ok hp ?_
      refine br_f (by decide) ?_
      refine yp_bad hv ?_
      exact br_t rfl ⟨rfl, rl_in F⟩
  · refine xn_bad hv ?_
    refine br_f (by decide) ?_
    refine yp_bad hv ?_
    exact br_t rfl ⟨rfl, rl_in F⟩
end
end
section
/-! put, remove -/
theorem ms_del_none {k : Int32} {es : List (Int32 × Int32)} (h : ms_get k es = none) : ms_del k es = es := by
  unfold ms_del
  exact List.filter_eq_self.mpr (fun e he => by simp; exact ms_get_n.mp h e he)
theorem ms_ins_end {k v : Int32} {A : List (Int32 × Int32)} (h : ∀ a, a ∈ A → a.1 < k) : ms_ins k v A = A ++ [(k, v)] := by
  have := ms_ins_app (k := k) (v := v) (B := []) h
  rw [List.append_nil] at this
  exact this
theorem ms_S_tk {es : List (Int32 × Int32)} (hS : ms_S es) {i : Nat} (hi : i < es.length) : ∀ a, a ∈ es.take i → a.1 < (es.getD i (0, 0)).1 := by
  intro a ha
  unfold ms_S at hS
  rw [← List.take_append_drop i es, ms_drop hi, List.pairwise_append] at hS
  exact hS.2.2 a ha _ (by simp)
section
variable {f_mapRoom f_listRoom f_depth f_many f_first f_second : Int32} {a_held a_root a_data a_links a_more a_keys a_values a_mapMark a_mapFree a_left a_right a_height a_size a_element a_listMark a_listFree a_path a_turns a_stack a_other a_gathered a_worth a_spareKey a_spareValue a_low a_high a_before a_behind : Nat → Int32} {a_total : Nat → Int64}
variable {g_n : Int32} {b_kind b_size b_a b_b b_x b_y : Nat → Int32}
variable {rm rl k : Nat} {ct : Nat → List (Int32 × Int32)} {m : MH} {h : LH} {fr to : Nat} {kk v : Int32}
theorem xo_put62 {post : Int32 → SX → Prop} (h1 : ps_I a_mapFree 720 rm) (h2 : ps_I a_listFree 640 rl) (hP : ∀ p, p < 8 → xs_P a_held a_root (ps_F a_mapFree rm) m (ps_F a_listFree rl) h ct p) (hf : fr < 8) (hh : a_held fr = 1) (ht : to < 8)
    (hl : (ms_ins kk v (ct fr)).length ≤ 24)
    (hp : ∀ dp mn mm mf lm lf pa st g wo x m' rm' rl', ps_I mf 720 rm' → ps_I lf 640 rl' → (∀ p, p < 8 → xs_P a_held a_root (ps_F mf rm') m' (ps_F lf rl') h ct p) → mp_M (ps_F mf rm') m' x (ms_ins kk v (ct fr)) →
      post (nI (ms_ins kk v (ct fr)).length) (nI rm', nI rl', dp, mn, f_first, f_second, upd a_held to 1, upd a_root to x, m'.1, m'.2.1, m'.2.2.1, m'.2.2.2.1, m'.2.2.2.2, mm, mf, h.1, h.2.1, h.2.2.1, h.2.2.2.1, h.2.2.2.2.1, h.2.2.2.2.2, lm, lf, pa, a_turns, st, a_other, g, wo, a_spareKey, a_spareValue, a_low, a_high, a_before, a_behind)) :
    wX_put_62 post kk v (nI to) (a_root fr) (nI rm) (nI rl) f_depth f_many f_first f_second a_held a_root m.1 m.2.1 m.2.2.1 m.2.2.2.1 m.2.2.2.2 a_mapMark a_mapFree h.1 h.2.1 h.2.2.1 h.2.2.2.1 h.2.2.2.2.1 h.2.2.2.2.2 a_listMark a_listFree a_path a_turns a_stack a_other a_gathered a_worth a_spareKey a_spareValue a_low a_high a_before a_behind := by
  unfold wX_put_62
  refine xt_tidy h1 h2 hP (fun mm lm st fm' rm' fl' rl' i1 i2 i3 i4 hP' => ?_)
  rcases hP' fr hf with ⟨z, _⟩ | ⟨z, z1, z2, z3⟩ | ⟨z, _⟩
  · exact absurd (hh.symm.trans z) (by decide)
  · refine xm_with z1 z2 (by omega) i1 (by omega) (fun x' m' r' dp mn pa g wo g1 g2 X hM => ?_)
    refine xp_map ht hM (by omega) (fun st' => ?_)
    exact hp _ _ _ _ _ _ _ _ _ _ _ _ _ _ (ps_Im g2 i1) i3 (fun p p8 => xs_m X pl_X_r (hP' p p8)) hM
  · exact absurd (hh.symm.trans z) (by decide)
theorem yc_put {post : Int32 → SY → Prop} (hf : fr < 8) (ht : to < 8) (hk : b_kind fr = 1) (hC : ∀ p, p < 8 → ys_P b_size b_a b_b ct p) (hS : ms_S (ct fr)) (hfull : 24 < (ms_ins kk v (ct fr)).length → ∀ n x y, post (-4) (n, b_kind, b_size, b_a, b_b, x, y))
    (hok : (ms_ins kk v (ct fr)).length ≤ 24 → ∀ n x y a' b' s', (∀ p, p < 8 → ys_P s' a' b' (uc ct to (ms_ins kk v (ct fr))) p) → post (nI (ms_ins kk v (ct fr)).length) (n, upd b_kind to 1, s', a', b', x, y)) :
    wpY_put post (g_n, b_kind, b_size, b_a, b_b, b_x, b_y) (nI fr) kk v (nI to) := by
  have hl := (hC fr hf).2.1
  have hl2 : (ms_ins kk v (ct fr)).length ≤ (ct fr).length + 1 := by rw [ms_lenI hS]; split <;> omega
  unfold wpY_put
  refine yp_ok hf ?_
  refine br_f (by decide) ?_
  refine yp_ok ht ?_
  refine br_f (by decide) ⟨vp_in_nI hf (by omega), ?_⟩
  rw [nI_clamp (n := fr) (by omega)]
  refine br_t hk ?_
  refine yk_take hf (hC fr hf) (fun x' y' hA => ?_)
  refine yk_set hS hA (by omega) (fun x2 y2 hA2 => ?_)
  exact yk_keep ht (Or.inl ⟨rfl, rfl⟩) hA2 (by omega) hC (fun c => hfull c _ _ _) (fun c a' b' s' hY => hok c _ _ _ a' b' s' hY)
theorem vc_put {v1 v2 v3 v4 : Int32} (F : rl_F rm rl ct a_held a_root a_mapFree a_listFree m h b_kind b_size b_a b_b) :
    wpX_put (fun r u' => wpY_put (fun r' v' => r' = r ∧ i_Rel (k + 5) u' v') (g_n, b_kind, b_size, b_a, b_b, b_x, b_y) v1 v2 v3 v4) (nI rm, nI rl, f_depth, f_many, f_first, f_second, a_held, a_root, m.1, m.2.1, m.2.2.1, m.2.2.2.1, m.2.2.2.2, a_mapMark, a_mapFree, h.1, h.2.1, h.2.2.1, h.2.2.2.1, h.2.2.2.2.1, h.2.2.2.2.2, a_listMark, a_listFree, a_path, a_turns, a_stack, a_other, a_gathered, a_worth, a_spareKey, a_spareValue, a_low, a_high, a_before, a_behind) v1 v2 v3 v4 := by
  unfold wpX_put
  rcases yk_8 v1 with ⟨fr, hf, rfl⟩ | hv
  · refine xn_ok hf ?_
    refine br_t rfl ?_
    rcases yk_8 v4 with ⟨to, ht, rfl⟩ | hv
    · have hys := fun p hp => (F.2.2.2 p hp).2
      have hkk := fun p hp => (F.2.2.2 p hp).1
      refine xn_ok ht ?_
      refine br_t rfl ⟨vp_in_nI hf (by omega), ?_⟩
      rw [nI_clamp (n := fr) (by omega)]
      have no : ¬ a_held fr = 1 → wpY_put (fun r' v' => r' = -2 ∧ i_Rel (k + 5) (nI rm, nI rl, f_depth, f_many, f_first, f_second, a_held, a_root, m.1, m.2.1, m.2.2.1, m.2.2.2.1, m.2.2.2.2, a_mapMark, a_mapFree, h.1, h.2.1, h.2.2.1, h.2.2.2.1, h.2.2.2.2.1, h.2.2.2.2.2, a_listMark, a_listFree, a_path, a_turns, a_stack, a_other, a_gathered, a_worth, a_spareKey, a_spareValue, a_low, a_high, a_before, a_behind) v') (g_n, b_kind, b_size, b_a, b_b, b_x, b_y) (nI fr) v2 v3 (nI to) := by
        intro z
        unfold wpY_put
        refine yp_ok hf ?_
        refine br_f (by decide) ?_
        refine yp_ok ht ?_
        refine br_f (by decide) ⟨vp_in_nI hf (by omega), ?_⟩
        rw [nI_clamp (n := fr) (by omega), hkk fr hf]
        exact br_f z ⟨rfl, rl_in F⟩
      rcases F.2.2.1 fr hf with ⟨z, ze⟩ | ⟨z, z1, z2, z3⟩ | ⟨z, xs, kk, z0, z1, z2⟩
      · exact br_f (by rw [z]; decide) (no (by rw [z]; decide))
      · have go : ∀ {st : Nat → Int32}, (ms_ins v2 v3 (ct fr)).length ≤ 24 → wX_put_62 (fun r u' => wpY_put (fun r' v' => r' = r ∧ i_Rel (k + 5) u' v') (g_n, b_kind, b_size, b_a, b_b, b_x, b_y) (nI fr) v2 v3 (nI to)) v2 v3 (nI to) (a_root fr) (nI rm) (nI rl) f_depth f_many f_first f_second a_held a_root m.1 m.2.1 m.2.2.1 m.2.2.2.1 m.2.2.2.2 a_mapMark a_mapFree h.1 h.2.1 h.2.2.1 h.2.2.2.1 h.2.2.2.2.1 h.2.2.2.2.2 a_listMark a_listFree a_path a_turns st a_other a_gathered a_worth a_spareKey a_spareValue a_low a_high a_before a_behind := by
          intro st hl
          refine xo_put62 F.1 F.2.1 F.2.2.1 hf z ht hl (fun dp mn mm mf lm lf pa st g wo x m' rm' rl' i1 i2 hP' hM => ?_)
          refine yc_put hf ht ((hkk fr hf).trans z) hys z2 (fun c => absurd c (by omega)) (fun _ n x y a' b' s' hY => ⟨rfl, ?_⟩)
          exact rl_in (rl_put i1 i2 hP' hkk (Or.inr (Or.inl ⟨rfl, hM, ms_insS z2, hl⟩)) hY)
        refine br_t z ⟨vp_in_nI hf (by omega), nm_e ?_⟩
        refine xm_find z1 (fun c v hc hg hv => ?_) (fun hg => ?_)
        · refine br_t (nI_pos' (by omega)) (go ?_)
          rw [ms_lenI z2, if_neg (by rw [hg]; simp)]; exact z3
        · refine br_f ps_m1nle ?_
          refine xm_mapSize z1 (by omega) (fun st' => ?_)
          refine pk_eq (ct fr).length 24 (fun c => ?_) (fun c => go ?_)
          · refine yc_put hf ht ((hkk fr hf).trans z) hys z2 (fun _ n x y => ⟨rfl, rl_in F⟩) (fun c2 => ?_)
            rw [ms_lenI z2, if_pos hg] at c2; omega
          · rw [ms_lenI z2, if_pos hg]; omega
      · exact br_f (by rw [z]; decide) (no (by rw [z]; decide))
    · refine xn_bad hv ?_
      refine br_f (by decide) ?_
      show wpY_put _ _ _ _ _ _
      unfold wpY_put
      refine yp_ok hf ?_
      refine br_f (by decide) ?_
      refine yp_bad hv ?_
      exact br_t rfl ⟨rfl, rl_in F⟩
  · refine xn_bad hv ?_
    refine br_f (by decide) ?_
    show wpY_put _ _ _ _ _ _
    unfold wpY_put
    refine yp_bad hv ?_
    exact br_t rfl ⟨rfl, rl_in F⟩
theorem yk_rm37 {post : Int32 → SY → Prop} (hf : fr < 8) (hC : ys_P b_size b_a b_b ct fr) (hS : ms_S (ct fr))
    (hp : ∀ x y, ms_A x y (ms_del kk (ct fr)) → wpY_keep post (nI (ms_del kk (ct fr)).length, b_kind, b_size, b_a, b_b, x, y) 1 (nI to)) :
    ∀ (d : Nat) {N i : Nat} {x y : Nat → Int32}, d < N → i + d = (ct fr).length → ms_A x y (ms_del kk ((ct fr).take i)) →
    wY_remove_37 post (nI fr) kk (nI to) N (nI i) (nI (ms_del kk ((ct fr).take i)).length) b_kind b_size b_a b_b x y := by
  obtain ⟨o1, o2, o3⟩ := hC
  intro d
  induction d with
  | zero =>
    intro N i x y hN hi hA
    have e : i = (ct fr).length := by omega
    subst e
    cases N with
    | zero => omega
    | succ N =>
      refine And.intro (vp_in_nI hf (by omega)) ?_
      rw [nI_clamp (n := fr) (by omega), o1]
      refine br_t (nI_le (by omega) (by omega)) ?_
      rw [List.take_length] at hA ⊢
      exact hp x y hA
  | succ d ih =>
    intro N i x y hN hi hA
    cases N with
    | zero => omega
    | succ N =>
      have q := o3 i (by omega)
      have et : (ct fr).take (i + 1) = (ct fr).take i ++ [(ct fr).getD i (0, 0)] := ms_take (by omega)
      have ed : ms_del kk ((ct fr).take (i + 1)) = ms_del kk ((ct fr).take i) ++ ms_del kk [(ct fr).getD i (0, 0)] := by
        rw [et]; unfold ms_del; rw [List.filter_append]
      refine And.intro (vp_in_nI hf (by omega)) ?_
      rw [nI_clamp (n := fr) (by omega), o1]
      refine br_f (nI_ge (by omega) (by omega)) ⟨by rw [ps_50]; exact vp_in_nI (by omega) (by omega), ?_⟩
      rw [ps_50, nI_clamp (n := 50 * fr + i) (by omega), q.1, q.2]
      refine br_c (fun c => nm_r (nI_1 i) ?_) (fun c => ⟨vp_in_nI (by omega) (by omega), vp_in_nI (by omega) (by omega), ?_⟩)
      · have e2 : ms_del kk [(ct fr).getD i (0, 0)] = [] := by
          unfold ms_del; rw [List.filter_cons, if_neg (by simp only [c]; simp)]; rfl
        rw [e2, List.append_nil] at ed
        have K := ih (N := N) (i := i + 1) (x := x) (y := y) (by omega) (by omega) (by rw [ed]; exact hA)
        rw [ed] at K
        exact K
      · have e2 : ms_del kk [(ct fr).getD i (0, 0)] = [(ct fr).getD i (0, 0)] := by
          unfold ms_del; rw [List.filter_cons, if_pos (by simp; exact c)]; rfl
        have lo : ∀ a, a ∈ ms_del kk ((ct fr).take i) → a.1 < ((ct fr).getD i (0, 0)).1 := fun a ha => ms_S_tk hS (by omega) a (ms_del_m.mp ha).1
        have hSd : ms_S (ms_del kk ((ct fr).take i)) := ms_delS (List.Pairwise.sublist (List.take_sublist i _) hS)
        have hll : (ms_del kk ((ct fr).take i)).length ≤ (ct fr).length := Nat.le_trans (List.length_filter_le _ _) (by rw [List.length_take]; omega)
        refine yk_set hSd hA (by omega) (fun x2 y2 hA2 => nm_r (nI_1 i) ?_)
        have e3 : ms_ins ((ct fr).getD i (0, 0)).1 ((ct fr).getD i (0, 0)).2 (ms_del kk ((ct fr).take i)) = ms_del kk ((ct fr).take (i + 1)) := by
          rw [ms_ins_end lo, ed, e2]
        rw [e3] at hA2 ⊢
        exact ih (by omega) (by omega) hA2
theorem vc_remove {v1 v2 v3 : Int32} (F : rl_F rm rl ct a_held a_root a_mapFree a_listFree m h b_kind b_size b_a b_b) :
    wpX_remove (fun r u' => wpY_remove (fun r' v' => r' = r ∧ i_Rel (k + 5) u' v') (g_n, b_kind, b_size, b_a, b_b, b_x, b_y) v1 v2 v3) (nI rm, nI rl, f_depth, f_many, f_first, f_second, a_held, a_root, m.1, m.2.1, m.2.2.1, m.2.2.2.1, m.2.2.2.2, a_mapMark, a_mapFree, h.1, h.2.1, h.2.2.1, h.2.2.2.1, h.2.2.2.2.1, h.2.2.2.2.2, a_listMark, a_listFree, a_path, a_turns, a_stack, a_other, a_gathered, a_worth, a_spareKey, a_spareValue, a_low, a_high, a_before, a_behind) v1 v2 v3 := by
  unfold wpX_remove
  rcases yk_8 v1 with ⟨fr, hf, rfl⟩ | hv
  · refine xn_ok hf ?_
    refine br_t rfl ?_
    rcases yk_8 v3 with ⟨to, ht, rfl⟩ | hv
    · have hys := fun p hp => (F.2.2.2 p hp).2
      have hkk := fun p hp => (F.2.2.2 p hp).1
      refine xn_ok ht ?_
      refine br_t rfl ⟨vp_in_nI hf (by omega), ?_⟩
      rw [nI_clamp (n := fr) (by omega)]
      have no : ¬ a_held fr = 1 → wpY_remove (fun r' v' => r' = -2 ∧ i_Rel (k + 5) (nI rm, nI rl, f_depth, f_many, f_first, f_second, a_held, a_root, m.1, m.2.1, m.2.2.1, m.2.2.2.1, m.2.2.2.2, a_mapMark, a_mapFree, h.1, h.2.1, h.2.2.1, h.2.2.2.1, h.2.2.2.2.1, h.2.2.2.2.2, a_listMark, a_listFree, a_path, a_turns, a_stack, a_other, a_gathered, a_worth, a_spareKey, a_spareValue, a_low, a_high, a_before, a_behind) v') (g_n, b_kind, b_size, b_a, b_b, b_x, b_y) (nI fr) v2 (nI to) := by
        intro z
        unfold wpY_remove
        refine yp_ok hf ?_
        refine br_f (by decide) ?_
        refine yp_ok ht ?_
        refine br_f (by decide) ⟨vp_in_nI hf (by omega), ?_⟩
        rw [nI_clamp (n := fr) (by omega), hkk fr hf]
        exact br_f z ⟨rfl, rl_in F⟩
      rcases F.2.2.1 fr hf with ⟨z, ze⟩ | ⟨z, z1, z2, z3⟩ | ⟨z, xs, kk, z0, z1, z2⟩
      · exact br_f (by rw [z]; decide) (no (by rw [z]; decide))
      · have hdl : (ms_del v2 (ct fr)).length ≤ 24 := Nat.le_trans (List.length_filter_le _ _) z3
        have Y : ∀ {u' : SX} {r : Int32}, r = nI (ms_del v2 (ct fr)).length → (∀ n x y a' b' s', (∀ p, p < 8 → ys_P s' a' b' (uc ct to (ms_del v2 (ct fr))) p) → i_Rel (k + 5) u' (n, upd b_kind to 1, s', a', b', x, y)) →
            wpY_remove (fun r' v' => r' = r ∧ i_Rel (k + 5) u' v') (g_n, b_kind, b_size, b_a, b_b, b_x, b_y) (nI fr) v2 (nI to) := by
          intro u' r hr hI
          unfold wpY_remove
          refine yp_ok hf ?_
          refine br_f (by decide) ?_
          refine yp_ok ht ?_
          refine br_f (by decide) ⟨vp_in_nI hf (by omega), ?_⟩
          rw [nI_clamp (n := fr) (by omega)]
          refine br_t ((hkk fr hf).trans z) ⟨(ct fr).length + 1, ?_⟩
          refine yk_rm37 hf (hys fr hf) z2 (fun x y hA => ?_) (ct fr).length (i := 0) (by omega) (by omega) ms_A0
          refine yk_keep ht (Or.inl ⟨rfl, rfl⟩) hA (by omega) hys (fun c => absurd c (by omega)) (fun _ a' b' s' hY => ⟨hr.symm, hI _ _ _ a' b' s' hY⟩)
        refine br_t z ?_
        refine xt_tidy F.1 F.2.1 F.2.2.1 (fun mm lm st fm' rm' fl' rl' i1 i2 i3 i4 hP' => ⟨vp_in_nI hf (by omega), nm_e ?_⟩)
        rcases hP' fr hf with ⟨w, _⟩ | ⟨w, w1, w2, w3⟩ | ⟨w, _⟩
        · exact absurd (z.symm.trans w) (by decide)
        · refine xm_find w1 (fun c v hc hg hv => br_f (nI_pos (by omega)) ?_) (fun hg => br_t ps_m1lt ?_)
          · rcases w1 with ⟨_, w1⟩ | ⟨_, w1⟩
            · rw [w1] at hg; exact absurd hg (by simp [ms_get])
            · refine xm_without w1 w2 (by omega) (by rw [hg]; simp) i1 (by omega) (fun x' m' r' dp mn pa g wo g1 g2 X hM => ?_)
              show wX_remove_60 _ _ _ _ _ _ _ _ _ _ _ _ _ _ _ _ _ _ _ _ _ _ _ _ _ _ _ _ _ _ _ _ _ _ _ _ _ _
              unfold wX_remove_60
              refine xp_map ht hM (by omega) (fun st' => ?_)
              refine Y rfl (fun n x y a' b' s' hY => ?_)
              exact rl_in (rl_put (ps_Im g2 i1) i3 (fun p p8 => xs_m X pl_X_r (hP' p p8)) hkk (Or.inr (Or.inl ⟨rfl, hM, ms_delS w2, hdl⟩)) hY)
          · have e := ms_del_none hg
            unfold wX_remove_60
            refine xp_map ht w1 (by omega) (fun st' => ?_)
            refine Y (by rw [e]) (fun n x y a' b' s' hY => ?_)
            rw [e] at hY
            exact rl_in (rl_put i1 i3 hP' hkk (Or.inr (Or.inl ⟨rfl, w1, w2, w3⟩)) hY)
        · exact absurd (z.symm.trans w) (by decide)
      · exact br_f (by rw [z]; decide) (no (by rw [z]; decide))
    · refine xn_bad hv ?_
      refine br_f (by decide) ?_
      show wpY_remove _ _ _ _ _
      unfold wpY_remove
      refine yp_ok hf ?_
      refine br_f (by decide) ?_
      refine yp_bad hv ?_
      exact br_t rfl ⟨rfl, rl_in F⟩
  · refine xn_bad hv ?_
    refine br_f (by decide) ?_
    show wpY_remove _ _ _ _ _
    unfold wpY_remove
    refine yp_bad hv ?_
    exact br_t rfl ⟨rfl, rl_in F⟩
end
end
section
/-! the reference's loops over lists -/
def m0 (xs : List Int32) : List (Int32 × Int32) := xs.map (fun x => (x, 0))
theorem m0_len (xs : List Int32) : (m0 xs).length = xs.length := List.length_map _
theorem m0_app (a b : List Int32) : m0 (a ++ b) = m0 a ++ m0 b := List.map_append
theorem m0_1 (v : Int32) : m0 [v] = [(v, 0)] := rfl
theorem pl_tk1 {xs : List Int32} {c : Nat} (h : c < xs.length) : xs.take (c + 1) = xs.take c ++ [xs.getD c 0] := by
  rw [← List.take_append_getElem h, List.getD_eq_getElem?_getD, List.getElem?_eq_getElem h]; rfl
theorem pl_seg_l {ws : List Int32} {a b : Nat} (h : ws.length ≤ b) : pl_seg ws a b = ws.drop a := by
  unfold pl_seg
  exact List.take_of_length_le (by rw [List.length_drop]; omega)
section
variable {g_n : Int32} {b_kind b_size b_a b_b b_x b_y : Nat → Int32}
variable {ct : Nat → List (Int32 × Int32)} {xs cur : List Int32} {p : Nat}
theorem yk_ad {post : SY → Prop} {v : Int32} (hA : ms_A b_x b_y (m0 cur)) (hl : cur.length < 100) (hp : ∀ x' y', ms_A x' y' (m0 (cur ++ [v])) → post (nI (cur ++ [v]).length, b_kind, b_size, b_a, b_b, x', y')) : wpY_add post (nI cur.length, b_kind, b_size, b_a, b_b, b_x, b_y) v := by
  have K := yk_add (post := post) (b_kind := b_kind) (b_size := b_size) (b_a := b_a) (b_b := b_b) (v := v) hA (by rw [m0_len]; exact hl) (fun x' y' h => by
    rw [← m0_1, ← m0_app, m0_len]
    exact hp x' y' (by rw [m0_app]; exact h))
  rw [m0_len] at K
  exact K
/-- an element of a list's place -/
theorem yk_el (hC : ys_P b_size b_a b_b ct p) (hx : ct p = m0 xs) : b_size p = nI xs.length ∧ xs.length ≤ 48 ∧ ∀ i, i < xs.length → b_a (50 * p + i) = xs.getD i 0 := by
  obtain ⟨o1, o2, o3⟩ := hC
  rw [hx, m0_len] at o1 o2 o3
  refine ⟨o1, o2, fun i hi => ?_⟩
  rw [(o3 i hi).1]
  exact congrArg Prod.fst (pl_mget hi)
/-- what insert has made before k -/
def pl_in (xs : List Int32) (i : Nat) (v : Int32) (c : Nat) : List Int32 := if c ≤ i then xs.take c else xs.take i ++ v :: pl_seg xs i c
theorem yk_in55 {post : Int32 → SY → Prop} {i to : Nat} {v : Int32} (hp8 : p < 8) (hC : ys_P b_size b_a b_b ct p) (hx : ct p = m0 xs) (hi : i ≤ xs.length)
    (hp : ∀ x y, ms_A x y (m0 (xs.take i ++ v :: xs.drop i)) → wpY_keep post (nI (xs.take i ++ v :: xs.drop i).length, b_kind, b_size, b_a, b_b, x, y) 2 (nI to)) :
    ∀ (d : Nat) {N c : Nat} {x y : Nat → Int32}, d < N → c + d = xs.length + 1 → ms_A x y (m0 (pl_in xs i v c)) → wY_insert_55 post (nI p) (nI i) v (nI to) N (nI c) (nI (pl_in xs i v c).length) b_kind b_size b_a b_b x y := by
  obtain ⟨o1, o2, o3⟩ := yk_el hC hx
  have hlen : ∀ c, (pl_in xs i v c).length ≤ 60 := by
    intro c
    unfold pl_in
    split
    · rw [List.length_take]; omega
    · rw [List.length_append, List.length_cons]
      unfold pl_seg
      rw [List.length_take, List.length_take, List.length_drop]; omega
  intro d
  induction d with
  | zero =>
    intro N c x y hN hc hA
    cases N with
    | zero => omega
    | succ N =>
      have e : pl_in xs i v c = xs.take i ++ v :: xs.drop i := by
        unfold pl_in; rw [if_neg (by omega), pl_seg_l (by omega)]
      refine And.intro (vp_in_nI hp8 (by omega)) ?_
      rw [nI_clamp (n := p) (by omega), o1]
      refine br_t (nI_lt (by omega) (by omega)) ?_
      rw [e] at hA ⊢
      exact hp x y hA
  | succ d ih =>
    intro N c x y hN hc hA
    cases N with
    | zero => omega
    | succ N =>
      -- the element behind it
      have sec : ∀ {cur : List Int32} {x' y' : Nat → Int32}, ms_A x' y' (m0 cur) → cur.length ≤ 70 → (c < xs.length → cur ++ [xs.getD c 0] = pl_in xs i v (c + 1)) → (c = xs.length → cur = pl_in xs i v (c + 1)) →
          wY_insert_77 post (wY_insert_55 post (nI p) (nI i) v (nI to) N) (nI p) (nI i) v (nI to) (nI c) (nI cur.length) b_kind b_size b_a b_b x' y' := by
        intro cur x' y' hA' hcl h1 h2
        refine And.intro (vp_in_nI hp8 (by omega)) ?_
        rw [nI_clamp (n := p) (by omega), o1]
        refine pk_le xs.length c (fun q => nm_r (nI_1 c) ?_) (fun q => ⟨by rw [ps_50]; exact vp_in_nI (by omega) (by omega), ?_⟩)
        · rw [h2 (by omega)] at hA' ⊢
          exact ih (by omega) (by omega) hA'
        · rw [ps_50, nI_clamp (n := 50 * p + c) (by omega), o3 c q]
          refine yk_ad hA' (by omega) (fun x2 y2 hA2 => nm_r (nI_1 c) ?_)
          rw [h1 q] at hA2 ⊢
          exact ih (by omega) (by omega) hA2
      have hlc := hlen c
      refine And.intro (vp_in_nI hp8 (by omega)) ?_
      rw [nI_clamp (n := p) (by omega), o1]
      refine br_f (nI_nlt (by omega) (by omega)) (pk_eq c i (fun q => ?_) (fun q => ?_))
      · subst q
        refine yk_ad hA (by omega) (fun x2 y2 hA2 => ?_)
        have e0 : pl_in xs c v c = xs.take c := if_pos (Nat.le_refl _)
        rw [e0] at hA2 hlc ⊢
        refine sec hA2 (by rw [List.length_append]; simp only [List.length_cons, List.length_nil]; omega) (fun q => ?_) (fun q => ?_)
        · unfold pl_in
          rw [if_neg (by omega), pl_seg_s (by omega) q, pl_seg_e (Nat.le_refl _)]
          simp
        · unfold pl_in
          rw [if_neg (by omega), pl_seg_l (by omega), q, List.drop_length]
      · refine sec hA (by omega) (fun q2 => ?_) (fun q2 => ?_)
        · by_cases q3 : c < i
          · unfold pl_in
            rw [if_pos (by omega), if_pos (by omega), pl_tk1 q2]
          · unfold pl_in
            rw [if_neg (by omega), if_neg (by omega), pl_seg_s (by omega) q2]
            simp
        · unfold pl_in
          rw [if_neg (by omega), if_neg (by omega), pl_seg_l (by omega), pl_seg_l (by omega)]
/-- what cut (w false) or part (w true) has made before c -/
def pl_so (xs : List Int32) (i j : Nat) (w : Bool) (c : Nat) : List Int32 := if w then pl_seg xs i (min c j) else xs.take (min c i) ++ pl_seg xs j c
theorem yk_so60 {post : Int32 → SY → Prop} {i j to : Nat} {w : Bool} (hp8 : p < 8) (hC : ys_P b_size b_a b_b ct p) (hx : ct p = m0 xs) (hij : i ≤ j) (hj : j ≤ xs.length)
    (hp : ∀ x y, ms_A x y (m0 (pl_so xs i j w xs.length)) → wpY_keep post (nI (pl_so xs i j w xs.length).length, b_kind, b_size, b_a, b_b, x, y) 2 (nI to)) :
    ∀ (d : Nat) {N c : Nat} {x y : Nat → Int32}, d < N → c + d = xs.length → ms_A x y (m0 (pl_so xs i j w c)) → wY_some_60 post (nI p) (nI i) (nI j) (nI to) (nI w.toNat) N (nI c) (nI (pl_so xs i j w c).length) b_kind b_size b_a b_b x y := by
  obtain ⟨o1, o2, o3⟩ := yk_el hC hx
  have hlen : ∀ c, (pl_so xs i j w c).length ≤ 97 := by
    intro c
    unfold pl_so pl_seg
    split
    · rw [List.length_take, List.length_drop]; omega
    · rw [List.length_append, List.length_take, List.length_take, List.length_drop]; omega
  intro d
  induction d with
  | zero =>
    intro N c x y hN hc hA
    have e : c = xs.length := by omega
    subst e
    cases N with
    | zero => omega
    | succ N =>
      refine And.intro (vp_in_nI hp8 (by omega)) ?_
      rw [nI_clamp (n := p) (by omega), o1]
      exact br_t (nI_le (by omega) (by omega)) (hp x y hA)
  | succ d ih =>
    intro N c x y hN hc hA
    have hlc := hlen c
    cases N with
    | zero => omega
    | succ N =>
      have ifs : ∀ b : Bool, b = decide (i ≤ c ∧ c < j) → wY_some_88 post (wY_some_60 post (nI p) (nI i) (nI j) (nI to) (nI w.toNat) N) (nI p) (nI i) (nI j) (nI to) (nI w.toNat) (nI c) (nI b.toNat) (nI (pl_so xs i j w c).length) b_kind b_size b_a b_b x y := by
        intro b hb
        refine pk_eq b.toNat w.toNat (fun q => ⟨by rw [ps_50]; exact vp_in_nI (by omega) (by omega), ?_⟩) (fun q => nm_r (nI_1 c) ?_) rfl rfl (by cases b <;> decide) (by cases w <;> decide)
        · rw [ps_50, nI_clamp (n := 50 * p + c) (by omega), o3 c (by omega)]
          refine yk_ad hA (by omega) (fun x2 y2 hA2 => nm_r (nI_1 c) ?_)
          have e : pl_so xs i j w c ++ [xs.getD c 0] = pl_so xs i j w (c + 1) := by
            have bw : b = w := by cases b <;> cases w <;> simp at q ⊢
            unfold pl_so
            cases w with
            | true =>
              have z : i ≤ c ∧ c < j := by rw [bw] at hb; exact of_decide_eq_true hb.symm
              rw [if_pos rfl, if_pos rfl, show min c j = c by omega, show min (c + 1) j = c + 1 by omega, pl_seg_s z.1 (by omega)]
            | false =>
              have z : ¬ (i ≤ c ∧ c < j) := by rw [bw] at hb; exact of_decide_eq_false hb.symm
              rw [if_neg (by simp), if_neg (by simp)]
              by_cases ci : c < i
              · rw [show min c i = c by omega, show min (c + 1) i = c + 1 by omega, pl_seg_e (by omega), pl_seg_e (by omega), List.append_nil, List.append_nil, pl_tk1 (by omega)]
              · rw [show min c i = i by omega, show min (c + 1) i = i by omega, pl_seg_s (by omega) (by omega), List.append_assoc]
          rw [e] at hA2 ⊢
          exact ih (by omega) (by omega) hA2
        · have e : pl_so xs i j w c = pl_so xs i j w (c + 1) := by
            unfold pl_so
            cases w with
            | true =>
              have bw : b = false := by cases b <;> simp at q ⊢
              have z : ¬ (i ≤ c ∧ c < j) := by rw [bw] at hb; exact of_decide_eq_false hb.symm
              rw [if_pos rfl, if_pos rfl]
              by_cases ci : c < i
              · rw [pl_seg_e (by omega), pl_seg_e (by omega)]
              · rw [show min c j = min (c + 1) j by omega]
            | false =>
              have bw : b = true := by cases b <;> simp at q ⊢
              have z : i ≤ c ∧ c < j := by rw [bw] at hb; exact of_decide_eq_true hb.symm
              rw [if_neg (by simp), if_neg (by simp), show min c i = min (c + 1) i by omega, pl_seg_e (ws := xs) (lo := j) (hi := c) (by omega), pl_seg_e (ws := xs) (lo := j) (hi := c + 1) (by omega)]
          rw [e] at hA ⊢
          exact ih (by omega) (by omega) hA
      refine And.intro (vp_in_nI hp8 (by omega)) ?_
      rw [nI_clamp (n := p) (by omega), o1]
      refine br_f (nI_ge (by omega) (by omega)) (pk_lt c i (fun q => ?_) (fun q => pk_le j c (fun q2 => ?_) (fun q2 => ?_)))
      · exact ifs false (decide_eq_false (by omega)).symm
      · exact ifs false (decide_eq_false (by omega)).symm
      · exact ifs true (decide_eq_true (by omega)).symm
theorem yk_jo90 {post : Int32 → SY → Prop} {to : Nat} {ys : List Int32} (hp8 : p < 8) (hC : ys_P b_size b_a b_b ct p) (hx : ct p = m0 xs) (hy : ys.length ≤ 48)
    (hp : ∀ x y, ms_A x y (m0 (ys ++ xs)) → wpY_keep post (nI (ys ++ xs).length, b_kind, b_size, b_a, b_b, x, y) 2 (nI to)) :
    ∀ (d : Nat) {N c : Nat} {x y : Nat → Int32}, d < N → c + d = xs.length → ms_A x y (m0 (ys ++ xs.take c)) → wY_join_90 post (nI p) (nI to) N (nI c) (nI (ys ++ xs.take c).length) b_kind b_size b_a b_b x y := by
  obtain ⟨o1, o2, o3⟩ := yk_el hC hx
  intro d
  induction d with
  | zero =>
    intro N c x y hN hc hA
    have e : c = xs.length := by omega
    subst e
    cases N with
    | zero => omega
    | succ N =>
      refine And.intro (vp_in_nI hp8 (by omega)) ?_
      rw [nI_clamp (n := p) (by omega), o1]
      refine br_t (nI_le (by omega) (by omega)) ?_
      rw [List.take_length] at hA ⊢
      exact hp x y hA
  | succ d ih =>
    intro N c x y hN hc hA
    cases N with
    | zero => omega
    | succ N =>
      refine And.intro (vp_in_nI hp8 (by omega)) ?_
      rw [nI_clamp (n := p) (by omega), o1]
      refine br_f (nI_ge (by omega) (by omega)) ⟨by rw [ps_50]; exact vp_in_nI (by omega) (by omega), ?_⟩
      rw [ps_50, nI_clamp (n := 50 * p + c) (by omega), o3 c (by omega)]
      refine yk_ad hA (by rw [List.length_append, List.length_take]; omega) (fun x2 y2 hA2 => nm_r (nI_1 c) ?_)
      rw [List.append_assoc, ← pl_tk1 (by omega)] at hA2 ⊢
      exact ih (by omega) (by omega) hA2
theorem yk_jo54 {post : Int32 → SY → Prop} {to q : Nat} {ys : List Int32} (hq8 : q < 8) (hp8 : p < 8) (hD : ys_P b_size b_a b_b ct q) (hC : ys_P b_size b_a b_b ct p) (hy : ct q = m0 ys) (hx : ct p = m0 xs)
    (hp : ∀ x y, ms_A x y (m0 (ys ++ xs)) → wpY_keep post (nI (ys ++ xs).length, b_kind, b_size, b_a, b_b, x, y) 2 (nI to)) :
    ∀ (d : Nat) {N c : Nat} {x y : Nat → Int32}, d < N → c + d = ys.length → ms_A x y (m0 (ys.take c)) → wY_join_54 post (nI q) (nI p) (nI to) N (nI c) (nI (ys.take c).length) b_kind b_size b_a b_b x y := by
  obtain ⟨o1, o2, o3⟩ := yk_el hD hy
  intro d
  induction d with
  | zero =>
    intro N c x y hN hc hA
    have e : c = ys.length := by omega
    subst e
    cases N with
    | zero => omega
    | succ N =>
      refine And.intro (vp_in_nI hq8 (by omega)) ?_
      rw [nI_clamp (n := q) (by omega), o1]
      refine br_t (nI_le (by omega) (by omega)) ⟨xs.length + 1, ?_⟩
      rw [List.take_length] at hA ⊢
      have K := yk_jo90 (post := post) (to := to) (ys := ys) (b_kind := b_kind) hp8 hC hx o2 hp xs.length (N := xs.length + 1) (c := 0) (x := x) (y := y) (by omega) (by omega) (by rw [List.take_zero, List.append_nil]; exact hA)
      rw [List.take_zero, List.append_nil] at K
      exact K
  | succ d ih =>
    intro N c x y hN hc hA
    cases N with
    | zero => omega
    | succ N =>
      refine And.intro (vp_in_nI hq8 (by omega)) ?_
      rw [nI_clamp (n := q) (by omega), o1]
      refine br_f (nI_ge (by omega) (by omega)) ⟨by rw [ps_50]; exact vp_in_nI (by omega) (by omega), ?_⟩
      rw [ps_50, nI_clamp (n := 50 * q + c) (by omega), o3 c (by omega)]
      refine yk_ad hA (by rw [List.length_take]; omega) (fun x2 y2 hA2 => nm_r (nI_1 c) ?_)
      rw [← pl_tk1 (by omega)] at hA2 ⊢
      exact ih (by omega) (by omega) hA2
theorem yk_tu43 {post : Int32 → SY → Prop} {to : Nat} (hp8 : p < 8) (hC : ys_P b_size b_a b_b ct p) (hx : ct p = m0 xs)
    (hp : ∀ x y, ms_A x y (m0 xs.reverse) → wpY_keep post (nI xs.reverse.length, b_kind, b_size, b_a, b_b, x, y) 2 (nI to)) :
    ∀ (c : Nat) {N : Nat} {x y : Nat → Int32}, c < N → c ≤ xs.length → ms_A x y (m0 (xs.drop c).reverse) → wY_turn_43 post (nI p) (nI to) N (nI c - 1) (nI (xs.drop c).reverse.length) b_kind b_size b_a b_b x y := by
  obtain ⟨o1, o2, o3⟩ := yk_el hC hx
  intro c
  induction c with
  | zero =>
    intro N x y hN hc hA
    cases N with
    | zero => omega
    | succ N => exact br_t (by decide) (hp x y hA)
  | succ c ih =>
    intro N x y hN hc hA
    cases N with
    | zero => omega
    | succ N =>
      rw [nI_pred]
      refine br_f (nI_pos (by omega)) ⟨by rw [ps_50]; exact vp_in_nI (by omega) (by omega), ?_⟩
      rw [ps_50, nI_clamp (n := 50 * p + c) (by omega), o3 c (by omega)]
      refine yk_ad hA (by rw [List.length_reverse, List.length_drop]; omega) (fun x2 y2 hA2 => nm_r (e' := nI c - 1) (Int32.sub_eq_add_neg ..).symm ?_)
      have e : (xs.drop (c + 1)).reverse ++ [xs.getD c 0] = (xs.drop c).reverse := by
        rw [List.drop_eq_getElem_cons (show c < xs.length by omega), List.reverse_cons, List.getD_eq_getElem?_getD, List.getElem?_eq_getElem (show c < xs.length by omega)]; rfl
      rw [e] at hA2 ⊢
      exact ih (by omega) (by omega) hA2
end
end
section
/-! insert, cut, part, join, turn -/
theorem xs_list {he ro : Nat → Int32} {Fm Fl : Nat → Prop} {m : MH} {h : LH} {ct : Nat → List (Int32 × Int32)} {p : Nat} {xs : List Int32} (H : xs_P he ro Fm m Fl h ct p) (hh : he p = 2) (hx : ct p = m0 xs) : ∃ k, pl_L Fl h (ro p) k xs ∧ xs.length ≤ 48 ∧ k ≤ 7 := by
  rcases H with ⟨z, _⟩ | ⟨z, _⟩ | ⟨_, ys, k, z0, z1, z2⟩
  · exact absurd (hh.symm.trans z) (by decide)
  · exact absurd (hh.symm.trans z) (by decide)
  · have e : ys = xs := pl_map0 (z0.symm.trans hx)
    subst e
    exact ⟨k, z1, z2, pl_k7 z1 z2⟩
theorem pl_C7 {k : Nat} (h : k ≤ 7) : pl_C k ≤ 52 := by
  have := pl_C_le h
  have e : pl_C 7 = 52 := by decide
  omega
section
variable {f_mapRoom f_listRoom f_depth f_many f_first f_second : Int32} {a_held a_root a_data a_links a_more a_keys a_values a_mapMark a_mapFree a_left a_right a_height a_size a_element a_listMark a_listFree a_path a_turns a_stack a_other a_gathered a_worth a_spareKey a_spareValue a_low a_high a_before a_behind : Nat → Int32} {a_total : Nat → Int64}
variable {g_n : Int32} {b_kind b_size b_a b_b b_x b_y : Nat → Int32}
variable {rm rl k : Nat} {ct : Nat → List (Int32 × Int32)} {m : MH} {h : LH} {fr to : Nat} {v : Int32} {xs ys : List Int32}
theorem yk_keepL {post : Int32 → SY → Prop} (ht : to < 8) (hA : ms_A b_x b_y (m0 ys)) (hl : ys.length < 100) (hC : ∀ p, p < 8 → ys_P b_size b_a b_b ct p) (hf : 48 < ys.length → post (-4) (nI ys.length, b_kind, b_size, b_a, b_b, b_x, b_y))
    (hp : ys.length ≤ 48 → ∀ a' b' s', (∀ p, p < 8 → ys_P s' a' b' (uc ct to (m0 ys)) p) → post (nI ys.length) (nI ys.length, upd b_kind to 2, s', a', b', b_x, b_y)) : wpY_keep post (nI ys.length, b_kind, b_size, b_a, b_b, b_x, b_y) 2 (nI to) := by
  have e := m0_len ys
  rw [← e] at hl hf hp ⊢
  exact yk_keep ht (Or.inr ⟨by decide, rfl⟩) hA hl hC hf hp
theorem yc_insert {post : Int32 → SY → Prop} {i : Nat} (hf : fr < 8) (ht : to < 8) (hk : b_kind fr = 2) (hC : ∀ p, p < 8 → ys_P b_size b_a b_b ct p) (hx : ct fr = m0 xs) (hi : i ≤ xs.length)
    (hfull : 48 < xs.length + 1 → ∀ n x y, post (-4) (n, b_kind, b_size, b_a, b_b, x, y))
    (hok : xs.length + 1 ≤ 48 → ∀ n x y a' b' s', (∀ p, p < 8 → ys_P s' a' b' (uc ct to (m0 (xs.take i ++ v :: xs.drop i))) p) → post (nI (xs.take i ++ v :: xs.drop i).length) (n, upd b_kind to 2, s', a', b', x, y)) :
    wpY_insert post (g_n, b_kind, b_size, b_a, b_b, b_x, b_y) (nI fr) (nI i) v (nI to) := by
  obtain ⟨o1, o2, o3⟩ := yk_el (hC fr hf) hx
  have hlen : (xs.take i ++ v :: xs.drop i).length = xs.length + 1 := by
    rw [List.length_append, List.length_cons, List.length_take, List.length_drop]; omega
  unfold wpY_insert
  refine yp_ok hf ?_
  refine br_f (by decide) ?_
  refine yp_ok ht ?_
  refine br_f (by decide) ⟨vp_in_nI hf (by omega), ?_⟩
  rw [nI_clamp (n := fr) (by omega), o1]
  refine br_t hk (br_f (nI_pos (by omega)) ⟨vp_in_nI hf (by omega), br_t (nI_le hi (by omega)) ⟨xs.length + 2, ?_⟩⟩)
  refine yk_in55 hf (hC fr hf) hx hi (fun x y hA => ?_) (xs.length + 1) (c := 0) (by omega) (by omega) ms_A0
  exact yk_keepL ht hA (by omega) hC (fun c => hfull (by omega) _ _ _) (fun c a' b' s' hY => hok (by omega) _ _ _ a' b' s' hY)
theorem vc_insert {v1 v2 v3 v4 : Int32} (F : rl_F rm rl ct a_held a_root a_mapFree a_listFree m h b_kind b_size b_a b_b) :
    wpX_insert (fun r u' => wpY_insert (fun r' v' => r' = r ∧ i_Rel (k + 5) u' v') (g_n, b_kind, b_size, b_a, b_b, b_x, b_y) v1 v2 v3 v4) (nI rm, nI rl, f_depth, f_many, f_first, f_second, a_held, a_root, m.1, m.2.1, m.2.2.1, m.2.2.2.1, m.2.2.2.2, a_mapMark, a_mapFree, h.1, h.2.1, h.2.2.1, h.2.2.2.1, h.2.2.2.2.1, h.2.2.2.2.2, a_listMark, a_listFree, a_path, a_turns, a_stack, a_other, a_gathered, a_worth, a_spareKey, a_spareValue, a_low, a_high, a_before, a_behind) v1 v2 v3 v4 := by
  unfold wpX_insert
  rcases yk_8 v1 with ⟨fr, hf, rfl⟩ | hv
  · refine xn_ok hf ?_
    refine br_t rfl ?_
    rcases yk_8 v4 with ⟨to, ht, rfl⟩ | hv
    · have hys := fun p hp => (F.2.2.2 p hp).2
      have hkk := fun p hp => (F.2.2.2 p hp).1
      refine xn_ok ht ?_
      refine br_t rfl ⟨vp_in_nI hf (by omega), ?_⟩
      rw [nI_clamp (n := fr) (by omega)]
      have no : ¬ a_held fr = 2 → wpY_insert (fun r' v' => r' = -2 ∧ i_Rel (k + 5) (nI rm, nI rl, f_depth, f_many, f_first, f_second, a_held, a_root, m.1, m.2.1, m.2.2.1, m.2.2.2.1, m.2.2.2.2, a_mapMark, a_mapFree, h.1, h.2.1, h.2.2.1, h.2.2.2.1, h.2.2.2.2.1, h.2.2.2.2.2, a_listMark, a_listFree, a_path, a_turns, a_stack, a_other, a_gathered, a_worth, a_spareKey, a_spareValue, a_low, a_high, a_before, a_behind) v') (g_n, b_kind, b_size, b_a, b_b, b_x, b_y) (nI fr) v2 v3 (nI to) := by
        intro z
        unfold wpY_insert
        refine yp_ok hf ?_
        refine br_f (by decide) ?_
        refine yp_ok ht ?_
        refine br_f (by decide) ⟨vp_in_nI hf (by omega), ?_⟩
        rw [nI_clamp (n := fr) (by omega), hkk fr hf]
        exact br_f z ⟨rfl, rl_in F⟩
      rcases F.2.2.1 fr hf with ⟨z, ze⟩ | ⟨z, z1, z2, z3⟩ | ⟨z, xs, kk, z0, z1, z2⟩
      · exact br_f (by rw [z]; decide) (no (by rw [z]; decide))
      · exact br_f (by rw [z]; decide) (no (by rw [z]; decide))
      · obtain ⟨o1, o2, o3⟩ := yk_el (hys fr hf) z0
        refine br_t z ⟨vp_in_nI hf (by omega), nm_e ?_⟩
        by_cases c1 : v2 < 0
        · refine br_t c1 ?_
          show wpY_insert _ _ _ _ _ _
          unfold wpY_insert
          refine yp_ok hf ?_
          refine br_f (by decide) ?_
          refine yp_ok ht ?_
          refine br_f (by decide) ⟨vp_in_nI hf (by omega), ?_⟩
          rw [nI_clamp (n := fr) (by omega), hkk fr hf]
          exact br_t z (br_t c1 ⟨rfl, rl_in F⟩)
        · refine br_f c1 ?_
          obtain ⟨i, hi, rfl⟩ := nI_of c1
          refine xl_length (pl_at_s z1) ?_
          refine pk_le i xs.length (fun c2 => ?_) (fun c2 => ?_)
          · refine xl_length (pl_at_s z1) ?_
            refine pk_eq xs.length 48 (fun c3 => ?_) (fun c3 => ?_)
            · exact yc_insert hf ht ((hkk fr hf).trans z) hys z0 c2 (fun _ n x y => ⟨rfl, rl_in F⟩) (fun c4 => absurd c4 (by omega))
            · refine xt_tidy F.1 F.2.1 F.2.2.1 (fun mm lm st fm' rm' fl' rl' i1 i2 i3 i4 hP' => ?_)
              obtain ⟨K, w1, w2, w3⟩ := xs_list (hP' fr hf) z z0
              have hC7 := pl_C7 w3
              refine xl_split i3 (by omega) (by omega) w1 c2 (by omega) (fun y1 y2 h' r' o' pa' tu' j1 j2 g1 g2 X L1 L2 q1 q2 => ?_)
              refine xl_link (ps_Im g2 i3) L1 L2 ?_ (by omega) (by omega) (by omega) (fun x h3 r3 o3 kr g3 g4 X3 L d1 d2 => ?_)
              · rw [List.length_take, List.length_drop]; omega
              · refine xp_list (q := 2) ht (by omega) (by omega) L ?_
                refine yc_insert hf ht ((hkk fr hf).trans z) hys z0 c2 (fun c4 => absurd c4 (by omega)) (fun _ n x y a' b' s' hY => ⟨rfl, ?_⟩)
                refine rl_in (rl_put i1 (ps_Im (by omega) i3) (fun p p8 => xs_m mp_X_r (pl_X_t X X3) (hP' p p8)) hkk (Or.inr (Or.inr ⟨rfl, _, kr, rfl, L, ?_⟩)) hY)
                rw [List.length_append, List.length_cons, List.length_take, List.length_drop]; omega
          · show wpY_insert _ _ _ _ _ _
            unfold wpY_insert
            refine yp_ok hf ?_
            refine br_f (by decide) ?_
            refine yp_ok ht ?_
            refine br_f (by decide) ⟨vp_in_nI hf (by omega), ?_⟩
            rw [nI_clamp (n := fr) (by omega), hkk fr hf, o1]
            exact br_t z (br_f c1 ⟨vp_in_nI hf (by omega), br_f (nI_ge c2 hi) ⟨rfl, rl_in F⟩⟩)
    · refine xn_bad hv ?_
      refine br_f (by decide) ?_
      show wpY_insert _ _ _ _ _ _
      unfold wpY_insert
      refine yp_ok hf ?_
      refine br_f (by decide) ?_
      refine yp_bad hv ?_
      exact br_t rfl ⟨rfl, rl_in F⟩
  · refine xn_bad hv ?_
    refine br_f (by decide) ?_
    show wpY_insert _ _ _ _ _ _
    unfold wpY_insert
    refine yp_bad hv ?_
    exact br_t rfl ⟨rfl, rl_in F⟩
/-- range and some refuse alike, or both go on -/
theorem vc_range {v1 v2 v3 v4 w : Int32} {post : Int32 → Prop} (F : rl_F rm rl ct a_held a_root a_mapFree a_listFree m h b_kind b_size b_a b_b)
    (hno : ∀ r : Int32, ¬ r = 0 → (∀ q : Int32 → SY → Prop, q r (g_n, b_kind, b_size, b_a, b_b, b_x, b_y) → wpY_some q (g_n, b_kind, b_size, b_a, b_b, b_x, b_y) v1 v2 v3 v4 w) → post r)
    (hgo : ∀ fr to i j xs, fr < 8 → to < 8 → v1 = nI fr → v4 = nI to → v2 = nI i → v3 = nI j → a_held fr = 2 → ct fr = m0 xs → i ≤ j → j ≤ xs.length → post 0) :
    wpX_range post (nI rm, nI rl, f_depth, f_many, f_first, f_second, a_held, a_root, m.1, m.2.1, m.2.2.1, m.2.2.2.1, m.2.2.2.2, a_mapMark, a_mapFree, h.1, h.2.1, h.2.2.1, h.2.2.2.1, h.2.2.2.2.1, h.2.2.2.2.2, a_listMark, a_listFree, a_path, a_turns, a_stack, a_other, a_gathered, a_worth, a_spareKey, a_spareValue, a_low, a_high, a_before, a_behind) v1 v2 v3 v4 := by
  unfold wpX_range
  rcases yk_8 v1 with ⟨fr, hf, rfl⟩ | hv
  · refine xn_ok hf ?_
    refine br_t rfl ?_
    rcases yk_8 v4 with ⟨to, ht, rfl⟩ | hv
    · have hys := fun p hp => (F.2.2.2 p hp).2
      have hkk := fun p hp => (F.2.2.2 p hp).1
      refine xn_ok ht ?_
      refine br_t rfl ⟨vp_in_nI hf (by omega), ?_⟩
      rw [nI_clamp (n := fr) (by omega)]
      have no : ¬ a_held fr = 2 → post (-2) := by
        intro z
        refine hno _ (by decide) (fun q hq => ?_)
        unfold wpY_some
        refine yp_ok hf ?_
        refine br_f (by decide) ?_
        refine yp_ok ht ?_
        refine br_f (by decide) ⟨vp_in_nI hf (by omega), ?_⟩
        rw [nI_clamp (n := fr) (by omega), hkk fr hf]
        exact br_f z hq
      rcases F.2.2.1 fr hf with ⟨z, ze⟩ | ⟨z, z1, z2, z3⟩ | ⟨z, xs, kk, z0, z1, z2⟩
      · exact br_f (by rw [z]; decide) (no (by rw [z]; decide))
      · exact br_f (by rw [z]; decide) (no (by rw [z]; decide))
      · obtain ⟨o1, o2, o3⟩ := yk_el (hys fr hf) z0
        refine br_t z ?_
        have Y : ∀ q : Int32 → SY → Prop, ((v2 < 0 → q (-3) (g_n, b_kind, b_size, b_a, b_b, b_x, b_y)) ∧ (¬ v2 < 0 → ((v3 < v2 → q (-3) (g_n, b_kind, b_size, b_a, b_b, b_x, b_y)) ∧ (¬ v3 < v2 → (vp_in (nI fr) 8 ∧ ((v3 ≤ nI xs.length → ∃ n60, wY_some_60 q (nI fr) v2 v3 (nI to) w n60 0 0 b_kind b_size b_a b_b b_x b_y) ∧ (¬ v3 ≤ nI xs.length → q (-3) (g_n, b_kind, b_size, b_a, b_b, b_x, b_y)))))))) → wpY_some q (g_n, b_kind, b_size, b_a, b_b, b_x, b_y) (nI fr) v2 v3 (nI to) w := by
          intro q hq
          unfold wpY_some
          refine yp_ok hf ?_
          refine br_f (by decide) ?_
          refine yp_ok ht ?_
          refine br_f (by decide) ⟨vp_in_nI hf (by omega), ?_⟩
          rw [nI_clamp (n := fr) (by omega), hkk fr hf, o1]
          exact br_t z hq
        refine br_c (fun c1 => hno _ (by decide) (fun q hq => Y q (br_t c1 hq))) (fun c1 => br_c (fun c2 => hno _ (by decide) (fun q hq => Y q (br_f c1 (br_t c2 hq)))) (fun c2 => ⟨vp_in_nI hf (by omega), ?_⟩))
        refine xl_length (pl_at_s z1) ?_
        refine br_c (fun c3 => ?_) (fun c3 => hno _ (by decide) (fun q hq => Y q (br_f c1 (br_f c2 ⟨vp_in_nI hf (by omega), br_f c3 hq⟩))))
        obtain ⟨i, hi, rfl⟩ := nI_of c1
        have c4 : ¬ v3 < 0 := fun zz => c2 (Int32.lt_of_lt_of_le zz (nI_pos' hi))
        obtain ⟨j, hj, rfl⟩ := nI_of c4
        rw [nI_ltI hj hi] at c2
        rw [nI_leI hj (by omega)] at c3
        exact hgo fr to i j xs hf ht rfl rfl rfl rfl z z0 (by omega) c3
    · refine xn_bad hv ?_
      refine br_f (by decide) ?_
      refine hno _ (by decide) (fun q hq => ?_)
      unfold wpY_some
      refine yp_ok hf ?_
      refine br_f (by decide) ?_
      refine yp_bad hv ?_
      exact br_t rfl hq
  · refine xn_bad hv ?_
    refine br_f (by decide) ?_
    refine hno _ (by decide) (fun q hq => ?_)
    unfold wpY_some
    refine yp_bad hv ?_
    exact br_t rfl hq
theorem yc_some {post : Int32 → SY → Prop} {i j : Nat} {w : Bool} (hf : fr < 8) (ht : to < 8) (hk : b_kind fr = 2) (hC : ∀ p, p < 8 → ys_P b_size b_a b_b ct p) (hx : ct fr = m0 xs) (hij : i ≤ j) (hj : j ≤ xs.length)
    (hl : (pl_so xs i j w xs.length).length ≤ 48)
    (hok : ∀ n x y a' b' s', (∀ p, p < 8 → ys_P s' a' b' (uc ct to (m0 (pl_so xs i j w xs.length))) p) → post (nI (pl_so xs i j w xs.length).length) (n, upd b_kind to 2, s', a', b', x, y)) :
    wpY_some post (g_n, b_kind, b_size, b_a, b_b, b_x, b_y) (nI fr) (nI i) (nI j) (nI to) (nI w.toNat) := by
  obtain ⟨o1, o2, o3⟩ := yk_el (hC fr hf) hx
  unfold wpY_some
  refine yp_ok hf ?_
  refine br_f (by decide) ?_
  refine yp_ok ht ?_
  refine br_f (by decide) ⟨vp_in_nI hf (by omega), ?_⟩
  rw [nI_clamp (n := fr) (by omega), o1]
  refine br_t hk (br_f (nI_pos (by omega)) (br_f (nI_nlt hij (by omega)) ⟨vp_in_nI hf (by omega), br_t (nI_le hj (by omega)) ⟨xs.length + 1, ?_⟩⟩))
  have e0 : pl_so xs i j w 0 = [] := by
    unfold pl_so
    split
    · exact pl_seg_e (by omega)
    · rw [pl_seg_e (by omega), show min 0 i = 0 by omega]; rfl
  have K := yk_so60 (post := post) (i := i) (j := j) (to := to) (w := w) (b_kind := b_kind) hf (hC fr hf) hx hij hj (fun x y hA => yk_keepL ht hA (by omega) hC (fun c => absurd c (by omega)) (fun c a' b' s' hY => hok _ _ _ a' b' s' hY)) xs.length (N := xs.length + 1) (c := 0) (x := b_x) (y := b_y) (by omega) (by omega) (by rw [e0]; exact ms_A0)
  rw [e0] at K
  exact K
end
end
section
/-! cut, part, join, turn -/
section
variable {f_mapRoom f_listRoom f_depth f_many f_first f_second : Int32} {a_held a_root a_data a_links a_more a_keys a_values a_mapMark a_mapFree a_left a_right a_height a_size a_element a_listMark a_listFree a_path a_turns a_stack a_other a_gathered a_worth a_spareKey a_spareValue a_low a_high a_before a_behind : Nat → Int32} {a_total : Nat → Int64}
variable {g_n : Int32} {b_kind b_size b_a b_b b_x b_y : Nat → Int32}
variable {rm rl k : Nat} {ct : Nat → List (Int32 × Int32)} {m : MH} {h : LH}
theorem vc_cut {v1 v2 v3 v4 : Int32} (F : rl_F rm rl ct a_held a_root a_mapFree a_listFree m h b_kind b_size b_a b_b) :
    wpX_cut (fun r u' => wpY_cut (fun r' v' => r' = r ∧ i_Rel (k + 5) u' v') (g_n, b_kind, b_size, b_a, b_b, b_x, b_y) v1 v2 v3 v4) (nI rm, nI rl, f_depth, f_many, f_first, f_second, a_held, a_root, m.1, m.2.1, m.2.2.1, m.2.2.2.1, m.2.2.2.2, a_mapMark, a_mapFree, h.1, h.2.1, h.2.2.1, h.2.2.2.1, h.2.2.2.2.1, h.2.2.2.2.2, a_listMark, a_listFree, a_path, a_turns, a_stack, a_other, a_gathered, a_worth, a_spareKey, a_spareValue, a_low, a_high, a_before, a_behind) v1 v2 v3 v4 := by
  have hys := fun p hp => (F.2.2.2 p hp).2
  have hkk := fun p hp => (F.2.2.2 p hp).1
  unfold wpX_cut
  refine vc_range (g_n := g_n) (b_x := b_x) (b_y := b_y) (w := 0) F (fun r hr hq => br_f hr ?_) (fun fr to i j xs hf ht e1 e4 e2 e3 z z0 hij hj => br_t rfl ?_)
  · show wpY_cut _ _ _ _ _ _
    unfold wpY_cut
    exact hq _ ⟨rfl, rl_in F⟩
  · subst e1 e4 e2 e3
    refine xt_tidy F.1 F.2.1 F.2.2.1 (fun mm lm st fm' rm' fl' rl' i1 i2 i3 i4 hP' => ⟨vp_in_nI hf (by omega), ?_⟩)
    rw [nI_clamp (n := fr) (by omega)]
    obtain ⟨K, w1, w2, w3⟩ := xs_list (hP' fr hf) z z0
    have hC7 := pl_C7 w3
    refine xl_split i3 (by omega) (by omega) w1 hj (by omega) (fun y1 y2 h' r' o' pa' tu' j1 j2 g1 g2 X L1 L2 q1 q2 => ?_)
    have hC1 := pl_C7 (k := j1) (by omega)
    have hC2 := pl_C7 (k := j2) (by omega)
    have hlt : (xs.take j).length = j := by rw [List.length_take]; omega
    refine xl_split (ps_Im g2 i3) (by omega) (by omega) L1 (by omega) (by omega) (fun z1 z2 h3 r3 o3 pa3 tu3 l1 l2 g3 g4 X3 M1 M2 q3 q4 => ?_)
    rw [List.take_take, show min i j = i by omega] at M1
    have hlen : (xs.take i).length + (xs.drop j).length ≤ 48 := by rw [List.length_take, List.length_drop]; omega
    refine xl_joined (ps_Im (by omega) i3) M1 (pl_mono X3 L2) (by omega) (by omega) (by omega) (by omega) (fun x h4 r4 o4 pa4 tu4 dp fi se kr g5 g6 X4 L => ?_)
    refine xp_list (q := 2) ht (by omega) (by omega) L ?_
    show wpY_cut _ _ _ _ _ _
    unfold wpY_cut
    have e : pl_so xs i j false xs.length = xs.take i ++ xs.drop j := by
      unfold pl_so
      rw [if_neg (by simp), show min xs.length i = i by omega, pl_seg_l (Nat.le_refl _)]
    refine yc_some (w := false) hf ht ((hkk fr hf).trans z) hys z0 hij hj (by rw [e, List.length_append]; exact hlen) (fun n x y a' b' s' hY => ⟨by rw [e], ?_⟩)
    rw [e] at hY
    exact rl_in (rl_put i1 (ps_Im (by omega) i3) (fun p p8 => xs_m mp_X_r (pl_X_t X (pl_X_t X3 X4)) (hP' p p8)) hkk (Or.inr (Or.inr ⟨rfl, _, kr, rfl, L, by rw [List.length_append]; exact hlen⟩)) hY)
theorem vc_part {v1 v2 v3 v4 : Int32} (F : rl_F rm rl ct a_held a_root a_mapFree a_listFree m h b_kind b_size b_a b_b) :
    wpX_part (fun r u' => wpY_part (fun r' v' => r' = r ∧ i_Rel (k + 5) u' v') (g_n, b_kind, b_size, b_a, b_b, b_x, b_y) v1 v2 v3 v4) (nI rm, nI rl, f_depth, f_many, f_first, f_second, a_held, a_root, m.1, m.2.1, m.2.2.1, m.2.2.2.1, m.2.2.2.2, a_mapMark, a_mapFree, h.1, h.2.1, h.2.2.1, h.2.2.2.1, h.2.2.2.2.1, h.2.2.2.2.2, a_listMark, a_listFree, a_path, a_turns, a_stack, a_other, a_gathered, a_worth, a_spareKey, a_spareValue, a_low, a_high, a_before, a_behind) v1 v2 v3 v4 := by
  have hys := fun p hp => (F.2.2.2 p hp).2
  have hkk := fun p hp => (F.2.2.2 p hp).1
  unfold wpX_part
  refine vc_range (g_n := g_n) (b_x := b_x) (b_y := b_y) (w := 1) F (fun r hr hq => br_f hr ?_) (fun fr to i j xs hf ht e1 e4 e2 e3 z z0 hij hj => br_t rfl ?_)
  · show wpY_part _ _ _ _ _ _
    unfold wpY_part
    exact hq _ ⟨rfl, rl_in F⟩
  · subst e1 e4 e2 e3
    refine xt_tidy F.1 F.2.1 F.2.2.1 (fun mm lm st fm' rm' fl' rl' i1 i2 i3 i4 hP' => ⟨vp_in_nI hf (by omega), ?_⟩)
    rw [nI_clamp (n := fr) (by omega)]
    obtain ⟨K, w1, w2, w3⟩ := xs_list (hP' fr hf) z z0
    have hC7 := pl_C7 w3
    refine xl_split i3 (by omega) (by omega) w1 hj (by omega) (fun y1 y2 h' r' o' pa' tu' j1 j2 g1 g2 X L1 L2 q1 q2 => ?_)
    have hC1 := pl_C7 (k := j1) (by omega)
    have hlt : (xs.take j).length = j := by rw [List.length_take]; omega
    refine xl_split (ps_Im g2 i3) (by omega) (by omega) L1 (by omega) (by omega) (fun z1 z2 h3 r3 o3 pa3 tu3 l1 l2 g3 g4 X3 M1 M2 q3 q4 => ?_)
    have hlen : ((xs.take j).drop i).length ≤ 48 := by rw [List.length_drop, hlt]; omega
    refine xp_list (q := 2) ht (by omega) (by omega) M2 ?_
    show wpY_part _ _ _ _ _ _
    unfold wpY_part
    have e : pl_so xs i j true xs.length = (xs.take j).drop i := by
      unfold pl_so
      rw [if_pos rfl, show min xs.length j = j by omega]
      unfold pl_seg
      rw [List.drop_take]
    refine yc_some (w := true) hf ht ((hkk fr hf).trans z) hys z0 hij hj (by rw [e]; exact hlen) (fun n x y a' b' s' hY => ⟨by rw [e], ?_⟩)
    rw [e] at hY
    exact rl_in (rl_put i1 (ps_Im (by omega) i3) (fun p p8 => xs_m mp_X_r (pl_X_t X X3) (hP' p p8)) hkk (Or.inr (Or.inr ⟨rfl, _, l2, rfl, M2, hlen⟩)) hY)
theorem vc_join {v1 v2 v3 : Int32} (F : rl_F rm rl ct a_held a_root a_mapFree a_listFree m h b_kind b_size b_a b_b) :
    wpX_join (fun r u' => wpY_join (fun r' v' => r' = r ∧ i_Rel (k + 5) u' v') (g_n, b_kind, b_size, b_a, b_b, b_x, b_y) v1 v2 v3) (nI rm, nI rl, f_depth, f_many, f_first, f_second, a_held, a_root, m.1, m.2.1, m.2.2.1, m.2.2.2.1, m.2.2.2.2, a_mapMark, a_mapFree, h.1, h.2.1, h.2.2.1, h.2.2.2.1, h.2.2.2.2.1, h.2.2.2.2.2, a_listMark, a_listFree, a_path, a_turns, a_stack, a_other, a_gathered, a_worth, a_spareKey, a_spareValue, a_low, a_high, a_before, a_behind) v1 v2 v3 := by
  have hys := fun p hp => (F.2.2.2 p hp).2
  have hkk := fun p hp => (F.2.2.2 p hp).1
  unfold wpX_join
  rcases yk_8 v1 with ⟨a, ha, rfl⟩ | hv
  · refine xn_ok ha ?_
    refine br_t rfl ?_
    rcases yk_8 v2 with ⟨b, hb, rfl⟩ | hv
    · refine xn_ok hb ?_
      refine br_t rfl ?_
      rcases yk_8 v3 with ⟨to, ht, rfl⟩ | hv
      · refine xn_ok ht ?_
        refine br_t rfl ⟨vp_in_nI ha (by omega), ?_⟩
        rw [nI_clamp (n := a) (by omega), nI_clamp (n := b) (by omega)]
        have Y : ∀ q : Int32 → SY → Prop, ((a_held a = 2 → (vp_in (nI b) 8 ∧ ((a_held b = 2 → ∃ n54, wY_join_54 q (nI a) (nI b) (nI to) n54 0 0 b_kind b_size b_a b_b b_x b_y) ∧ (¬ a_held b = 2 → q (-2) (g_n, b_kind, b_size, b_a, b_b, b_x, b_y))))) ∧ (¬ a_held a = 2 → q (-2) (g_n, b_kind, b_size, b_a, b_b, b_x, b_y))) → wpY_join q (g_n, b_kind, b_size, b_a, b_b, b_x, b_y) (nI a) (nI b) (nI to) := by
          intro q hq
          unfold wpY_join
          refine yp_ok ha ?_
          refine br_f (by decide) ?_
          refine yp_ok hb ?_
          refine br_f (by decide) ?_
          refine yp_ok ht ?_
          refine br_f (by decide) ⟨vp_in_nI ha (by omega), ?_⟩
          rw [nI_clamp (n := a) (by omega), nI_clamp (n := b) (by omega), hkk a ha, hkk b hb]
          exact hq
        by_cases cA : a_held a = 2
        · refine br_t cA ⟨vp_in_nI hb (by omega), ?_⟩
          by_cases cB : a_held b = 2
          · rcases F.2.2.1 a ha with ⟨z, _⟩ | ⟨z, _⟩ | ⟨z, xs, kk, z0, z1, z2⟩
            · exact absurd (cA.symm.trans z) (by decide)
            · exact absurd (cA.symm.trans z) (by decide)
            rcases F.2.2.1 b hb with ⟨w, _⟩ | ⟨w, _⟩ | ⟨w, ys, kk2, w0, w1, w2⟩
            · exact absurd (cB.symm.trans w) (by decide)
            · exact absurd (cB.symm.trans w) (by decide)
            have YY : ∀ q : Int32 → SY → Prop, (48 < (xs ++ ys).length → ∀ n x y, q (-4) (n, b_kind, b_size, b_a, b_b, x, y)) → ((xs ++ ys).length ≤ 48 → ∀ n x y a' b' s', (∀ p, p < 8 → ys_P s' a' b' (uc ct to (m0 (xs ++ ys))) p) → q (nI (xs ++ ys).length) (n, upd b_kind to 2, s', a', b', x, y)) → wpY_join q (g_n, b_kind, b_size, b_a, b_b, b_x, b_y) (nI a) (nI b) (nI to) := by
              intro q h4 hk
              refine Y q (br_t z ⟨vp_in_nI hb (by omega), br_t w ⟨xs.length + 1, ?_⟩⟩)
              refine yk_jo54 ha hb (hys a ha) (hys b hb) z0 w0 (fun x y hA => ?_) xs.length (c := 0) (by omega) (by omega) ms_A0
              exact yk_keepL ht hA (by rw [List.length_append]; omega) hys (fun c => h4 c _ _ _) (fun c a' b' s' hY => hk c _ _ _ a' b' s' hY)
            refine br_t cB ⟨vp_in_nI ha (by omega), nm_e ⟨vp_in_nI hb (by omega), nm_e ?_⟩⟩
            refine xl_length (pl_at_s z1) ?_
            refine xl_length (pl_at_s w1) ?_
            refine pk_le (xs.length + ys.length) 48 (fun c => ?_) (fun c => ?_) (nI_add _ _) rfl
            · refine xt_tidy F.1 F.2.1 F.2.2.1 (fun mm lm st fm' rm' fl' rl' i1 i2 i3 i4 hP' => ?_)
              obtain ⟨K1, s1, s2, s3⟩ := xs_list (hP' a ha) z z0
              obtain ⟨K2, t1, t2, t3⟩ := xs_list (hP' b hb) w w0
              have hC2 := pl_C7 t3
              refine xl_joined i3 s1 t1 (by omega) (by omega) (by omega) (by omega) (fun x h4 r4 o4 pa4 tu4 dp fi se kr g5 g6 X4 L => ?_)
              refine xp_list (q := 2) ht (by omega) (by omega) L ?_
              refine YY _ (fun c2 => absurd c2 (by rw [List.length_append]; omega)) (fun _ n x y a' b' s' hY => ⟨rfl, ?_⟩)
              exact rl_in (rl_put i1 (ps_Im g6 i3) (fun p p8 => xs_m mp_X_r X4 (hP' p p8)) hkk (Or.inr (Or.inr ⟨rfl, _, kr, rfl, L, by rw [List.length_append]; omega⟩)) hY)
            · refine YY _ (fun _ n x y => ⟨rfl, rl_in F⟩) (fun c2 => absurd c2 (by rw [List.length_append]; omega))
          · refine br_f cB ?_
            exact Y _ (br_t cA ⟨vp_in_nI hb (by omega), br_f cB ⟨rfl, rl_in F⟩⟩)
        · refine br_f cA ?_
          exact Y _ (br_f cA ⟨rfl, rl_in F⟩)
      · refine xn_bad hv ?_
        refine br_f (by decide) ?_
        show wpY_join _ _ _ _ _
        unfold wpY_join
        refine yp_ok ha ?_
        refine br_f (by decide) ?_
        refine yp_ok hb ?_
        refine br_f (by decide) ?_
        refine yp_bad hv ?_
        exact br_t rfl ⟨rfl, rl_in F⟩
    · refine xn_bad hv ?_
      refine br_f (by decide) ?_
      show wpY_join _ _ _ _ _
      unfold wpY_join
      refine yp_ok ha ?_
      refine br_f (by decide) ?_
      refine yp_bad hv ?_
      exact br_t rfl ⟨rfl, rl_in F⟩
  · refine xn_bad hv ?_
    refine br_f (by decide) ?_
    show wpY_join _ _ _ _ _
    unfold wpY_join
    refine yp_bad hv ?_
    exact br_t rfl ⟨rfl, rl_in F⟩
theorem pl_revg {xs : List Int32} {i : Nat} (hi : i < xs.length) : xs.getD (xs.length - 1 - i) 0 = xs.reverse.getD i 0 := by
  rw [List.getD_eq_getElem?_getD, List.getD_eq_getElem?_getD, List.getElem?_reverse hi]
theorem vc_turn {v1 v2 : Int32} (F : rl_F rm rl ct a_held a_root a_mapFree a_listFree m h b_kind b_size b_a b_b) :
    wpX_turn (fun r u' => wpY_turn (fun r' v' => r' = r ∧ i_Rel (k + 5) u' v') (g_n, b_kind, b_size, b_a, b_b, b_x, b_y) v1 v2) (nI rm, nI rl, f_depth, f_many, f_first, f_second, a_held, a_root, m.1, m.2.1, m.2.2.1, m.2.2.2.1, m.2.2.2.2, a_mapMark, a_mapFree, h.1, h.2.1, h.2.2.1, h.2.2.2.1, h.2.2.2.2.1, h.2.2.2.2.2, a_listMark, a_listFree, a_path, a_turns, a_stack, a_other, a_gathered, a_worth, a_spareKey, a_spareValue, a_low, a_high, a_before, a_behind) v1 v2 := by
  have hys := fun p hp => (F.2.2.2 p hp).2
  have hkk := fun p hp => (F.2.2.2 p hp).1
  unfold wpX_turn
  rcases yk_8 v1 with ⟨fr, hf, rfl⟩ | hv
  · refine xn_ok hf ?_
    refine br_t rfl ?_
    rcases yk_8 v2 with ⟨to, ht, rfl⟩ | hv
    · refine xn_ok ht ?_
      refine br_t rfl ⟨vp_in_nI hf (by omega), ?_⟩
      rw [nI_clamp (n := fr) (by omega)]
      have no : ¬ a_held fr = 2 → wpY_turn (fun r' v' => r' = -2 ∧ i_Rel (k + 5) (nI rm, nI rl, f_depth, f_many, f_first, f_second, a_held, a_root, m.1, m.2.1, m.2.2.1, m.2.2.2.1, m.2.2.2.2, a_mapMark, a_mapFree, h.1, h.2.1, h.2.2.1, h.2.2.2.1, h.2.2.2.2.1, h.2.2.2.2.2, a_listMark, a_listFree, a_path, a_turns, a_stack, a_other, a_gathered, a_worth, a_spareKey, a_spareValue, a_low, a_high, a_before, a_behind) v') (g_n, b_kind, b_size, b_a, b_b, b_x, b_y) (nI fr) (nI to) := by
        intro z
        unfold wpY_turn
        refine yp_ok hf ?_
        refine br_f (by decide) ?_
        refine yp_ok ht ?_
        refine br_f (by decide) ⟨vp_in_nI hf (by omega), ?_⟩
        rw [nI_clamp (n := fr) (by omega), hkk fr hf]
        exact br_f z ⟨rfl, rl_in F⟩
      rcases F.2.2.1 fr hf with ⟨z, ze⟩ | ⟨z, z1, z2, z3⟩ | ⟨z, xs, kk, z0, z1, z2⟩
      · exact br_f (by rw [z]; decide) (no (by rw [z]; decide))
      · exact br_f (by rw [z]; decide) (no (by rw [z]; decide))
      · obtain ⟨o1, o2, o3⟩ := yk_el (hys fr hf) z0
        refine br_t z ?_
        refine xt_tidy F.1 F.2.1 F.2.2.1 (fun mm lm st fm' rm' fl' rl' i1 i2 i3 i4 hP' => ⟨vp_in_nI hf (by omega), ?_⟩)
        obtain ⟨K, w1, w2, w3⟩ := xs_list (hP' fr hf) z z0
        refine xl_spread w1 (by omega) (fun g' st' hA => ?_)
        refine xl_treeOf (ws := xs.reverse) (by omega) (by rw [List.length_reverse]) (fun i hi => ?_) i3 (by omega) (fun x h' r' o' al ah bf bh kr g1 g2 X L => ?_)
        · rw [if_neg (by decide), hA _ (by omega)]
          exact pl_revg hi
        · refine xp_list (q := 2) ht (by omega) (by omega) L ?_
          show wpY_turn _ _ _ _
          unfold wpY_turn
          refine yp_ok hf ?_
          refine br_f (by decide) ?_
          refine yp_ok ht ?_
          refine br_f (by decide) ⟨vp_in_nI hf (by omega), ?_⟩
          rw [nI_clamp (n := fr) (by omega), o1]
          refine br_t ((hkk fr hf).trans z) ⟨vp_in_nI hf (by omega), nm_e ⟨xs.length + 1, ?_⟩⟩
          have e0 : (xs.drop xs.length).reverse = [] := by rw [List.drop_length]; rfl
          have Q := yk_tu43 (post := fun ra va => ra = nI xs.reverse.length ∧ i_Rel (k + 5) (nI rm', nI r', f_depth, nI xs.length, f_first, f_second, upd a_held to (nI 2), upd a_root to x, m.1, m.2.1, m.2.2.1, m.2.2.2.1, m.2.2.2.2, mm, fm', h'.1, h'.2.1, h'.2.2.1, h'.2.2.2.1, h'.2.2.2.2.1, h'.2.2.2.2.2, lm, fl', a_path, a_turns, st', o', g', a_worth, a_spareKey, a_spareValue, al, ah, bf, bh) va) (to := to) (b_kind := b_kind) hf (hys fr hf) z0 (fun x2 y2 hA2 => yk_keepL ht hA2 (by rw [List.length_reverse]; omega) hys (fun c => absurd c (by rw [List.length_reverse]; omega)) (fun _ a' b' s' hY => ⟨rfl, ?_⟩)) xs.length (N := xs.length + 1) (x := b_x) (y := b_y) (by omega) (by omega) (by rw [e0]; exact ms_A0)
          · rw [e0] at Q
            exact Q
          · exact rl_in (rl_put i1 (ps_Im g2 i3) (fun p p8 => xs_m mp_X_r X (hP' p p8)) hkk (Or.inr (Or.inr ⟨rfl, _, kr, rfl, L, by rw [List.length_reverse]; omega⟩)) hY)
    · refine xn_bad hv ?_
      refine br_f (by decide) ?_
      show wpY_turn _ _ _ _
      unfold wpY_turn
      refine yp_ok hf ?_
      refine br_f (by decide) ?_
      refine yp_bad hv ?_
      exact br_t rfl ⟨rfl, rl_in F⟩
  · refine xn_bad hv ?_
    refine br_f (by decide) ?_
    show wpY_turn _ _ _ _
    unfold wpY_turn
    refine yp_bad hv ?_
    exact br_t rfl ⟨rfl, rl_in F⟩
end
end
section
/-! spare, mapOf, tally -/
section
variable {f_mapRoom f_listRoom f_depth f_many f_first f_second : Int32} {a_held a_root a_data a_links a_more a_keys a_values a_mapMark a_mapFree a_left a_right a_height a_size a_element a_listMark a_listFree a_path a_turns a_stack a_other a_gathered a_worth a_spareKey a_spareValue a_low a_high a_before a_behind : Nat → Int32} {a_total : Nat → Int64}
variable {es : List (Int32 × Int32)} {g wo : Nat → Int32}
/-- i of the entries are put by -/
theorem xm_spare {post : SX → Prop} {i : Nat} {sk sv : Nat → Int32} (hA : ms_A g wo es) (hl : es.length ≤ 64) (hi : i < es.length) (hS : ms_A sk sv (es.take i))
    (hp : ∀ sk' sv', ms_A sk' sv' (es.take (i + 1)) → post (f_mapRoom, f_listRoom, f_depth, f_many, f_first, f_second, a_held, a_root, a_data, a_links, a_more, a_keys, a_values, a_mapMark, a_mapFree, a_left, a_right, a_height, a_size, a_element, a_total, a_listMark, a_listFree, a_path, a_turns, a_stack, a_other, g, wo, sk', sv', a_low, a_high, a_before, a_behind)) : wpX_spare post (f_mapRoom, f_listRoom, f_depth, f_many, f_first, f_second, a_held, a_root, a_data, a_links, a_more, a_keys, a_values, a_mapMark, a_mapFree, a_left, a_right, a_height, a_size, a_element, a_total, a_listMark, a_listFree, a_path, a_turns, a_stack, a_other, g, wo, sk, sv, a_low, a_high, a_before, a_behind) (nI i) := by
  have q := ms_Ag hA hi
  have eli : (es.take i).length = i := by rw [List.length_take]; omega
  refine And.intro (vp_in_nI (by omega) (by omega)) ⟨vp_in_nI (by omega) (by omega), nm_r (e' := upd sk i (es.getD i (0, 0)).1) (by rw [nI_clamp (by omega), q.1]) ⟨vp_in_nI (by omega) (by omega), vp_in_nI (by omega) (by omega), nm_r (e' := upd sv i (es.getD i (0, 0)).2) (by rw [nI_clamp (by omega), q.2]) (hp _ _ ?_)⟩⟩
  have := ms_Ap (k := (es.getD i (0, 0)).1) (v := (es.getD i (0, 0)).2) hS
  rw [eli] at this
  rw [ms_take hi]
  exact this
end
theorem ms_takeS {es : List (Int32 × Int32)} (hS : ms_S es) (i : Nat) : ms_S (es.take i) := List.Pairwise.sublist (List.take_sublist i _) hS
theorem ms_ins_tk {es : List (Int32 × Int32)} (hS : ms_S es) {i : Nat} (hi : i < es.length) : ms_ins (es.getD i (0, 0)).1 (es.getD i (0, 0)).2 (es.take i) = es.take (i + 1) := by
  rw [ms_ins_end (ms_S_tk hS hi), ms_take hi]
theorem mp_M_m {F F' : Nat → Prop} {m m' : MH} {x : Int32} {es : List (Int32 × Int32)} (X : mp_X F m F' m') (h : mp_M F m x es) : mp_M F' m' x es := by
  rcases h with z | ⟨z, h⟩
  · exact Or.inl z
  · exact Or.inr ⟨z, mp_R_m X h⟩
section
variable {f_mapRoom f_listRoom f_depth f_many f_first f_second : Int32} {a_held a_root a_data a_links a_more a_keys a_values a_mapMark a_mapFree a_left a_right a_height a_size a_element a_listMark a_listFree a_path a_turns a_stack a_other a_gathered a_worth a_spareKey a_spareValue a_low a_high a_before a_behind : Nat → Int32} {a_total : Nat → Int64}
variable {es : List (Int32 × Int32)} {m : MH} {h : LH} {fm : Nat → Int32}
theorem xm_mo31 {post : Int32 → SX → Prop} {sk sv : Nat → Int32} (hS : ms_S es) (hl : es.length ≤ 24) (hA : ms_A sk sv es) :
    ∀ (d : Nat) {N i R : Nat} {m : MH} {x dp mn : Int32} {pa g wo : Nat → Int32}, d < N → i + d = es.length → ps_I fm 720 R → 10 * d ≤ R → mp_M (ps_F fm R) m x (es.take i) →
    (∀ x' m' r' dp mn pa g wo, r' ≤ R → mp_X (ps_F fm R) m (ps_F fm r') m' → mp_M (ps_F fm r') m' x' es → post x' (nI r', f_listRoom, dp, mn, f_first, f_second, a_held, a_root, m'.1, m'.2.1, m'.2.2.1, m'.2.2.2.1, m'.2.2.2.2, a_mapMark, fm, a_left, a_right, a_height, a_size, a_element, a_total, a_listMark, a_listFree, pa, a_turns, a_stack, a_other, g, wo, sk, sv, a_low, a_high, a_before, a_behind)) →
    wX_mapOf_31 post (nI es.length) N x (nI i) (nI R) f_listRoom dp mn f_first f_second a_held a_root m.1 m.2.1 m.2.2.1 m.2.2.2.1 m.2.2.2.2 a_mapMark fm a_left a_right a_height a_size a_element a_total a_listMark a_listFree pa a_turns a_stack a_other g wo sk sv a_low a_high a_before a_behind := by
  intro d
  induction d with
  | zero =>
    intro N i R m x dp mn pa g wo hN hi hI _ hM hp
    have e : i = es.length := by omega
    subst e
    cases N with
    | zero => omega
    | succ N =>
      rw [List.take_length] at hM
      exact br_t (nI_le (by omega) (by omega)) (hp x m R dp mn pa g wo (by omega) mp_X_r hM)
  | succ d ih =>
    intro N i R m x dp mn pa g wo hN hi hI hR hM hp
    cases N with
    | zero => omega
    | succ N =>
      have q := ms_Ag hA (i := i) (by omega)
      have ei := ms_ins_tk hS (i := i) (by omega)
      have el : (es.take (i + 1)).length = i + 1 := by rw [List.length_take]; omega
      have el2 : (es.take i).length = i := by rw [List.length_take]; omega
      refine br_f (nI_ge (by omega) (by omega)) ⟨vp_in_nI (by omega) (by omega), vp_in_nI (by omega) (by omega), ?_⟩
      rw [nI_clamp (n := i) (by omega), q.1, q.2]
      refine xm_with hM (ms_takeS hS i) (by omega) hI (by rw [ei, el]; omega) (fun x' m' r' dp mn pa g wo g1 g2 X hM' => nm_r (nI_1 i) ?_)
      rw [ei] at hM' g1
      rw [el] at g1
      exact ih (by omega) (by omega) (ps_Im g2 hI) (by omega) hM' (fun x3 m3 r3 dp mn pa g wo g3 X3 hM3 => hp x3 m3 r3 dp mn pa g wo (by omega) (mp_X_t X X3) hM3)
variable {fl : Nat → Int32} {rm rl : Nat} {ct : Nat → List (Int32 × Int32)}
theorem xm_mapOf {post : Int32 → SX → Prop} {g wo : Nat → Int32} (h1 : ps_I fm 720 rm) (h2 : ps_I fl 640 rl) (hP : ∀ p, p < 8 → xs_P a_held a_root (ps_F fm rm) m (ps_F fl rl) h ct p) (hS : ms_S es) (hl : es.length ≤ 24) (hA : ms_A g wo es)
    (hp : ∀ dp mn mm mf lm lf pa st g wo sk sv x m' rm' rl', ps_I mf 720 rm' → ps_I lf 640 rl' → (∀ p, p < 8 → xs_P a_held a_root (ps_F mf rm') m' (ps_F lf rl') h ct p) → mp_M (ps_F mf rm') m' x es →
      post x (nI rm', nI rl', dp, mn, f_first, f_second, a_held, a_root, m'.1, m'.2.1, m'.2.2.1, m'.2.2.2.1, m'.2.2.2.2, mm, mf, h.1, h.2.1, h.2.2.1, h.2.2.2.1, h.2.2.2.2.1, h.2.2.2.2.2, lm, lf, pa, a_turns, st, a_other, g, wo, sk, sv, a_low, a_high, a_before, a_behind)) :
    wpX_mapOf post (nI rm, nI rl, f_depth, nI es.length, f_first, f_second, a_held, a_root, m.1, m.2.1, m.2.2.1, m.2.2.2.1, m.2.2.2.2, a_mapMark, fm, h.1, h.2.1, h.2.2.1, h.2.2.2.1, h.2.2.2.2.1, h.2.2.2.2.2, a_listMark, fl, a_path, a_turns, a_stack, a_other, g, wo, a_spareKey, a_spareValue, a_low, a_high, a_before, a_behind) := by
  have l7 : ∀ (d : Nat) {N i : Nat} {sk sv : Nat → Int32}, d < N → i + d = es.length → ms_A sk sv (es.take i) →
      wX_mapOf_7 post (nI es.length) N (nI i) (nI rm) (nI rl) f_depth (nI es.length) f_first f_second a_held a_root m.1 m.2.1 m.2.2.1 m.2.2.2.1 m.2.2.2.2 a_mapMark fm h.1 h.2.1 h.2.2.1 h.2.2.2.1 h.2.2.2.2.1 h.2.2.2.2.2 a_listMark fl a_path a_turns a_stack a_other g wo sk sv a_low a_high a_before a_behind := by
    intro d
    induction d with
    | zero =>
      intro N i sk sv hN hi hA'
      have e : i = es.length := by omega
      subst e
      rw [List.take_length] at hA'
      cases N with
      | zero => omega
      | succ N =>
        refine br_t (nI_le (by omega) (by omega)) (xt_tidy h1 h2 hP (fun mm lm st fm' rm' fl' rl' i1 i2 i3 i4 hP' => ⟨es.length + 1, ?_⟩))
        refine xm_mo31 hS hl hA' es.length (i := 0) (by omega) (by omega) i1 (by omega) (Or.inl ⟨rfl, rfl⟩) (fun x' m' r' dp mn pa g wo g2 X hM => ?_)
        exact hp _ _ _ _ _ _ _ _ _ _ _ _ _ _ _ _ (ps_Im g2 i1) i3 (fun p p8 => xs_m X pl_X_r (hP' p p8)) hM
    | succ d ih =>
      intro N i sk sv hN hi hA'
      cases N with
      | zero => omega
      | succ N => exact br_f (nI_ge (by omega) (by omega)) (xm_spare hA (by omega) (by omega) hA' (fun sk' sv' hA2 => nm_r (nI_1 i) (ih (by omega) (by omega) hA2)))
  exact ⟨es.length + 1, l7 es.length (i := 0) (by omega) (by omega) ms_A0⟩
end
section
variable {f_mapRoom f_listRoom f_depth f_many f_first f_second : Int32} {a_held a_root a_data a_links a_more a_keys a_values a_mapMark a_mapFree a_left a_right a_height a_size a_element a_listMark a_listFree a_path a_turns a_stack a_other a_gathered a_worth a_spareKey a_spareValue a_low a_high a_before a_behind : Nat → Int32} {a_total : Nat → Int64}
variable {es : List (Int32 × Int32)} {g wo : Nat → Int32} {k : Int32}
theorem xm_tally {post : SX → Prop} (hS : ms_S es) (hA : ms_A g wo es) (hl : es.length < 64)
    (hp : ∀ g' wo', ms_A g' wo' (ms_ins k (1 + (ms_get k es).getD 0) es) → post (f_mapRoom, f_listRoom, f_depth, nI (ms_ins k (1 + (ms_get k es).getD 0) es).length, f_first, f_second, a_held, a_root, a_data, a_links, a_more, a_keys, a_values, a_mapMark, a_mapFree, a_left, a_right, a_height, a_size, a_element, a_total, a_listMark, a_listFree, a_path, a_turns, a_stack, a_other, g', wo', a_spareKey, a_spareValue, a_low, a_high, a_before, a_behind)) : wpX_tally post (f_mapRoom, f_listRoom, f_depth, nI es.length, f_first, f_second, a_held, a_root, a_data, a_links, a_more, a_keys, a_values, a_mapMark, a_mapFree, a_left, a_right, a_height, a_size, a_element, a_total, a_listMark, a_listFree, a_path, a_turns, a_stack, a_other, g, wo, a_spareKey, a_spareValue, a_low, a_high, a_before, a_behind) k := by
  have l4 : ∀ (d : Nat) {N i : Nat} {n : Int32}, d < N → i + d = es.length → n + (ms_get k (es.drop i)).getD 0 = 1 + (ms_get k es).getD 0 → wX_tally_4 post k f_mapRoom f_listRoom f_depth (nI es.length) f_first f_second a_held a_root a_data a_links a_more a_keys a_values a_mapMark a_mapFree a_left a_right a_height a_size a_element a_total a_listMark a_listFree a_path a_turns a_stack a_other g wo a_spareKey a_spareValue a_low a_high a_before a_behind N n (nI i) := by
    intro d
    induction d with
    | zero =>
      intro N i n hN hi hn
      have e : i = es.length := by omega
      subst e
      cases N with
      | zero => omega
      | succ N =>
        have en : n = 1 + (ms_get k es).getD 0 := by
          rw [← hn, List.drop_length]
          show n = n + 0
          rw [Int32.add_zero]
        rw [en]
        exact br_t (nI_le (by omega) (by omega)) (xm_admit hS hA hl hp)
    | succ d ih =>
      intro N i n hN hi hn
      cases N with
      | zero => omega
      | succ N =>
        have q := ms_Ag hA (i := i) (by omega)
        have ed := ms_drop (es := es) (w := i) (by omega)
        rw [ed, ms_get_c] at hn
        refine br_f (nI_ge (by omega) (by omega)) ⟨vp_in_nI (by omega) (by omega), ?_⟩
        rw [nI_clamp (n := i) (by omega), q.1, q.2]
        refine br_c (fun c => ⟨vp_in_nI (by omega) (by omega), nm_e (nm_r (nI_1 i) (ih (by omega) (by omega) ?_))⟩) (fun c => nm_r (nI_1 i) (ih (by omega) (by omega) ?_))
        · rw [if_pos c.symm] at hn
          have z : ms_get k (es.drop (i + 1)) = none := by
            rw [ms_get_n]
            intro a ha
            have hS2 : ms_S (es.drop i) := List.Pairwise.sublist (List.drop_sublist i _) hS
            rw [ed] at hS2
            have := (ms_Sc.mp hS2).1 a ha
            rw [c] at this
            exact fun zz => ms_ne this zz.symm
          rw [z, ← hn]
          show n + _ + 0 = n + _
          rw [Int32.add_zero]; rfl
        · rw [if_neg (fun zz => c zz.symm)] at hn
          exact hn
  refine ⟨es.length + 1, l4 es.length (i := 0) (by omega) (by omega) ?_⟩
  rw [List.drop_zero]
end
end
section
/-! convert: the lists as maps -/
def cv (f : Nat → List (Int32 × Int32) → Int32) (xs : List Int32) : Nat → List (Int32 × Int32)
  | 0 => []
  | i + 1 => ms_ins (xs.getD i 0) (f i (cv f xs i)) (cv f xs i)
theorem cvS {f : Nat → List (Int32 × Int32) → Int32} {xs : List Int32} : ∀ i, ms_S (cv f xs i) := by
  intro i
  induction i with
  | zero => exact ms_S0
  | succ i ih => exact ms_insS ih
theorem cv_len {f : Nat → List (Int32 × Int32) → Int32} {xs : List Int32} : ∀ i, (cv f xs i).length ≤ i := by
  intro i
  induction i with
  | zero => exact Nat.le_refl _
  | succ i ih => rw [cv, ms_lenI (cvS i)]; split <;> omega
/-- one more each time -/
def cvT (xs : List Int32) : Nat → List (Int32 × Int32) → Int32 := fun i T => 1 + (ms_get (xs.getD i 0) T).getD 0
/-- all at once -/
def cvU (xs : List Int32) : Nat → List (Int32 × Int32) → Int32 := fun i _ => nI (xs.count (xs.getD i 0))
def cvI : Nat → List (Int32 × Int32) → Int32 := fun i _ => nI i
theorem cv_gT {xs : List Int32} (e : Int32) : ∀ i, i ≤ xs.length → ms_get e (cv (cvT xs) xs i) = if e ∈ xs.take i then some (nI ((xs.take i).count e)) else none := by
  intro i
  induction i with
  | zero => intro _; rw [List.take_zero, if_neg (by simp)]; rfl
  | succ i ih =>
    intro hi
    have ih := ih (by omega)
    rw [cv, ms_get_i (cvS i), pl_tk1 (by omega)]
    by_cases c : e = xs.getD i 0
    · rw [if_pos c, if_pos (by simp [c]), List.count_append, c, List.count_singleton_self, cvT, ← c, ih]
      by_cases c2 : e ∈ xs.take i
      · rw [if_pos c2]
        show some (1 + nI _) = _
        rw [ps_1a]
      · rw [if_neg c2, List.count_eq_zero.mpr c2]
        exact congrArg some (by decide)
    · rw [if_neg c, ih, List.count_append, List.count_eq_zero.mpr (show e ∉ [xs.getD i 0] by simp; exact c), Nat.add_zero]
      by_cases c2 : e ∈ xs.take i
      · rw [if_pos c2, if_pos (List.mem_append_left _ c2)]
      · rw [if_neg c2, if_neg]
        rw [List.mem_append, List.mem_singleton]
        rintro (z | z)
        · exact c2 z
        · exact c z
theorem cv_gU {xs : List Int32} (e : Int32) : ∀ i, i ≤ xs.length → ms_get e (cv (cvU xs) xs i) = if e ∈ xs.take i then some (nI (xs.count e)) else none := by
  intro i
  induction i with
  | zero => intro _; rw [List.take_zero, if_neg (by simp)]; rfl
  | succ i ih =>
    intro hi
    have ih := ih (by omega)
    rw [cv, ms_get_i (cvS i), pl_tk1 (by omega)]
    by_cases c : e = xs.getD i 0
    · rw [if_pos c, if_pos (by simp [c]), cvU, c]
    · rw [if_neg c, ih]
      by_cases c2 : e ∈ xs.take i
      · rw [if_pos c2, if_pos (List.mem_append_left _ c2)]
      · rw [if_neg c2, if_neg]
        rw [List.mem_append, List.mem_singleton]
        rintro (z | z)
        · exact c2 z
        · exact c z
theorem cv_TU (xs : List Int32) : cv (cvT xs) xs xs.length = cv (cvU xs) xs xs.length := by
  refine ms_gext (cvS _) (cvS _) (fun e => ?_)
  rw [cv_gT e _ (Nat.le_refl _), cv_gU e _ (Nat.le_refl _), List.take_length]
section
variable {g_n : Int32} {b_kind b_size b_a b_b b_x b_y : Nat → Int32}
variable {ct : Nat → List (Int32 × Int32)} {p to : Nat} {xs : List Int32}
theorem yk_cv60 {post : Int32 → SY → Prop} {w : Nat} {es : List (Int32 × Int32)} {ws : List Int32} (hp8 : p < 8) (hC : ys_P b_size b_a b_b ct p) (he : ct p = es) (hw : w < 2) (hws : ws = if w = 0 then es.map Prod.fst else es.map Prod.snd)
    (hp : ∀ x y, ms_A x y (m0 ws) → wpY_keep post (nI ws.length, b_kind, b_size, b_a, b_b, x, y) 2 (nI to)) :
    ∀ (d : Nat) {N c : Nat} {x y : Nat → Int32}, d < N → c + d = es.length → ms_A x y (m0 (ws.take c)) → wY_convert_60 post (nI p) (nI w) (nI to) N (nI c) (nI (ws.take c).length) b_kind b_size b_a b_b x y := by
  obtain ⟨o1, o2, o3⟩ := hC
  rw [he] at o1 o2 o3
  have hl : ws.length = es.length := by rw [hws]; split <;> rw [List.length_map]
  intro d
  induction d with
  | zero =>
    intro N c x y hN hc hA
    have e : c = es.length := by omega
    subst e
    cases N with
    | zero => omega
    | succ N =>
      refine And.intro (vp_in_nI hp8 (by omega)) ?_
      rw [nI_clamp (n := p) (by omega), o1]
      refine br_t (nI_le (by omega) (by omega)) ?_
      rw [← hl, List.take_length] at hA ⊢
      exact hp x y hA
  | succ d ih =>
    intro N c x y hN hc hA
    cases N with
    | zero => omega
    | succ N =>
      have q := o3 c (by omega)
      have ge : ∀ z : Int32, z = ws.getD c 0 → wY_convert_103 post (wY_convert_60 post (nI p) (nI w) (nI to) N) (nI p) (nI w) (nI to) (nI c) z (nI (ws.take c).length) b_kind b_size b_a b_b x y := by
        rintro z rfl
        unfold wY_convert_103
        refine yk_ad hA (by rw [List.length_take]; omega) (fun x2 y2 hA2 => nm_r (nI_1 c) ?_)
        rw [← pl_tk1 (by omega)] at hA2 ⊢
        exact ih (by omega) (by omega) hA2
      refine And.intro (vp_in_nI hp8 (by omega)) ?_
      rw [nI_clamp (n := p) (by omega), o1]
      refine br_f (nI_ge (by omega) (by omega)) (pk_eq w 0 (fun z => ⟨by rw [ps_50]; exact vp_in_nI (by omega) (by omega), ge _ ?_⟩) (fun z => ⟨by rw [ps_50]; exact vp_in_nI (by omega) (by omega), ge _ ?_⟩))
      · rw [ps_50, nI_clamp (by omega), q.1, hws, if_pos z, (ms_gd (by omega)).1]
      · rw [ps_50, nI_clamp (by omega), q.2, hws, if_neg z, (ms_gd (by omega)).2]
theorem yk_cv153 {post : Int32 → SY → Prop} {J : Int32 → Int32 → (Nat → Int32) → (Nat → Int32) → (Nat → Int32) → (Nat → Int32) → (Nat → Int32) → (Nat → Int32) → Prop} {w i : Nat} {e : Int32} (hw : w < 4) (hp8 : p < 8) (hC : ys_P b_size b_a b_b ct p) (hx : ct p = m0 xs)
    (hp : wY_convert_205 post J (nI p) (nI w) (nI to) (nI i) (if w = 2 then nI (xs.count e) else nI i) e g_n b_kind b_size b_a b_b b_x b_y) :
    ∀ (d : Nat) {N c q : Nat}, d < N → c + d = xs.length → q = (xs.take c).count e → wY_convert_153 post J (nI p) (nI w) (nI to) (nI i) e g_n b_kind b_size b_a b_b b_x b_y N (nI q) (nI c) := by
  obtain ⟨o1, o2, o3⟩ := yk_el hC hx
  intro d
  induction d with
  | zero =>
    rintro N c q hN hc rfl
    have ec : c = xs.length := by omega
    subst ec
    cases N with
    | zero => omega
    | succ N =>
      refine And.intro (vp_in_nI hp8 (by omega)) ?_
      rw [nI_clamp (n := p) (by omega), o1, List.take_length]
      refine br_t (nI_le (by omega) (by omega)) (pk_eq w 2 (fun z => ?_) (fun z => ?_))
      · rw [if_pos z] at hp; exact hp
      · rw [if_neg z] at hp; exact hp
  | succ d ih =>
    rintro N c q hN hc rfl
    cases N with
    | zero => omega
    | succ N =>
      refine And.intro (vp_in_nI hp8 (by omega)) ?_
      rw [nI_clamp (n := p) (by omega), o1]
      refine br_f (nI_ge (by omega) (by omega)) ⟨by rw [ps_50]; exact vp_in_nI (by omega) (by omega), ?_⟩
      rw [ps_50, nI_clamp (n := 50 * p + c) (by omega), o3 c (by omega)]
      refine br_c (fun z => nm_r (nI_1 _) (nm_r (nI_1 c) (ih (by omega) (by omega) ?_))) (fun z => nm_r (nI_1 c) (ih (by omega) (by omega) ?_))
      · rw [pl_tk1 (by omega), List.count_append, z, List.count_singleton_self]
      · rw [pl_tk1 (by omega), List.count_append, List.count_eq_zero.mpr (show e ∉ [xs.getD c 0] by simp; exact fun q => z q.symm), Nat.add_zero]
end
end
section
/-! convert -/
section
variable {g_n : Int32} {b_kind b_size b_a b_b b_x b_y : Nat → Int32}
variable {ct : Nat → List (Int32 × Int32)} {p to : Nat} {xs : List Int32}
theorem yk_cv122 {post : Int32 → SY → Prop} {w : Nat} {f : Nat → List (Int32 × Int32) → Int32} (hw : w < 4) (hf : ∀ i T, f i T = if w = 2 then nI (xs.count (xs.getD i 0)) else nI i) (hp8 : p < 8) (hC : ys_P b_size b_a b_b ct p) (hx : ct p = m0 xs)
    (hp : ∀ x y, ms_A x y (cv f xs xs.length) → wpY_keep post (nI (cv f xs xs.length).length, b_kind, b_size, b_a, b_b, x, y) 1 (nI to)) :
    ∀ (d : Nat) {N i : Nat} {x y : Nat → Int32}, d < N → i + d = xs.length → ms_A x y (cv f xs i) → wY_convert_122 post (nI p) (nI w) (nI to) N (nI i) (nI (cv f xs i).length) b_kind b_size b_a b_b x y := by
  obtain ⟨o1, o2, o3⟩ := yk_el hC hx
  intro d
  induction d with
  | zero =>
    intro N i x y hN hi hA
    have e : i = xs.length := by omega
    subst e
    cases N with
    | zero => omega
    | succ N =>
      refine And.intro (vp_in_nI hp8 (by omega)) ?_
      rw [nI_clamp (n := p) (by omega), o1]
      exact br_t (nI_le (by omega) (by omega)) (hp x y hA)
  | succ d ih =>
    intro N i x y hN hi hA
    cases N with
    | zero => omega
    | succ N =>
      have hcl := cv_len (f := f) (xs := xs) i
      refine And.intro (vp_in_nI hp8 (by omega)) ?_
      rw [nI_clamp (n := p) (by omega), o1]
      refine br_f (nI_ge (by omega) (by omega)) ⟨by rw [ps_50]; exact vp_in_nI (by omega) (by omega), nm_r (e' := xs.getD i 0) (by rw [ps_50, nI_clamp (by omega)]; exact o3 i (by omega)) ⟨xs.length + 1, ?_⟩⟩
      refine yk_cv153 hw hp8 hC hx ?_ xs.length (c := 0) (q := 0) (by omega) (by omega) rfl
      unfold wY_convert_205
      rw [← hf i (cv f xs i)]
      exact yk_set (cvS i) hA (by omega) (fun x2 y2 hA2 => nm_r (nI_1 i) (ih (by omega) (by omega) hA2))
end
section
variable {f_mapRoom f_listRoom f_depth f_many f_first f_second : Int32} {a_held a_root a_data a_links a_more a_keys a_values a_mapMark a_mapFree a_left a_right a_height a_size a_element a_listMark a_listFree a_path a_turns a_stack a_other a_gathered a_worth a_spareKey a_spareValue a_low a_high a_before a_behind : Nat → Int32} {a_total : Nat → Int64}
variable {to : Nat} {xs : List Int32}
theorem xm_cv173 {post : Int32 → SX → Prop} {w : Nat} {f : Nat → List (Int32 × Int32) → Int32} {sk : Nat → Int32} (hw : w < 4) (hf : ∀ i T, f i T = if w = 2 then 1 + (ms_get (xs.getD i 0) T).getD 0 else nI i) (hsk : ps_A sk xs) (hl : xs.length ≤ 48)
    (hend : ∀ N g wo, ms_A g wo (cv f xs xs.length) → wX_convert_173 post (nI w) (nI to) (nI xs.length) (N + 1) (nI xs.length) f_mapRoom f_listRoom f_depth (nI (cv f xs xs.length).length) f_first f_second a_held a_root a_data a_links a_more a_keys a_values a_mapMark a_mapFree a_left a_right a_height a_size a_element a_total a_listMark a_listFree a_path a_turns a_stack a_other g wo sk a_spareValue a_low a_high a_before a_behind) :
    ∀ (d : Nat) {N i : Nat} {g wo : Nat → Int32}, d < N → i + d = xs.length → ms_A g wo (cv f xs i) →
    wX_convert_173 post (nI w) (nI to) (nI xs.length) N (nI i) f_mapRoom f_listRoom f_depth (nI (cv f xs i).length) f_first f_second a_held a_root a_data a_links a_more a_keys a_values a_mapMark a_mapFree a_left a_right a_height a_size a_element a_total a_listMark a_listFree a_path a_turns a_stack a_other g wo sk a_spareValue a_low a_high a_before a_behind := by
  intro d
  induction d with
  | zero =>
    intro N i g wo hN hi hA
    have e : i = xs.length := by omega
    subst e
    cases N with
    | zero => omega
    | succ N => exact hend N g wo hA
  | succ d ih =>
    intro N i g wo hN hi hA
    cases N with
    | zero => omega
    | succ N =>
      have hcl := cv_len (f := f) (xs := xs) i
      have q := hsk i (by omega)
      have ef := hf i (cv f xs i)
      refine br_f (nI_ge (by omega) (by omega)) (pk_eq w 2 (fun c => ⟨vp_in_nI (by omega) (by omega), ?_⟩) (fun c => ⟨vp_in_nI (by omega) (by omega), ?_⟩))
      · rw [nI_clamp (n := i) (by omega), q]
        rw [if_pos c] at ef
        refine xm_tally (cvS i) hA (by omega) (fun g' wo' hA' => nm_r (nI_1 i) ?_)
        rw [← ef] at hA' ⊢
        exact ih (by omega) (by omega) hA'
      · rw [nI_clamp (n := i) (by omega), q]
        rw [if_neg c] at ef
        refine xm_admit (cvS i) hA (by omega) (fun g' wo' hA' => nm_r (nI_1 i) ?_)
        rw [← ef] at hA' ⊢
        exact ih (by omega) (by omega) hA'
theorem xm_cv138 {post : Int32 → SX → Prop} {w : Nat} {g : Nat → Int32} (hA : ps_A g xs) (hl : xs.length ≤ 48)
    (hp : ∀ sk, ps_A sk xs → ∃ n173, wX_convert_173 post (nI w) (nI to) (nI xs.length) n173 (nI 0) f_mapRoom f_listRoom f_depth (nI 0) f_first f_second a_held a_root a_data a_links a_more a_keys a_values a_mapMark a_mapFree a_left a_right a_height a_size a_element a_total a_listMark a_listFree a_path a_turns a_stack a_other g a_worth sk a_spareValue a_low a_high a_before a_behind) :
    ∀ (d : Nat) {N i : Nat} {sk : Nat → Int32}, d < N → i + d = xs.length → (∀ j, j < i → sk j = xs.getD j 0) → wX_convert_138 post (nI w) (nI to) (nI xs.length) f_mapRoom f_listRoom f_depth f_many f_first f_second N (nI i) a_held a_root a_data a_links a_more a_keys a_values a_mapMark a_mapFree a_left a_right a_height a_size a_element a_total a_listMark a_listFree a_path a_turns a_stack a_other g a_worth sk a_spareValue a_low a_high a_before a_behind := by
  intro d
  induction d with
  | zero =>
    intro N i sk hN hi hs
    have e : i = xs.length := by omega
    subst e
    cases N with
    | zero => omega
    | succ N => exact br_t (nI_le (by omega) (by omega)) (hp sk hs)
  | succ d ih =>
    intro N i sk hN hi hs
    cases N with
    | zero => omega
    | succ N =>
      refine br_f (nI_ge (by omega) (by omega)) ⟨vp_in_nI (by omega) (by omega), vp_in_nI (by omega) (by omega), nm_r (e' := upd sk i (xs.getD i 0)) (by rw [nI_clamp (by omega), hA i (by omega)]) (nm_r (nI_1 i) (ih (by omega) (by omega) (fun j hj => ?_)))⟩
      by_cases z : j = i
      · subst z; exact pk_us
      · rw [pk_un z]; exact hs j (by omega)
theorem xm_cv65 {post : Int32 → SX → Prop} {w : Nat} {es : List (Int32 × Int32)} {ws : List Int32} {g0 wo : Nat → Int32} (hw : w < 2) (hws : ws = if w = 0 then es.map Prod.fst else es.map Prod.snd) (hA : ms_A g0 wo es) (hl : es.length ≤ 48)
    (hp : ∀ g, ps_A g ws → wX_convert_99 post (nI to) f_mapRoom f_listRoom f_depth (nI es.length) f_first f_second a_held a_root a_data a_links a_more a_keys a_values a_mapMark a_mapFree a_left a_right a_height a_size a_element a_total a_listMark a_listFree a_path a_turns a_stack a_other g wo a_spareKey a_spareValue a_low a_high a_before a_behind) :
    ∀ (d : Nat) {N i : Nat} {g : Nat → Int32}, d < N → i + d = es.length → (w = 0 → g = g0) → (w = 1 → ∀ j, j < i → g j = (es.getD j (0, 0)).2) → wX_convert_65 post (nI w) (nI to) f_mapRoom f_listRoom f_depth (nI es.length) f_first f_second N (nI i) a_held a_root a_data a_links a_more a_keys a_values a_mapMark a_mapFree a_left a_right a_height a_size a_element a_total a_listMark a_listFree a_path a_turns a_stack a_other g wo a_spareKey a_spareValue a_low a_high a_before a_behind := by
  intro d
  induction d with
  | zero =>
    intro N i g hN hi h0 h1
    have e : i = es.length := by omega
    subst e
    cases N with
    | zero => omega
    | succ N =>
      refine br_t (nI_le (by omega) (by omega)) (hp g ?_)
      by_cases z : w = 0
      · rw [hws, if_pos z, h0 z]; exact hA.1
      · rw [hws, if_neg z]
        intro j hj
        rw [List.length_map] at hj
        rw [h1 (by omega) j hj, (ms_gd hj).2]
  | succ d ih =>
    intro N i g hN hi h0 h1
    cases N with
    | zero => omega
    | succ N =>
      refine br_f (nI_ge (by omega) (by omega)) (pk_eq w 1 (fun c => ⟨vp_in_nI (by omega) (by omega), vp_in_nI (by omega) (by omega), nm_r (e' := upd g i (es.getD i (0, 0)).2) (by rw [nI_clamp (by omega), (ms_Ag hA (by omega)).2]) (nm_r (nI_1 i) (ih (by omega) (by omega) (fun z => absurd z (by omega)) (fun _ j hj => ?_)))⟩) (fun c => hp g ?_))
      · by_cases z : j = i
        · subst z; exact pk_us
        · rw [pk_un z]; exact h1 c j (by omega)
      · rw [hws, if_pos (by omega), h0 (by omega)]; exact hA.1
end
section
variable {f_mapRoom f_listRoom f_depth f_many f_first f_second : Int32} {a_held a_root a_data a_links a_more a_keys a_values a_mapMark a_mapFree a_left a_right a_height a_size a_element a_listMark a_listFree a_path a_turns a_stack a_other a_gathered a_worth a_spareKey a_spareValue a_low a_high a_before a_behind : Nat → Int32} {a_total : Nat → Int64}
variable {g_n : Int32} {b_kind b_size b_a b_b b_x b_y : Nat → Int32}
variable {rm rl k : Nat} {ct : Nat → List (Int32 × Int32)} {m : MH} {h : LH}
theorem vc_convert {v1 v2 v3 : Int32} (F : rl_F rm rl ct a_held a_root a_mapFree a_listFree m h b_kind b_size b_a b_b) :
    wpX_convert (fun r u' => wpY_convert (fun r' v' => r' = r ∧ i_Rel (k + 5) u' v') (g_n, b_kind, b_size, b_a, b_b, b_x, b_y) v1 v2 v3) (nI rm, nI rl, f_depth, f_many, f_first, f_second, a_held, a_root, m.1, m.2.1, m.2.2.1, m.2.2.2.1, m.2.2.2.2, a_mapMark, a_mapFree, h.1, h.2.1, h.2.2.1, h.2.2.2.1, h.2.2.2.2.1, h.2.2.2.2.2, a_listMark, a_listFree, a_path, a_turns, a_stack, a_other, a_gathered, a_worth, a_spareKey, a_spareValue, a_low, a_high, a_before, a_behind) v1 v2 v3 := by
  have hys := fun p hp => (F.2.2.2 p hp).2
  have hkk := fun p hp => (F.2.2.2 p hp).1
  unfold wpX_convert
  rcases yk_8 v1 with ⟨fr, hf, rfl⟩ | hv
  · refine xn_ok hf ?_
    refine br_t rfl ?_
    rcases yk_8 v3 with ⟨to, ht, rfl⟩ | hv
    · refine xn_ok ht ?_
      refine br_t rfl ?_
      have Y0 : ∀ q : Int32 → SY → Prop, ((v2 < 0 → q (-1) (g_n, b_kind, b_size, b_a, b_b, b_x, b_y)) ∧ (¬ v2 < 0 → ((v2 ≤ 3 → (vp_in (nI fr) 8 ∧ ((2 ≤ v2 → wY_convert_41 q (nI fr) v2 (nI to) 2 (a_held fr) g_n b_kind b_size b_a b_b b_x b_y) ∧ (¬ 2 ≤ v2 → wY_convert_41 q (nI fr) v2 (nI to) 1 (a_held fr) g_n b_kind b_size b_a b_b b_x b_y)))) ∧ (¬ v2 ≤ 3 → q (-1) (g_n, b_kind, b_size, b_a, b_b, b_x, b_y))))) → wpY_convert q (g_n, b_kind, b_size, b_a, b_b, b_x, b_y) (nI fr) v2 (nI to) := by
        intro q hq
        unfold wpY_convert
        refine yp_ok hf ?_
        refine br_f (by decide) ?_
        refine yp_ok ht ?_
        refine br_f (by decide) ?_
        rw [nI_clamp (n := fr) (by omega), hkk fr hf]
        exact hq
      by_cases c1 : v2 < 0
      · refine br_t c1 ?_
        exact Y0 _ (br_t c1 ⟨rfl, rl_in F⟩)
      · refine br_f c1 ?_
        by_cases c2 : v2 ≤ 3
        · refine br_t c2 ⟨vp_in_nI hf (by omega), ?_⟩
          rw [nI_clamp (n := fr) (by omega)]
          obtain ⟨w, hw, rfl⟩ := nI_of2 (M := 3) (n := 3) (by decide) c1 c2
          refine pk_le 2 w (fun c3 => br_c (fun z => br_t (nI_le (a := 2) c3 (by omega)) ⟨vp_in_nI hf (by omega), ?_⟩) (fun z => ?_)) (fun c3 => br_c (fun z => br_f (nI_ge (b := 2) c3 (by omega)) ⟨vp_in_nI hf (by omega), ?_⟩) (fun z => ?_))
          · rcases F.2.2.1 fr hf with ⟨y, _⟩ | ⟨y, _⟩ | ⟨_, xs, kk, z0, z1, z2⟩
            · exact absurd (z.symm.trans y) (by decide)
            · exact absurd (z.symm.trans y) (by decide)
            rw [nI_clamp (n := fr) (by omega)]
            -- what the reference makes
            have fY : ∃ f : Nat → List (Int32 × Int32) → Int32, (∀ i T, f i T = if w = 2 then nI (xs.count (xs.getD i 0)) else nI i) := ⟨fun i _ => if w = 2 then nI (xs.count (xs.getD i 0)) else nI i, fun _ _ => rfl⟩
            have fX : ∃ f : Nat → List (Int32 × Int32) → Int32, (∀ i T, f i T = if w = 2 then 1 + (ms_get (xs.getD i 0) T).getD 0 else nI i) := ⟨fun i T => if w = 2 then 1 + (ms_get (xs.getD i 0) T).getD 0 else nI i, fun _ _ => rfl⟩
            obtain ⟨fY, hfY⟩ := fY
            obtain ⟨fX, hfX⟩ := fX
            have eq : cv fX xs xs.length = cv fY xs xs.length := by
              by_cases w2 : w = 2
              · have e1 : fX = cvT xs := by funext i T; rw [hfX, if_pos w2]; rfl
                have e2 : fY = cvU xs := by funext i T; rw [hfY, if_pos w2]; rfl
                rw [e1, e2]; exact cv_TU xs
              · have e1 : fX = fY := by funext i T; rw [hfX, hfY, if_neg w2, if_neg w2]
                rw [e1]
            have hcl := cv_len (f := fX) (xs := xs) xs.length
            have YY : ∀ q : Int32 → SY → Prop, (24 < (cv fX xs xs.length).length → ∀ n x y, q (-4) (n, b_kind, b_size, b_a, b_b, x, y)) → ((cv fX xs xs.length).length ≤ 24 → ∀ n x y a' b' s', (∀ p, p < 8 → ys_P s' a' b' (uc ct to (cv fX xs xs.length)) p) → q (nI (cv fX xs xs.length).length) (n, upd b_kind to 1, s', a', b', x, y)) → wpY_convert q (g_n, b_kind, b_size, b_a, b_b, b_x, b_y) (nI fr) (nI w) (nI to) := by
              intro q h4 hk
              refine Y0 q (br_f c1 (br_t c2 ⟨vp_in_nI hf (by omega), br_t (nI_le (a := 2) c3 (by omega)) (br_t z (br_t (nI_le (a := 2) c3 (by omega)) ⟨xs.length + 1, ?_⟩))⟩))
              rw [eq] at h4 hk
              refine yk_cv122 (f := fY) (by omega) hfY hf (hys fr hf) z0 (fun x y hA => ?_) xs.length (i := 0) (by omega) (by omega) ms_A0
              exact yk_keep ht (Or.inl ⟨rfl, rfl⟩) hA (by rw [← eq]; omega) hys (fun c => h4 c _ _ _) (fun c a' b' s' hY => hk c _ _ _ a' b' s' hY)
            refine xl_spread z1 (by omega) (fun g' st' hA => ⟨xs.length + 1, ?_⟩)
            refine xm_cv138 hA z2 (fun sk hsk => ⟨xs.length + 1, ?_⟩) xs.length (i := 0) (by omega) (by omega) (fun j hj => absurd hj (by omega))
            refine xm_cv173 (f := fX) (by omega) hfX hsk z2 (fun N g wo hA2 => ?_) xs.length (i := 0) (by omega) (by omega) ms_A0
            refine br_t (nI_le (Nat.le_refl _) (by omega)) (pk_le (cv fX xs xs.length).length 24 (fun c => ?_) (fun c => ?_))
            · refine xm_mapOf F.1 F.2.1 F.2.2.1 (cvS _) c hA2 (fun dp mn mm mf lm lf pa st g wo sk sv x m' rm' rl' i1 i2 hP' hM => ?_)
              refine xp_map ht hM (by omega) (fun st' => ?_)
              refine YY _ (fun c4 => absurd c4 (by omega)) (fun _ n x y a' b' s' hY => ⟨rfl, ?_⟩)
              exact rl_in (rl_put i1 i2 hP' hkk (Or.inr (Or.inl ⟨rfl, hM, cvS _, c⟩)) hY)
            · exact YY _ (fun _ n x y => ⟨rfl, rl_in F⟩) (fun c4 => absurd c4 (by omega))
          · exact Y0 _ (br_f c1 (br_t c2 ⟨vp_in_nI hf (by omega), br_t (nI_le (a := 2) c3 (by omega)) (br_f z ⟨rfl, rl_in F⟩)⟩))
          · rcases F.2.2.1 fr hf with ⟨y, _⟩ | ⟨y, y1, y2, y3⟩ | ⟨y, _⟩
            · exact absurd (z.symm.trans y) (by decide)
            · rw [nI_clamp (n := fr) (by omega)]
              have hws : ∃ ws : List Int32, ws = if w = 0 then (ct fr).map Prod.fst else (ct fr).map Prod.snd := ⟨_, rfl⟩
              obtain ⟨ws, hws⟩ := hws
              have hwl : ws.length = (ct fr).length := by rw [hws]; split <;> rw [List.length_map]
              refine xm_gather y1 y2 (by omega) (fun st' g' wo' hA => ⟨(ct fr).length + 1, ?_⟩)
              refine xm_cv65 (ws := ws) (by omega) hws hA (by omega) (fun g hg => ?_) (ct fr).length (i := 0) (by omega) (by omega) (fun _ => rfl) (fun _ j hj => absurd hj (by omega))
              unfold wX_convert_99
              refine xt_tidy F.1 F.2.1 F.2.2.1 (fun mm lm st fm' rm' fl' rl' i1 i2 i3 i4 hP' => ?_)
              refine xl_treeOf (ws := ws) (by omega) hwl (fun i hi => ?_) i3 (by omega) (fun x h' r' o' al ah bf bh kr g1 g2 X L => ?_)
              · rw [if_pos rfl]; exact hg i (by omega)
              · refine xp_list (q := 2) ht (by omega) (by omega) L ?_
                refine Y0 _ (br_f c1 (br_t c2 ⟨vp_in_nI hf (by omega), br_f (nI_ge (b := 2) c3 (by omega)) (br_t z (br_f (nI_ge (b := 2) c3 (by omega)) ⟨(ct fr).length + 1, ?_⟩))⟩))
                refine yk_cv60 (ws := ws) hf (hys fr hf) rfl (by omega) hws (fun x y hA => ?_) (ct fr).length (c := 0) (by omega) (by omega) ms_A0
                refine yk_keepL ht hA (by omega) hys (fun c => absurd c (by omega)) (fun _ a' b' s' hY => ⟨rfl, ?_⟩)
                exact rl_in (rl_put i1 (ps_Im g2 i3) (fun p p8 => xs_m mp_X_r X (hP' p p8)) hkk (Or.inr (Or.inr ⟨rfl, _, kr, rfl, L, by omega⟩)) hY)
            · exact absurd (z.symm.trans y) (by decide)
          · exact Y0 _ (br_f c1 (br_t c2 ⟨vp_in_nI hf (by omega), br_f (nI_ge (b := 2) c3 (by omega)) (br_f z ⟨rfl, rl_in F⟩)⟩))
        · refine br_f c2 ?_
          exact Y0 _ (br_f c1 (br_f c2 ⟨rfl, rl_in F⟩))
    · refine xn_bad hv ?_
      refine br_f (by decide) ?_
      show wpY_convert _ _ _ _ _
      unfold wpY_convert
      refine yp_ok hf ?_
      refine br_f (by decide) ?_
      refine yp_bad hv ?_
      exact br_t rfl ⟨rfl, rl_in F⟩
  · refine xn_bad hv ?_
    refine br_f (by decide) ?_
    show wpY_convert _ _ _ _ _
    unfold wpY_convert
    refine yp_bad hv ?_
    exact br_t rfl ⟨rfl, rl_in F⟩
end
end
section
/-! merge: what it makes -/
def mgo (how : Nat) (a b : Option Int32) : Option Int32 :=
  match a, b with
  | none, none => none
  | some v, none => if how = 3 then none else some v
  | none, some w => if how < 3 ∨ how = 5 then some w else none
  | some v, some w => if how = 0 then some v else if how = 1 then some w else if how = 2 then some (v + w) else if how = 3 then some v else none
/-- one key of the second, put upon the first -/
def mu_s (how : Nat) (o : Option Int32) (e : Int32 × Int32) (cur : List (Int32 × Int32)) : List (Int32 × Int32) :=
  match o with
  | none => if how = 4 then cur else ms_ins e.1 e.2 cur
  | some u => if 3 < how then ms_del e.1 cur else if how = 1 then ms_ins e.1 e.2 cur else if how = 2 then ms_ins e.1 (u + e.2) cur else cur
def mu (how : Nat) (ex ey : List (Int32 × Int32)) : Nat → List (Int32 × Int32)
  | 0 => ex
  | i + 1 => mu_s how (ms_get (ey.getD i (0, 0)).1 ex) (ey.getD i (0, 0)) (mu how ex ey i)
theorem mu_sS {how : Nat} {o : Option Int32} {e : Int32 × Int32} {cur : List (Int32 × Int32)} (h : ms_S cur) : ms_S (mu_s how o e cur) := by
  cases o with
  | none => show ms_S (if how = 4 then cur else ms_ins e.1 e.2 cur); split; exact h; exact ms_insS h
  | some u =>
    show ms_S (if 3 < how then ms_del e.1 cur else if how = 1 then ms_ins e.1 e.2 cur else if how = 2 then ms_ins e.1 (u + e.2) cur else cur)
    split
    · exact ms_delS h
    · split
      · exact ms_insS h
      · split
        · exact ms_insS h
        · exact h
theorem mu_S {how : Nat} {ex ey : List (Int32 × Int32)} (h : ms_S ex) : ∀ i, ms_S (mu how ex ey i) := by
  intro i
  induction i with
  | zero => exact h
  | succ i ih => exact mu_sS ih
theorem mu_sg {how : Nat} {o : Option Int32} {e : Int32 × Int32} {cur : List (Int32 × Int32)} (h3 : how ≠ 3) (h5 : how ≤ 5) (hS : ms_S cur) (hc : ms_get e.1 cur = o) (k : Int32) :
    ms_get k (mu_s how o e cur) = if k = e.1 then mgo how o (some e.2) else ms_get k cur := by
  cases o with
  | none =>
    show ms_get k (if how = 4 then cur else ms_ins e.1 e.2 cur) = if k = e.1 then (if how < 3 ∨ how = 5 then some e.2 else none) else ms_get k cur
    by_cases c : how = 4
    · rw [if_pos c]
      by_cases ck : k = e.1
      · rw [if_pos ck, if_neg (by omega), ck]; exact hc
      · rw [if_neg ck]
    · rw [if_neg c, ms_get_i hS]
      by_cases ck : k = e.1
      · rw [if_pos ck, if_pos ck, if_pos (by omega)]
      · rw [if_neg ck, if_neg ck]
  | some u =>
    show ms_get k (if 3 < how then ms_del e.1 cur else if how = 1 then ms_ins e.1 e.2 cur else if how = 2 then ms_ins e.1 (u + e.2) cur else cur) = if k = e.1 then (if how = 0 then some u else if how = 1 then some e.2 else if how = 2 then some (u + e.2) else if how = 3 then some u else none) else ms_get k cur
    by_cases c : 3 < how
    · rw [if_pos c, ms_get_d hS]
      by_cases ck : k = e.1
      · rw [if_pos ck, if_pos ck, if_neg (by omega), if_neg (by omega), if_neg (by omega), if_neg (by omega)]
      · rw [if_neg ck, if_neg ck]
    · rw [if_neg c]
      by_cases c1 : how = 1
      · rw [if_pos c1, ms_get_i hS]
        by_cases ck : k = e.1
        · rw [if_pos ck, if_pos ck, if_neg (by omega), if_pos c1]
        · rw [if_neg ck, if_neg ck]
      · rw [if_neg c1]
        by_cases c2 : how = 2
        · rw [if_pos c2, ms_get_i hS]
          by_cases ck : k = e.1
          · rw [if_pos ck, if_pos ck, if_neg (by omega), if_neg c1, if_pos c2]
          · rw [if_neg ck, if_neg ck]
        · rw [if_neg c2]
          by_cases ck : k = e.1
          · rw [if_pos ck, if_pos (by omega), ck]; exact hc
          · rw [if_neg ck]
theorem ms_get_end {k : Int32} {A : List (Int32 × Int32)} {e : Int32 × Int32} (h : ms_S (A ++ [e])) : ms_get k (A ++ [e]) = if k = e.1 then some e.2 else ms_get k A := by
  have lo : ∀ a, a ∈ A → a.1 < e.1 := by
    unfold ms_S at h
    rw [List.pairwise_append] at h
    exact fun a ha => h.2.2 a ha e (by simp)
  have hA : ms_S A := List.Pairwise.sublist (List.sublist_append_left A [e]) h
  have := ms_get_i (k := e.1) (k' := k) (v := e.2) hA
  rw [ms_ins_end lo] at this
  exact this
theorem ms_get_tk {k : Int32} {ey : List (Int32 × Int32)} (hy : ms_S ey) {i : Nat} (hi : i < ey.length) : ms_get k (ey.take (i + 1)) = if k = (ey.getD i (0, 0)).1 then some (ey.getD i (0, 0)).2 else ms_get k (ey.take i) := by
  have h := ms_takeS hy (i + 1)
  rw [ms_take hi] at h ⊢
  exact ms_get_end h
theorem ms_get_fr {ey : List (Int32 × Int32)} (hy : ms_S ey) {i : Nat} (hi : i < ey.length) : ms_get (ey.getD i (0, 0)).1 (ey.take i) = none := by
  rw [ms_get_n]
  exact fun a ha => ms_ne (ms_S_tk hy hi a ha)
theorem ms_get_nil (k : Int32) : ms_get k [] = none := rfl
theorem mu_g {how : Nat} {ex ey : List (Int32 × Int32)} (h3 : how ≠ 3) (h5 : how ≤ 5) (hx : ms_S ex) (hy : ms_S ey) (k : Int32) : ∀ i, i ≤ ey.length →
    ms_get k (mu how ex ey i) = if ms_get k (ey.take i) = none then ms_get k ex else mgo how (ms_get k ex) (ms_get k (ey.take i)) := by
  intro i
  induction i generalizing k with
  | zero => intro _; rw [List.take_zero, if_pos (ms_get_nil k)]; rfl
  | succ i ih =>
    intro hi
    have hc : ms_get (ey.getD i (0, 0)).1 (mu how ex ey i) = ms_get (ey.getD i (0, 0)).1 ex := by
      rw [ih _ (by omega), if_pos (ms_get_fr hy (by omega))]
    rw [mu, mu_sg h3 h5 (mu_S hx i) hc, ms_get_tk hy (by omega)]
    by_cases c : k = (ey.getD i (0, 0)).1
    · rw [if_pos c, if_pos c, if_neg (by simp), c]
    · rw [if_neg c, if_neg c]; exact ih k (by omega)
theorem mu_c {how : Nat} {ex ey : List (Int32 × Int32)} (h3 : how ≠ 3) (h5 : how ≤ 5) (hx : ms_S ex) (hy : ms_S ey) {i : Nat} (hi : i < ey.length) : ms_get (ey.getD i (0, 0)).1 (mu how ex ey i) = ms_get (ey.getD i (0, 0)).1 ex := by
  rw [mu_g h3 h5 hx hy _ i (by omega), if_pos (ms_get_fr hy hi)]
theorem mu_fin {how : Nat} {ex ey : List (Int32 × Int32)} (h3 : how ≠ 3) (h5 : how ≤ 5) (hx : ms_S ex) (hy : ms_S ey) (k : Int32) : ms_get k (mu how ex ey ey.length) = mgo how (ms_get k ex) (ms_get k ey) := by
  rw [mu_g h3 h5 hx hy k _ (Nat.le_refl _), List.take_length]
  cases ms_get k ey with
  | none =>
    rw [if_pos rfl]
    cases ms_get k ex with
    | none => rfl
    | some v => show some v = if how = 3 then none else some v; rw [if_neg h3]
  | some w => rw [if_neg (by simp)]
/-- how many of the first i are in both -/
def mu_b (ex ey : List (Int32 × Int32)) : Nat → Nat
  | 0 => 0
  | i + 1 => mu_b ex ey i + (if ms_get (ey.getD i (0, 0)).1 ex = none then 0 else 1)
theorem mu_b_le {ex ey : List (Int32 × Int32)} : ∀ i, mu_b ex ey i ≤ i := by
  intro i
  induction i with
  | zero => exact Nat.le_refl _
  | succ i ih => rw [mu_b]; split <;> omega
theorem mu_len {how : Nat} {ex ey : List (Int32 × Int32)} (h3 : how ≠ 3) (h5 : how ≤ 5) (hx : ms_S ex) (hy : ms_S ey) : ∀ i, i ≤ ey.length →
    (how ≤ 2 → (mu how ex ey i).length + mu_b ex ey i = ex.length + i) ∧ (how = 4 → (mu how ex ey i).length + mu_b ex ey i = ex.length) ∧ (how = 5 → (mu how ex ey i).length + 2 * mu_b ex ey i = ex.length + i) := by
  intro i
  induction i with
  | zero => intro _; exact ⟨fun _ => rfl, fun _ => rfl, fun _ => rfl⟩
  | succ i ih =>
    intro hi
    obtain ⟨i1, i2, i3⟩ := ih (by omega)
    have hc := mu_c h3 h5 hx hy (i := i) (by omega)
    have hS := mu_S (how := how) (ey := ey) hx i
    have em : mu how ex ey (i + 1) = mu_s how (ms_get (ey.getD i (0, 0)).1 ex) (ey.getD i (0, 0)) (mu how ex ey i) := rfl
    have eb : mu_b ex ey (i + 1) = mu_b ex ey i + (if ms_get (ey.getD i (0, 0)).1 ex = none then 0 else 1) := rfl
    cases ho : ms_get (ey.getD i (0, 0)).1 ex with
    | none =>
      rw [ho] at hc em eb
      rw [if_pos rfl] at eb
      have em : mu how ex ey (i + 1) = if how = 4 then mu how ex ey i else ms_ins (ey.getD i (0, 0)).1 (ey.getD i (0, 0)).2 (mu how ex ey i) := em
      by_cases c : how = 4
      · rw [if_pos c] at em
        rw [em, eb]
        exact ⟨fun z => absurd z (by omega), fun z => by have := i2 z; omega, fun z => absurd z (by omega)⟩
      · rw [if_neg c] at em
        have el : (mu how ex ey (i + 1)).length = (mu how ex ey i).length + 1 := by rw [em, ms_lenI hS, if_pos hc]
        rw [el, eb]
        exact ⟨fun z => by have := i1 z; omega, fun z => absurd z c, fun z => by have := i3 z; omega⟩
    | some u =>
      rw [ho] at hc em eb
      rw [if_neg (show ¬ some u = none by simp)] at eb
      have em : mu how ex ey (i + 1) = if 3 < how then ms_del (ey.getD i (0, 0)).1 (mu how ex ey i) else if how = 1 then ms_ins (ey.getD i (0, 0)).1 (ey.getD i (0, 0)).2 (mu how ex ey i) else if how = 2 then ms_ins (ey.getD i (0, 0)).1 (u + (ey.getD i (0, 0)).2) (mu how ex ey i) else mu how ex ey i := em
      have hn : ¬ ms_get (ey.getD i (0, 0)).1 (mu how ex ey i) = none := by rw [hc]; simp
      have hpos : 0 < (mu how ex ey i).length := by
        refine List.length_pos_iff.mpr (fun z => ?_)
        rw [z] at hn; exact hn rfl
      by_cases c : 3 < how
      · rw [if_pos c] at em
        have el : (mu how ex ey (i + 1)).length = (mu how ex ey i).length - 1 := by rw [em, ms_lenD hS, if_neg hn]
        rw [el, eb]
        exact ⟨fun z => absurd z (by omega), fun z => by have := i2 z; omega, fun z => by have := i3 z; omega⟩
      · rw [if_neg c] at em
        have el : (mu how ex ey (i + 1)).length = (mu how ex ey i).length := by
          rw [em]
          by_cases c1 : how = 1
          · rw [if_pos c1, ms_lenI hS, if_neg hn]
          · rw [if_neg c1]
            by_cases c2 : how = 2
            · rw [if_pos c2, ms_lenI hS, if_neg hn]
            · rw [if_neg c2]
        rw [el, eb]
        exact ⟨fun z => by have := i1 z; omega, fun z => absurd z (by omega), fun z => absurd z (by omega)⟩
/-- the keys of the first that the second has too -/
def mi (ex ey : List (Int32 × Int32)) : Nat → List (Int32 × Int32)
  | 0 => ex
  | i + 1 => if ms_get (ex.getD i (0, 0)).1 ey = none then ms_del (ex.getD i (0, 0)).1 (mi ex ey i) else mi ex ey i
theorem mi_S {ex ey : List (Int32 × Int32)} (h : ms_S ex) : ∀ i, ms_S (mi ex ey i) := by
  intro i
  induction i with
  | zero => exact h
  | succ i ih =>
    rw [mi]; split
    · exact ms_delS ih
    · exact ih
theorem mi_l {ex ey : List (Int32 × Int32)} : ∀ i, (mi ex ey i).length ≤ ex.length := by
  intro i
  induction i with
  | zero => exact Nat.le_refl _
  | succ i ih =>
    rw [mi]; split
    · exact Nat.le_trans (List.length_filter_le _ _) ih
    · exact ih
theorem mi_g {ex ey : List (Int32 × Int32)} (hx : ms_S ex) (k : Int32) : ∀ i, i ≤ ex.length →
    ms_get k (mi ex ey i) = if ms_get k (ex.take i) = none then ms_get k ex else if ms_get k ey = none then none else ms_get k ex := by
  intro i
  induction i generalizing k with
  | zero => intro _; rw [List.take_zero, if_pos (ms_get_nil k)]; rfl
  | succ i ih =>
    intro hi
    have ih := ih k (by omega)
    rw [mi, ms_get_tk hx (by omega)]
    by_cases ck : k = (ex.getD i (0, 0)).1
    · rw [if_pos ck, if_neg (show ¬ some (ex.getD i (0, 0)).2 = none by simp)]
      have fr := ms_get_fr hx (i := i) (by omega)
      rw [← ck] at fr ⊢
      rw [fr, if_pos rfl] at ih
      by_cases c : ms_get k ey = none
      · rw [if_pos c, if_pos c, ms_get_d (mi_S hx i), if_pos rfl]
      · rw [if_neg c, if_neg c]; exact ih
    · rw [if_neg ck, ← ih]
      by_cases c : ms_get (ex.getD i (0, 0)).1 ey = none
      · rw [if_pos c, ms_get_d (mi_S hx i), if_neg ck]
      · rw [if_neg c]
theorem mi_c {ex ey : List (Int32 × Int32)} (hx : ms_S ex) {i : Nat} (hi : i < ex.length) : ms_get (ex.getD i (0, 0)).1 (mi ex ey i) ≠ none := by
  rw [mi_g hx _ i (by omega), if_pos (ms_get_fr hx hi)]
  have : ms_get (ex.getD i (0, 0)).1 ex = some (ex.getD i (0, 0)).2 := by
    rw [ms_get_s hx, List.getD_eq_getElem?_getD, List.getElem?_eq_getElem hi]
    exact List.getElem_mem hi
  rw [this]; simp
theorem mi_fin {ex ey : List (Int32 × Int32)} (hx : ms_S ex) (k : Int32) : ms_get k (mi ex ey ex.length) = mgo 3 (ms_get k ex) (ms_get k ey) := by
  rw [mi_g hx k _ (Nat.le_refl _), List.take_length]
  cases ms_get k ex with
  | none => rw [if_pos rfl]; cases ms_get k ey <;> rfl
  | some v => rw [if_neg (by simp)]; cases ms_get k ey <;> rfl
/-- the reference's two passes -/
def ap (k : Int32) (o : Option Int32) (cur : List (Int32 × Int32)) : List (Int32 × Int32) := match o with
  | none => cur
  | some z => ms_ins k z cur
theorem ap_S {k : Int32} {o : Option Int32} {cur : List (Int32 × Int32)} (h : ms_S cur) : ms_S (ap k o cur) := by
  cases o with
  | none => exact h
  | some z => exact ms_insS h
theorem ap_l {k : Int32} {o : Option Int32} {cur : List (Int32 × Int32)} (h : ms_S cur) : (ap k o cur).length ≤ cur.length + 1 := by
  cases o with
  | none => exact Nat.le_succ _
  | some z => show (ms_ins k z cur).length ≤ _; rw [ms_lenI h]; split <;> omega
theorem ap_g {k k' : Int32} {o : Option Int32} {cur : List (Int32 × Int32)} (h : ms_S cur) (hn : ms_get k cur = none) : ms_get k' (ap k o cur) = if k' = k then o else ms_get k' cur := by
  cases o with
  | none =>
    show ms_get k' cur = _
    by_cases c : k' = k
    · rw [if_pos c, c]; exact hn
    · rw [if_neg c]
  | some z => exact ms_get_i h
def y1 (how : Nat) (ea eb : List (Int32 × Int32)) : Nat → List (Int32 × Int32)
  | 0 => []
  | i + 1 => ap (ea.getD i (0, 0)).1 (mgo how (some (ea.getD i (0, 0)).2) (ms_get (ea.getD i (0, 0)).1 eb)) (y1 how ea eb i)
theorem y1_S {how : Nat} {ea eb : List (Int32 × Int32)} : ∀ i, ms_S (y1 how ea eb i) := by
  intro i
  induction i with
  | zero => exact ms_S0
  | succ i ih => exact ap_S ih
theorem y1_l {how : Nat} {ea eb : List (Int32 × Int32)} : ∀ i, (y1 how ea eb i).length ≤ i := by
  intro i
  induction i with
  | zero => exact Nat.le_refl _
  | succ i ih => exact Nat.le_trans (ap_l (y1_S i)) (by omega)
theorem y1_g {how : Nat} {ea eb : List (Int32 × Int32)} (ha : ms_S ea) (k : Int32) : ∀ i, i ≤ ea.length →
    ms_get k (y1 how ea eb i) = if ms_get k (ea.take i) = none then none else mgo how (ms_get k (ea.take i)) (ms_get k eb) := by
  intro i
  induction i generalizing k with
  | zero => intro _; rw [List.take_zero, if_pos (ms_get_nil k)]; rfl
  | succ i ih =>
    intro hi
    have hn : ms_get (ea.getD i (0, 0)).1 (y1 how ea eb i) = none := by rw [ih _ (by omega), if_pos (ms_get_fr ha (by omega))]
    rw [y1, ap_g (y1_S i) hn, ms_get_tk ha (by omega)]
    by_cases c : k = (ea.getD i (0, 0)).1
    · rw [if_pos c, if_pos c, if_neg (by simp), c]
    · rw [if_neg c, if_neg c]; exact ih k (by omega)
def y2 (how : Nat) (ea eb : List (Int32 × Int32)) : Nat → List (Int32 × Int32)
  | 0 => y1 how ea eb ea.length
  | i + 1 => if ms_get (eb.getD i (0, 0)).1 ea = none then ap (eb.getD i (0, 0)).1 (mgo how none (some (eb.getD i (0, 0)).2)) (y2 how ea eb i) else y2 how ea eb i
theorem y2_S {how : Nat} {ea eb : List (Int32 × Int32)} : ∀ i, ms_S (y2 how ea eb i) := by
  intro i
  induction i with
  | zero => exact y1_S _
  | succ i ih =>
    rw [y2]; split
    · exact ap_S ih
    · exact ih
theorem y2_l {how : Nat} {ea eb : List (Int32 × Int32)} : ∀ i, (y2 how ea eb i).length ≤ ea.length + i := by
  intro i
  induction i with
  | zero => exact y1_l _
  | succ i ih =>
    rw [y2]; split
    · exact Nat.le_trans (ap_l (y2_S i)) (by omega)
    · omega
theorem y2_g {how : Nat} {ea eb : List (Int32 × Int32)} (ha : ms_S ea) (hb : ms_S eb) (k : Int32) : ∀ i, i ≤ eb.length →
    ms_get k (y2 how ea eb i) = if ms_get k ea = none then (if ms_get k (eb.take i) = none then none else mgo how none (ms_get k (eb.take i))) else mgo how (ms_get k ea) (ms_get k eb) := by
  intro i
  induction i generalizing k with
  | zero =>
    intro _
    rw [List.take_zero, y2, y1_g ha k _ (Nat.le_refl _), List.take_length]
    by_cases c : ms_get k ea = none
    · rw [if_pos c, if_pos c, if_pos (ms_get_nil k)]
    · rw [if_neg c, if_neg c]
  | succ i ih =>
    intro hi
    rw [y2, ms_get_tk hb (by omega)]
    by_cases c : ms_get (eb.getD i (0, 0)).1 ea = none
    · have hn : ms_get (eb.getD i (0, 0)).1 (y2 how ea eb i) = none := by
        rw [ih _ (by omega), if_pos c, if_pos (ms_get_fr hb (by omega))]
      rw [if_pos c, ap_g (y2_S i) hn]
      by_cases ck : k = (eb.getD i (0, 0)).1
      · rw [if_pos ck, if_pos ck, ck, if_pos c, if_neg (show ¬ some (eb.getD i (0, 0)).2 = none by simp)]
      · rw [if_neg ck, if_neg ck]; exact ih k (by omega)
    · rw [if_neg c, ih k (by omega)]
      by_cases ck : k = (eb.getD i (0, 0)).1
      · rw [← ck] at c
        rw [if_neg c, if_neg c]
      · rw [if_neg ck]
theorem y2_fin {how : Nat} {ea eb : List (Int32 × Int32)} (ha : ms_S ea) (hb : ms_S eb) (k : Int32) : ms_get k (y2 how ea eb eb.length) = mgo how (ms_get k ea) (ms_get k eb) := by
  rw [y2_g ha hb k _ (Nat.le_refl _), List.take_length]
  cases ms_get k ea with
  | none =>
    rw [if_pos rfl]
    cases ms_get k eb with
    | none => rw [if_pos rfl]; rfl
    | some w => rw [if_neg (by simp)]
  | some v => rw [if_neg (by simp)]
theorem mg_u {how : Nat} {ex ey : List (Int32 × Int32)} (h3 : how ≠ 3) (h5 : how ≤ 5) (hx : ms_S ex) (hy : ms_S ey) : mu how ex ey ey.length = y2 how ex ey ey.length :=
  ms_gext (mu_S hx _) (y2_S _) (fun k => by rw [mu_fin h3 h5 hx hy, y2_fin hx hy])
theorem mg_i {ex ey : List (Int32 × Int32)} (hx : ms_S ex) (hy : ms_S ey) : mi ex ey ex.length = y2 3 ex ey ey.length :=
  ms_gext (mi_S hx _) (y2_S _) (fun k => by rw [mi_fin hx, y2_fin hx hy])
/-- the room that is left at the step with d to go -/
def bu : Nat → Nat
  | 0 => 0
  | d + 1 => bu d + (4 + (min (25 + (23 - d)) 36 + 3) / 4)
theorem bu_24 : bu 24 = 300 := by decide +kernel
end
section
/-! union and intersection -/
section
variable {f_mapRoom f_listRoom f_depth f_many f_first f_second : Int32} {a_held a_root a_data a_links a_more a_keys a_values a_mapMark a_mapFree a_left a_right a_height a_size a_element a_listMark a_listFree a_path a_turns a_stack a_other a_gathered a_worth a_spareKey a_spareValue a_low a_high a_before a_behind : Nat → Int32} {a_total : Nat → Int64}
variable {ex ey : List (Int32 × Int32)} {fm : Nat → Int32} {x : Int32} {how : Nat}
theorem xm_un39 {post : Int32 → SX → Prop} {sk sv : Nat → Int32} (h3 : how ≠ 3) (h5 : how ≤ 5) (hx : ms_S ex) (hy : ms_S ey) (hA : ms_A sk sv ey) (hyl : ey.length ≤ 24)
    (hlen : ∀ j, j ≤ ey.length → (mu how ex ey j).length ≤ 36 ∧ (mu how ex ey j).length ≤ 24 + j) :
    ∀ (d : Nat) {N i R : Nat} {m : MH} {n dp mn : Int32} {pa g wo : Nat → Int32}, d < N → i + d = ey.length → ps_I fm 720 R → bu (24 - i) ≤ R → mp_M (ps_F fm R) m x ex → mp_M (ps_F fm R) m n (mu how ex ey i) →
    (∀ x' m' r' dp mn pa g wo, r' ≤ R → mp_X (ps_F fm R) m (ps_F fm r') m' → mp_M (ps_F fm r') m' x' (mu how ex ey ey.length) → post x' (nI r', f_listRoom, dp, mn, f_first, f_second, a_held, a_root, m'.1, m'.2.1, m'.2.2.1, m'.2.2.2.1, m'.2.2.2.2, a_mapMark, fm, a_left, a_right, a_height, a_size, a_element, a_total, a_listMark, a_listFree, pa, a_turns, a_stack, a_other, g, wo, sk, sv, a_low, a_high, a_before, a_behind)) →
    wX_union_39 post x (nI how) (nI ey.length) N n (nI i) (nI R) f_listRoom dp mn f_first f_second a_held a_root m.1 m.2.1 m.2.2.1 m.2.2.2.1 m.2.2.2.2 a_mapMark fm a_left a_right a_height a_size a_element a_total a_listMark a_listFree pa a_turns a_stack a_other g wo sk sv a_low a_high a_before a_behind := by
  intro d
  induction d with
  | zero =>
    intro N i R m n dp mn pa g wo hN hi hI _ hX hM hp
    have e : i = ey.length := by omega
    subst e
    cases N with
    | zero => omega
    | succ N => exact br_t (nI_le (by omega) (by omega)) (hp n m R dp mn pa g wo (by omega) mp_X_r hM)
  | succ d ih =>
    intro N i R m n dp mn pa g wo hN hi hI hR hX hM hp
    cases N with
    | zero => omega
    | succ N =>
      have q := ms_Ag hA (i := i) (by omega)
      have hS := mu_S (how := how) (ey := ey) hx i
      have hl0 := hlen i (by omega)
      have hl1 := hlen (i + 1) (by omega)
      have hc := mu_c h3 h5 hx hy (i := i) (by omega)
      have ebu : bu (24 - i) = bu (24 - (i + 1)) + (4 + (min (25 + i) 36 + 3) / 4) := by
        obtain ⟨d', hd'⟩ : ∃ d', 24 - i = d' + 1 := ⟨24 - i - 1, by omega⟩
        have e2 : 24 - (i + 1) = d' := by omega
        have e3 : 23 - d' = i := by omega
        rw [hd', e2, bu, e3]
      have em : mu how ex ey (i + 1) = mu_s how (ms_get (ey.getD i (0, 0)).1 ex) (ey.getD i (0, 0)) (mu how ex ey i) := rfl
      -- nothing happens
      have skip : mu how ex ey (i + 1) = mu how ex ey i → wX_union_39 post x (nI how) (nI ey.length) N n (nI (i + 1)) (nI R) f_listRoom dp mn f_first f_second a_held a_root m.1 m.2.1 m.2.2.1 m.2.2.2.1 m.2.2.2.2 a_mapMark fm a_left a_right a_height a_size a_element a_total a_listMark a_listFree pa a_turns a_stack a_other g wo sk sv a_low a_high a_before a_behind := by
        intro e
        exact ih (by omega) (by omega) hI (by omega) hX (by rw [e]; exact hM) hp
      -- a key is put
      have put : ∀ v : Int32, mu how ex ey (i + 1) = ms_ins (ey.getD i (0, 0)).1 v (mu how ex ey i) → ∀ {post' : Int32 → SX → Prop}, (∀ (r dp' mn' : Int32) (pa' g' wo' : Nat → Int32) (m' : MH) (r' : Nat), wX_union_39 post x (nI how) (nI ey.length) N r (nI (i + 1)) (nI r') f_listRoom dp' mn' f_first f_second a_held a_root m'.1 m'.2.1 m'.2.2.1 m'.2.2.2.1 m'.2.2.2.2 a_mapMark fm a_left a_right a_height a_size a_element a_total a_listMark a_listFree pa' a_turns a_stack a_other g' wo' sk sv a_low a_high a_before a_behind → post' r (nI r', f_listRoom, dp', mn', f_first, f_second, a_held, a_root, m'.1, m'.2.1, m'.2.2.1, m'.2.2.2.1, m'.2.2.2.2, a_mapMark, fm, a_left, a_right, a_height, a_size, a_element, a_total, a_listMark, a_listFree, pa', a_turns, a_stack, a_other, g', wo', sk, sv, a_low, a_high, a_before, a_behind)) →
          wpX_with post' (nI R, f_listRoom, dp, mn, f_first, f_second, a_held, a_root, m.1, m.2.1, m.2.2.1, m.2.2.2.1, m.2.2.2.2, a_mapMark, fm, a_left, a_right, a_height, a_size, a_element, a_total, a_listMark, a_listFree, pa, a_turns, a_stack, a_other, g, wo, sk, sv, a_low, a_high, a_before, a_behind) n (ey.getD i (0, 0)).1 v := by
        intro v e post' hpost
        rw [e] at hl1
        refine xm_with hM hS (by omega) hI (by omega) (fun x' m' r' dp' mn' pa' g' wo' g1 g2 X hM' => hpost _ _ _ _ _ _ _ _ ?_)
        refine ih (by omega) (by omega) (ps_Im g2 hI) (by omega) (mp_M_m X hX) (by rw [e]; exact hM') (fun x3 m3 r3 dp mn pa g wo g3 X3 hM3 => hp x3 m3 r3 dp mn pa g wo (by omega) (mp_X_t X X3) hM3)
      refine br_f (nI_ge (by omega) (by omega)) ⟨vp_in_nI (by omega) (by omega), nm_r (e' := (ey.getD i (0, 0)).1) (by rw [nI_clamp (by omega)]; exact q.1) ⟨vp_in_nI (by omega) (by omega), nm_r (e' := (ey.getD i (0, 0)).2) (by rw [nI_clamp (by omega)]; exact q.2) ?_⟩⟩
      refine xm_find hX (fun c u hc2 hg hv => ?_) (fun hg => ?_)
      · rw [hg] at em hc
        have em : mu how ex ey (i + 1) = if 3 < how then ms_del (ey.getD i (0, 0)).1 (mu how ex ey i) else if how = 1 then ms_ins (ey.getD i (0, 0)).1 (ey.getD i (0, 0)).2 (mu how ex ey i) else if how = 2 then ms_ins (ey.getD i (0, 0)).1 (u + (ey.getD i (0, 0)).2) (mu how ex ey i) else mu how ex ey i := em
        have hn : ¬ ms_get (ey.getD i (0, 0)).1 (mu how ex ey i) = none := by rw [hc]; simp
        refine br_t (nI_pos' (by omega)) (br_f (nI_pos (by omega)) (pk_le how 3 (fun c3 => ?_) (fun c3 => ?_)))
        · rw [if_neg (by omega)] at em
          refine br_f (nI_pos (by omega)) (pk_eq how 1 (fun c1 => ?_) (fun c1 => ?_))
          · rw [if_pos c1] at em
            exact put _ em (fun r dp' mn' pa' g' wo' m' r' W => nm_r (nI_1 i) W)
          · rw [if_neg c1] at em
            refine br_f (nI_pos (by omega)) (pk_eq how 2 (fun c2 => ⟨vp_in_nI hc2 (by omega), ?_⟩) (fun c2 => nm_r (nI_1 i) (skip ?_)))
            · rw [if_pos c2] at em
              rw [nI_clamp (n := c) (by omega), hv]
              exact put _ em (fun r dp' mn' pa' g' wo' m' r' W => nm_r (nI_1 i) W)
            · rw [if_neg c2] at em; exact em
        · rw [if_pos c3] at em
          have hR4 : mp_R (ps_F fm R) m 4 n (mu how ex ey i) := by
            rcases hM with ⟨_, z⟩ | ⟨_, z⟩
            · rw [z] at hn; exact absurd rfl hn
            · exact z
          rw [em] at hl1
          refine xm_without hR4 hS (by omega) hn hI (by omega) (fun x' m' r' dp' mn' pa' g' wo' g1 g2 X hM' => nm_r (nI_1 i) ?_)
          exact ih (by omega) (by omega) (ps_Im g2 hI) (by omega) (mp_M_m X hX) (by rw [em]; exact hM') (fun x3 m3 r3 dp mn pa g wo g3 X3 hM3 => hp x3 m3 r3 dp mn pa g wo (by omega) (mp_X_t X X3) hM3)
      · rw [hg] at em
        have em : mu how ex ey (i + 1) = if how = 4 then mu how ex ey i else ms_ins (ey.getD i (0, 0)).1 (ey.getD i (0, 0)).2 (mu how ex ey i) := em
        refine br_f ps_m1nle (pk_eq how 4 (fun c4 => ?_) (fun c4 => ?_))
        · rw [if_pos c4] at em
          exact br_t ps_m1lt (br_t ps_m1lt (br_t ps_m1lt (nm_r (nI_1 i) (skip em))))
        · rw [if_neg c4] at em
          exact put _ em (fun r dp' mn' pa' g' wo' m' r' W => nm_r (nI_1 i) W)
theorem xm_union {post : Int32 → SX → Prop} {R : Nat} {m : MH} {y : Int32} (h3 : how ≠ 3) (h5 : how ≤ 5) (hx : ms_S ex) (hy : ms_S ey) (hyl : ey.length ≤ 24)
    (hlen : ∀ j, j ≤ ey.length → (mu how ex ey j).length ≤ 36 ∧ (mu how ex ey j).length ≤ 24 + j) (hI : ps_I fm 720 R) (hR : 300 ≤ R) (hX : mp_M (ps_F fm R) m x ex) (hY : mp_M (ps_F fm R) m y ey)
    (hp : ∀ x' m' r' dp mn pa st g wo sk sv, r' ≤ R → mp_X (ps_F fm R) m (ps_F fm r') m' → mp_M (ps_F fm r') m' x' (mu how ex ey ey.length) → post x' (nI r', f_listRoom, dp, mn, f_first, f_second, a_held, a_root, m'.1, m'.2.1, m'.2.2.1, m'.2.2.2.1, m'.2.2.2.2, a_mapMark, fm, a_left, a_right, a_height, a_size, a_element, a_total, a_listMark, a_listFree, pa, a_turns, st, a_other, g, wo, sk, sv, a_low, a_high, a_before, a_behind)) :
    wpX_union post (nI R, f_listRoom, f_depth, f_many, f_first, f_second, a_held, a_root, m.1, m.2.1, m.2.2.1, m.2.2.2.1, m.2.2.2.2, a_mapMark, fm, a_left, a_right, a_height, a_size, a_element, a_total, a_listMark, a_listFree, a_path, a_turns, a_stack, a_other, a_gathered, a_worth, a_spareKey, a_spareValue, a_low, a_high, a_before, a_behind) x y (nI how) := by
  unfold wpX_union
  refine xm_gather hY hy (by omega) (fun st g wo hA => ⟨ey.length + 1, ?_⟩)
  have l14 : ∀ (d : Nat) {N i : Nat} {sk sv : Nat → Int32}, d < N → i + d = ey.length → ms_A sk sv (ey.take i) →
      wX_union_14 post x (nI how) (nI ey.length) N (nI i) (nI R) f_listRoom f_depth (nI ey.length) f_first f_second a_held a_root m.1 m.2.1 m.2.2.1 m.2.2.2.1 m.2.2.2.2 a_mapMark fm a_left a_right a_height a_size a_element a_total a_listMark a_listFree a_path a_turns st a_other g wo sk sv a_low a_high a_before a_behind := by
    intro d
    induction d with
    | zero =>
      intro N i sk sv hN hi hA'
      have e : i = ey.length := by omega
      subst e
      rw [List.take_length] at hA'
      cases N with
      | zero => omega
      | succ N =>
        refine br_t (nI_le (by omega) (by omega)) ⟨ey.length + 1, ?_⟩
        refine xm_un39 h3 h5 hx hy hA' hyl hlen ey.length (i := 0) (by omega) (by omega) hI (by rw [Nat.sub_zero, bu_24]; exact hR) hX hX (fun x' m' r' dp mn pa g wo g2 X hM => ?_)
        exact hp x' m' r' dp mn pa st g wo sk sv g2 X hM
    | succ d ih =>
      intro N i sk sv hN hi hA'
      cases N with
      | zero => omega
      | succ N => exact br_f (nI_ge (by omega) (by omega)) (xm_spare hA (by omega) (by omega) hA' (fun sk' sv' hA2 => nm_r (nI_1 i) (ih (by omega) (by omega) hA2)))
  exact l14 ey.length (i := 0) (by omega) (by omega) ms_A0
theorem xm_in37 {post : Int32 → SX → Prop} {sk sv : Nat → Int32} {y : Int32} (hx : ms_S ex) (hA : ms_A sk sv ex) (hxl : ex.length ≤ 24) :
    ∀ (d : Nat) {N i R : Nat} {m : MH} {n dp mn : Int32} {pa g wo : Nat → Int32}, d < N → i + d = ex.length → ps_I fm 720 R → 10 * d ≤ R → mp_M (ps_F fm R) m y ey → mp_M (ps_F fm R) m n (mi ex ey i) →
    (∀ x' m' r' dp mn pa g wo, r' ≤ R → mp_X (ps_F fm R) m (ps_F fm r') m' → mp_M (ps_F fm r') m' x' (mi ex ey ex.length) → post x' (nI r', f_listRoom, dp, mn, f_first, f_second, a_held, a_root, m'.1, m'.2.1, m'.2.2.1, m'.2.2.2.1, m'.2.2.2.2, a_mapMark, fm, a_left, a_right, a_height, a_size, a_element, a_total, a_listMark, a_listFree, pa, a_turns, a_stack, a_other, g, wo, sk, sv, a_low, a_high, a_before, a_behind)) →
    wX_intersection_37 post y (nI ex.length) N n (nI i) (nI R) f_listRoom dp mn f_first f_second a_held a_root m.1 m.2.1 m.2.2.1 m.2.2.2.1 m.2.2.2.2 a_mapMark fm a_left a_right a_height a_size a_element a_total a_listMark a_listFree pa a_turns a_stack a_other g wo sk sv a_low a_high a_before a_behind := by
  intro d
  induction d with
  | zero =>
    intro N i R m n dp mn pa g wo hN hi hI _ hX hM hp
    have e : i = ex.length := by omega
    subst e
    cases N with
    | zero => omega
    | succ N => exact br_t (nI_le (by omega) (by omega)) (hp n m R dp mn pa g wo (by omega) mp_X_r hM)
  | succ d ih =>
    intro N i R m n dp mn pa g wo hN hi hI hR hX hM hp
    cases N with
    | zero => omega
    | succ N =>
      have q := ms_Ag hA (i := i) (by omega)
      have hS := mi_S (ey := ey) hx i
      have hl0 := mi_l (ex := ex) (ey := ey) i
      have hl1 := mi_l (ex := ex) (ey := ey) (i + 1)
      have hn := mi_c (ey := ey) hx (i := i) (by omega)
      have em : mi ex ey (i + 1) = if ms_get (ex.getD i (0, 0)).1 ey = none then ms_del (ex.getD i (0, 0)).1 (mi ex ey i) else mi ex ey i := rfl
      refine br_f (nI_ge (by omega) (by omega)) ⟨vp_in_nI (by omega) (by omega), ?_⟩
      rw [nI_clamp (n := i) (by omega), q.1]
      refine xm_find hX (fun c u hc2 hg hv => ?_) (fun hg => ?_)
      · rw [if_neg (by rw [hg]; simp)] at em
        refine br_t (nI_pos' (by omega)) (nm_r (nI_1 i) ?_)
        exact ih (by omega) (by omega) hI (by omega) hX (by rw [em]; exact hM) hp
      · rw [if_pos hg] at em
        have hR4 : mp_R (ps_F fm R) m 4 n (mi ex ey i) := by
          rcases hM with ⟨_, z⟩ | ⟨_, z⟩
          · rw [z] at hn; exact absurd rfl hn
          · exact z
        rw [em] at hl1
        refine br_f ps_m1nle ⟨vp_in_nI (by omega) (by omega), ?_⟩
        refine xm_without hR4 hS (by omega) hn hI (by omega) (fun x' m' r' dp' mn' pa' g' wo' g1 g2 X hM' => nm_r (nI_1 i) ?_)
        exact ih (by omega) (by omega) (ps_Im g2 hI) (by omega) (mp_M_m X hX) (by rw [em]; exact hM') (fun x3 m3 r3 dp mn pa g wo g3 X3 hM3 => hp x3 m3 r3 dp mn pa g wo (by omega) (mp_X_t X X3) hM3)
theorem xm_intersection {post : Int32 → SX → Prop} {R : Nat} {m : MH} {y : Int32} (hx : ms_S ex) (hxl : ex.length ≤ 24) (hI : ps_I fm 720 R) (hR : 300 ≤ R) (hX : mp_M (ps_F fm R) m x ex) (hY : mp_M (ps_F fm R) m y ey)
    (hp : ∀ x' m' r' dp mn pa st g wo sk sv, r' ≤ R → mp_X (ps_F fm R) m (ps_F fm r') m' → mp_M (ps_F fm r') m' x' (mi ex ey ex.length) → post x' (nI r', f_listRoom, dp, mn, f_first, f_second, a_held, a_root, m'.1, m'.2.1, m'.2.2.1, m'.2.2.2.1, m'.2.2.2.2, a_mapMark, fm, a_left, a_right, a_height, a_size, a_element, a_total, a_listMark, a_listFree, pa, a_turns, st, a_other, g, wo, sk, sv, a_low, a_high, a_before, a_behind)) :
    wpX_intersection post (nI R, f_listRoom, f_depth, f_many, f_first, f_second, a_held, a_root, m.1, m.2.1, m.2.2.1, m.2.2.2.1, m.2.2.2.2, a_mapMark, fm, a_left, a_right, a_height, a_size, a_element, a_total, a_listMark, a_listFree, a_path, a_turns, a_stack, a_other, a_gathered, a_worth, a_spareKey, a_spareValue, a_low, a_high, a_before, a_behind) x y := by
  unfold wpX_intersection
  refine xm_gather hX hx (by omega) (fun st g wo hA => ⟨ex.length + 1, ?_⟩)
  have l13 : ∀ (d : Nat) {N i : Nat} {sk sv : Nat → Int32}, d < N → i + d = ex.length → ms_A sk sv (ex.take i) →
      wX_intersection_13 post x y (nI ex.length) N (nI i) (nI R) f_listRoom f_depth (nI ex.length) f_first f_second a_held a_root m.1 m.2.1 m.2.2.1 m.2.2.2.1 m.2.2.2.2 a_mapMark fm a_left a_right a_height a_size a_element a_total a_listMark a_listFree a_path a_turns st a_other g wo sk sv a_low a_high a_before a_behind := by
    intro d
    induction d with
    | zero =>
      intro N i sk sv hN hi hA'
      have e : i = ex.length := by omega
      subst e
      rw [List.take_length] at hA'
      cases N with
      | zero => omega
      | succ N =>
        refine br_t (nI_le (by omega) (by omega)) ⟨ex.length + 1, ?_⟩
        refine xm_in37 hx hA' hxl ex.length (i := 0) (by omega) (by omega) hI (by omega) hY hX (fun x' m' r' dp mn pa g wo g2 X hM => ?_)
        exact hp x' m' r' dp mn pa st g wo sk sv g2 X hM
    | succ d ih =>
      intro N i sk sv hN hi hA'
      cases N with
      | zero => omega
      | succ N => exact br_f (nI_ge (by omega) (by omega)) (xm_spare hA (by omega) (by omega) hA' (fun sk' sv' hA2 => nm_r (nI_1 i) (ih (by omega) (by omega) hA2)))
  exact l13 ex.length (i := 0) (by omega) (by omega) ms_A0
end
end
section
/-! merge -/
theorem mu_b_m {ex ey : List (Int32 × Int32)} {i j : Nat} (h : i ≤ j) : mu_b ex ey i ≤ mu_b ex ey j ∧ mu_b ex ey j ≤ mu_b ex ey i + (j - i) := by
  induction h with
  | refl => omega
  | @step j hm ih =>
    have hm2 : i ≤ j := hm
    rw [mu_b]
    split <;> omega
section
variable {g_n : Int32} {b_kind b_size b_a b_b b_x b_y : Nat → Int32}
variable {ct : Nat → List (Int32 × Int32)} {a b to how : Nat}
theorem yk_mg64 {post : Int32 → SY → Prop} (ha : a < 8) (hb : b < 8) (h5 : how ≤ 5) (hC : ys_P b_size b_a b_b ct a) (hD : ys_P b_size b_a b_b ct b)
    (hend : ∀ x y, ms_A x y (y1 how (ct a) (ct b) (ct a).length) → ∃ n213, wY_merge_213 post (nI a) (nI b) (nI how) (nI to) n213 (nI 0) (nI (y1 how (ct a) (ct b) (ct a).length).length) b_kind b_size b_a b_b x y) :
    ∀ (d : Nat) {N i : Nat} {x y : Nat → Int32}, d < N → i + d = (ct a).length → ms_A x y (y1 how (ct a) (ct b) i) → wY_merge_64 post (nI a) (nI b) (nI how) (nI to) N (nI i) (nI (y1 how (ct a) (ct b) i).length) b_kind b_size b_a b_b x y := by
  have hC' := hC
  have hD' := hD
  obtain ⟨o1, o2, o3⟩ := hC'
  obtain ⟨r1, r2, r3⟩ := hD'
  intro d
  induction d with
  | zero =>
    intro N i x y hN hi hA
    have e : i = (ct a).length := by omega
    subst e
    cases N with
    | zero => omega
    | succ N =>
      refine And.intro (vp_in_nI ha (by omega)) ?_
      rw [nI_clamp (n := a) (by omega), o1]
      exact br_t (nI_le (by omega) (by omega)) (hend x y hA)
  | succ d ih =>
    intro N i x y hN hi hA
    cases N with
    | zero => omega
    | succ N =>
      have q := o3 i (by omega)
      have hyl := y1_l (how := how) (ea := ct a) (eb := ct b) i
      have em : y1 how (ct a) (ct b) (i + 1) = ap ((ct a).getD i (0, 0)).1 (mgo how (some ((ct a).getD i (0, 0)).2) (ms_get ((ct a).getD i (0, 0)).1 (ct b))) (y1 how (ct a) (ct b) i) := rfl
      have skip : y1 how (ct a) (ct b) (i + 1) = y1 how (ct a) (ct b) i → wY_merge_64 post (nI a) (nI b) (nI how) (nI to) N (nI (i + 1)) (nI (y1 how (ct a) (ct b) i).length) b_kind b_size b_a b_b x y := by
        intro e
        have K := ih (N := N) (i := i + 1) (x := x) (y := y) (by omega) (by omega) (by rw [e]; exact hA)
        rw [e] at K; exact K
      have put : ∀ z : Int32, y1 how (ct a) (ct b) (i + 1) = ms_ins ((ct a).getD i (0, 0)).1 z (y1 how (ct a) (ct b) i) → ∀ {post' : SY → Prop}, (∀ x' y', wY_merge_64 post (nI a) (nI b) (nI how) (nI to) N (nI (i + 1)) (nI (y1 how (ct a) (ct b) (i + 1)).length) b_kind b_size b_a b_b x' y' → post' (nI (y1 how (ct a) (ct b) (i + 1)).length, b_kind, b_size, b_a, b_b, x', y')) →
          wpY_set post' (nI (y1 how (ct a) (ct b) i).length, b_kind, b_size, b_a, b_b, x, y) ((ct a).getD i (0, 0)).1 z := by
        intro z e post' hpost
        refine yk_set (y1_S i) hA (by omega) (fun x' y' hA' => ?_)
        rw [← e] at hA' ⊢
        exact hpost x' y' (ih (by omega) (by omega) hA')
      refine And.intro (vp_in_nI ha (by omega)) ?_
      rw [nI_clamp (n := a) (by omega), o1]
      refine br_f (nI_ge (by omega) (by omega)) ⟨by rw [ps_50]; exact vp_in_nI (by omega) (by omega), nm_r (e' := ((ct a).getD i (0, 0)).1) (by rw [ps_50, nI_clamp (by omega)]; exact q.1) ⟨by rw [ps_50]; exact vp_in_nI (by omega) (by omega), nm_r (e' := ((ct a).getD i (0, 0)).2) (by rw [ps_50, nI_clamp (by omega)]; exact q.2) ?_⟩⟩
      refine yk_find hb hD (fun j w hj hg he => ?_) (fun hg => ?_)
      · rw [hg] at em
        have em : y1 how (ct a) (ct b) (i + 1) = ap ((ct a).getD i (0, 0)).1 (if how = 0 then some ((ct a).getD i (0, 0)).2 else if how = 1 then some w else if how = 2 then some (((ct a).getD i (0, 0)).2 + w) else if how = 3 then some ((ct a).getD i (0, 0)).2 else none) (y1 how (ct a) (ct b) i) := em
        refine br_t (nI_pos' (by omega)) ⟨by rw [ps_50]; exact vp_in_nI (by omega) (by omega), ?_⟩
        rw [ps_50, nI_clamp (n := 50 * b + j) (by omega), (r3 j hj).2, he]
        refine pk_le 3 how (fun c => pk_eq how 3 (fun c3 => br_f (nI_pos (by omega)) ?_) (fun c3 => br_t (nI_pos' (by omega)) (nm_r (nI_1 i) (skip ?_)))) (fun c => br_f (nI_pos (by omega)) (pk_eq how 0 (fun c0 => ?_) (fun c0 => pk_eq how 1 (fun c1 => ?_) (fun c1 => ?_))))
        · rw [if_neg (by omega), if_neg (by omega), if_neg (by omega), if_pos c3] at em
          exact put _ em (fun x' y' W => nm_r (nI_1 i) W)
        · rw [if_neg (by omega), if_neg (by omega), if_neg (by omega), if_neg c3] at em
          exact em
        · rw [if_pos c0] at em
          exact put _ em (fun x' y' W => nm_r (nI_1 i) W)
        · rw [if_neg c0, if_pos c1] at em
          exact put _ em (fun x' y' W => nm_r (nI_1 i) W)
        · rw [if_neg c0, if_neg c1, if_pos (by omega)] at em
          exact put _ em (fun x' y' W => nm_r (nI_1 i) W)
      · rw [hg] at em
        have em : y1 how (ct a) (ct b) (i + 1) = ap ((ct a).getD i (0, 0)).1 (if how = 3 then none else some ((ct a).getD i (0, 0)).2) (y1 how (ct a) (ct b) i) := em
        refine br_f ps_m1nle ?_
        refine pk_le 3 how (fun c => pk_eq how 3 (fun c3 => br_t ps_m1lt (nm_r (nI_1 i) (skip ?_))) (fun c3 => br_f ps_m1nle ?_)) (fun c => br_t ps_m1lt ?_)
        · rw [if_pos c3] at em; exact em
        · rw [if_neg c3] at em
          exact put _ em (fun x' y' W => nm_r (nI_1 i) W)
        · rw [if_neg (by omega)] at em
          exact put _ em (fun x' y' W => nm_r (nI_1 i) W)
theorem yk_mg213 {post : Int32 → SY → Prop} (ha : a < 8) (hb : b < 8) (h5 : how ≤ 5) (hC : ys_P b_size b_a b_b ct a) (hD : ys_P b_size b_a b_b ct b) (hla : (ct a).length ≤ 24) (hlb : (ct b).length ≤ 24)
    (hend : ∀ x y, ms_A x y (y2 how (ct a) (ct b) (ct b).length) → wpY_keep post (nI (y2 how (ct a) (ct b) (ct b).length).length, b_kind, b_size, b_a, b_b, x, y) 1 (nI to)) :
    ∀ (d : Nat) {N i : Nat} {x y : Nat → Int32}, d < N → i + d = (ct b).length → ms_A x y (y2 how (ct a) (ct b) i) → wY_merge_213 post (nI a) (nI b) (nI how) (nI to) N (nI i) (nI (y2 how (ct a) (ct b) i).length) b_kind b_size b_a b_b x y := by
  have hD' := hD
  obtain ⟨r1, r2, r3⟩ := hD'
  intro d
  induction d with
  | zero =>
    intro N i x y hN hi hA
    have e : i = (ct b).length := by omega
    subst e
    cases N with
    | zero => omega
    | succ N =>
      refine And.intro (vp_in_nI hb (by omega)) ?_
      rw [nI_clamp (n := b) (by omega), r1]
      exact br_t (nI_le (by omega) (by omega)) (hend x y hA)
  | succ d ih =>
    intro N i x y hN hi hA
    cases N with
    | zero => omega
    | succ N =>
      have q := r3 i (by omega)
      have hyl := y2_l (how := how) (ea := ct a) (eb := ct b) i
      have em : y2 how (ct a) (ct b) (i + 1) = if ms_get ((ct b).getD i (0, 0)).1 (ct a) = none then ap ((ct b).getD i (0, 0)).1 (if how < 3 ∨ how = 5 then some ((ct b).getD i (0, 0)).2 else none) (y2 how (ct a) (ct b) i) else y2 how (ct a) (ct b) i := rfl
      have skip : y2 how (ct a) (ct b) (i + 1) = y2 how (ct a) (ct b) i → wY_merge_213 post (nI a) (nI b) (nI how) (nI to) N (nI (i + 1)) (nI (y2 how (ct a) (ct b) i).length) b_kind b_size b_a b_b x y := by
        intro e
        have K := ih (N := N) (i := i + 1) (x := x) (y := y) (by omega) (by omega) (by rw [e]; exact hA)
        rw [e] at K; exact K
      have put : y2 how (ct a) (ct b) (i + 1) = ms_ins ((ct b).getD i (0, 0)).1 ((ct b).getD i (0, 0)).2 (y2 how (ct a) (ct b) i) →
          wY_merge_262 post (wY_merge_213 post (nI a) (nI b) (nI how) (nI to) N) (nI a) (nI b) (nI how) (nI to) (nI i) ((ct b).getD i (0, 0)).1 (nI (y2 how (ct a) (ct b) i).length) b_kind b_size b_a b_b x y := by
        intro e
        refine And.intro (by rw [ps_50]; exact vp_in_nI (by omega) (by omega)) ?_
        rw [ps_50, nI_clamp (n := 50 * b + i) (by omega), q.2]
        refine yk_set (y2_S i) hA (by omega) (fun x' y' hA' => nm_r (nI_1 i) ?_)
        rw [← e] at hA' ⊢
        exact ih (by omega) (by omega) hA'
      refine And.intro (vp_in_nI hb (by omega)) ?_
      rw [nI_clamp (n := b) (by omega), r1]
      refine br_f (nI_ge (by omega) (by omega)) ⟨by rw [ps_50]; exact vp_in_nI (by omega) (by omega), nm_r (e' := ((ct b).getD i (0, 0)).1) (by rw [ps_50, nI_clamp (by omega)]; exact q.1) ?_⟩
      refine yk_find ha hC (fun j w hj hg he => ?_) (fun hg => ?_)
      · rw [if_neg (by rw [hg]; simp)] at em
        exact br_t (nI_pos' (by have := hC.2.1; omega)) (nm_r (nI_1 i) (skip em))
      · rw [if_pos hg] at em
        refine br_f ps_m1nle (pk_lt how 3 (fun c => put ?_) (fun c => pk_eq how 5 (fun c5 => put ?_) (fun c5 => nm_r (nI_1 i) (skip ?_))))
        · rw [if_pos (Or.inl c)] at em; exact em
        · rw [if_pos (Or.inr c5)] at em; exact em
        · rw [if_neg (by omega)] at em; exact em
end
section
variable {f_mapRoom f_listRoom f_depth f_many f_first f_second : Int32} {a_held a_root a_data a_links a_more a_keys a_values a_mapMark a_mapFree a_left a_right a_height a_size a_element a_listMark a_listFree a_path a_turns a_stack a_other a_gathered a_worth a_spareKey a_spareValue a_low a_high a_before a_behind : Nat → Int32} {a_total : Nat → Int64}
variable {g_n : Int32} {b_kind b_size b_a b_b b_x b_y : Nat → Int32}
variable {rm rl k : Nat} {ct : Nat → List (Int32 × Int32)} {m : MH} {h : LH}
theorem xm_mg84 {post : Int32 → SX → Prop} {Fm : Nat → Prop} {how to : Int32} {x y : Int32} {ex ey : List (Int32 × Int32)} {g wo : Nat → Int32} (hX : mp_M Fm m x ex) (hA : ms_A g wo ey) (hl : ey.length ≤ 24)
    (hend : ∀ N, wX_merge_84 post how to x y f_mapRoom f_listRoom f_depth (nI ey.length) f_first f_second a_held a_root m.1 m.2.1 m.2.2.1 m.2.2.2.1 m.2.2.2.2 a_mapMark a_mapFree a_left a_right a_height a_size a_element a_total a_listMark a_listFree a_path a_turns a_stack a_other g wo a_spareKey a_spareValue a_low a_high a_before a_behind (N + 1) (nI (mu_b ex ey ey.length)) (nI ey.length)) :
    ∀ (d : Nat) {N i q : Nat}, d < N → i + d = ey.length → q = mu_b ex ey i → wX_merge_84 post how to x y f_mapRoom f_listRoom f_depth (nI ey.length) f_first f_second a_held a_root m.1 m.2.1 m.2.2.1 m.2.2.2.1 m.2.2.2.2 a_mapMark a_mapFree a_left a_right a_height a_size a_element a_total a_listMark a_listFree a_path a_turns a_stack a_other g wo a_spareKey a_spareValue a_low a_high a_before a_behind N (nI q) (nI i) := by
  intro d
  induction d with
  | zero =>
    rintro N i q hN hi rfl
    have e : i = ey.length := by omega
    subst e
    cases N with
    | zero => omega
    | succ N => exact hend N
  | succ d ih =>
    rintro N i q hN hi rfl
    cases N with
    | zero => omega
    | succ N =>
      have z := ms_Ag hA (i := i) (by omega)
      refine br_f (nI_ge (by omega) (by omega)) ⟨vp_in_nI (by omega) (by omega), ?_⟩
      rw [nI_clamp (n := i) (by omega), z.1]
      refine xm_find hX (fun c u hc hg hv => br_f (nI_pos (by omega)) (nm_r (nI_1 _) (nm_r (nI_1 i) (ih (by omega) (by omega) ?_)))) (fun hg => br_t ps_m1lt (nm_r (nI_1 i) (ih (by omega) (by omega) ?_)))
      · rw [mu_b, if_neg (by rw [hg]; simp)]
      · rw [mu_b, if_pos hg, Nat.add_zero]
theorem vc_merge {v1 v2 v3 v4 : Int32} (F : rl_F rm rl ct a_held a_root a_mapFree a_listFree m h b_kind b_size b_a b_b) :
    wpX_merge (fun r u' => wpY_merge (fun r' v' => r' = r ∧ i_Rel (k + 5) u' v') (g_n, b_kind, b_size, b_a, b_b, b_x, b_y) v1 v2 v3 v4) (nI rm, nI rl, f_depth, f_many, f_first, f_second, a_held, a_root, m.1, m.2.1, m.2.2.1, m.2.2.2.1, m.2.2.2.2, a_mapMark, a_mapFree, h.1, h.2.1, h.2.2.1, h.2.2.2.1, h.2.2.2.2.1, h.2.2.2.2.2, a_listMark, a_listFree, a_path, a_turns, a_stack, a_other, a_gathered, a_worth, a_spareKey, a_spareValue, a_low, a_high, a_before, a_behind) v1 v2 v3 v4 := by
  have hys := fun p hp => (F.2.2.2 p hp).2
  have hkk := fun p hp => (F.2.2.2 p hp).1
  unfold wpX_merge
  rcases yk_8 v1 with ⟨a, ha, rfl⟩ | hv
  · refine xn_ok ha ?_
    refine br_t rfl ?_
    rcases yk_8 v2 with ⟨b, hb, rfl⟩ | hv
    · refine xn_ok hb ?_
      refine br_t rfl ?_
      rcases yk_8 v4 with ⟨to, ht, rfl⟩ | hv
      · refine xn_ok ht ?_
        refine br_t rfl ?_
        have Y0 : ∀ q : Int32 → SY → Prop, ((v3 < 0 → q (-1) (g_n, b_kind, b_size, b_a, b_b, b_x, b_y)) ∧ (¬ v3 < 0 → ((v3 ≤ 5 → (vp_in (nI a) 8 ∧ ((a_held a = 1 → (vp_in (nI b) 8 ∧ ((a_held b = 1 → ∃ n64, wY_merge_64 q (nI a) (nI b) v3 (nI to) n64 0 0 b_kind b_size b_a b_b b_x b_y) ∧ (¬ a_held b = 1 → q (-2) (g_n, b_kind, b_size, b_a, b_b, b_x, b_y))))) ∧ (¬ a_held a = 1 → q (-2) (g_n, b_kind, b_size, b_a, b_b, b_x, b_y))))) ∧ (¬ v3 ≤ 5 → q (-1) (g_n, b_kind, b_size, b_a, b_b, b_x, b_y))))) → wpY_merge q (g_n, b_kind, b_size, b_a, b_b, b_x, b_y) (nI a) (nI b) v3 (nI to) := by
          intro q hq
          unfold wpY_merge
          refine yp_ok ha ?_
          refine br_f (by decide) ?_
          refine yp_ok hb ?_
          refine br_f (by decide) ?_
          refine yp_ok ht ?_
          refine br_f (by decide) ?_
          rw [nI_clamp (n := a) (by omega), nI_clamp (n := b) (by omega), hkk a ha, hkk b hb]
          exact hq
        by_cases c1 : v3 < 0
        · refine br_t c1 ?_
          exact Y0 _ (br_t c1 ⟨rfl, rl_in F⟩)
        · refine br_f c1 ?_
          by_cases c2 : v3 ≤ 5
          · refine br_t c2 ⟨vp_in_nI ha (by omega), ?_⟩
            rw [nI_clamp (n := a) (by omega), nI_clamp (n := b) (by omega)]
            obtain ⟨how, h5, rfl⟩ := nI_of2 (M := 5) (n := 5) (by decide) c1 c2
            by_cases cA : a_held a = 1
            · refine br_t cA ⟨vp_in_nI hb (by omega), ?_⟩
              by_cases cB : a_held b = 1
              · rcases F.2.2.1 a ha with ⟨z, _⟩ | ⟨z, z1, z2, z3⟩ | ⟨z, _⟩
                · exact absurd (cA.symm.trans z) (by decide)
                rcases F.2.2.1 b hb with ⟨w, _⟩ | ⟨w, w1, w2, w3⟩ | ⟨w, _⟩
                · exact absurd (cB.symm.trans w) (by decide)
                · have hRS := y2_S (how := how) (ea := ct a) (eb := ct b) (ct b).length
                  have hRl := y2_l (how := how) (ea := ct a) (eb := ct b) (ct b).length
                  have YY : ∀ q : Int32 → SY → Prop, (24 < (y2 how (ct a) (ct b) (ct b).length).length → ∀ n x y, q (-4) (n, b_kind, b_size, b_a, b_b, x, y)) → ((y2 how (ct a) (ct b) (ct b).length).length ≤ 24 → ∀ n x y a' b' s', (∀ p, p < 8 → ys_P s' a' b' (uc ct to (y2 how (ct a) (ct b) (ct b).length)) p) → q (nI (y2 how (ct a) (ct b) (ct b).length).length) (n, upd b_kind to 1, s', a', b', x, y)) → wpY_merge q (g_n, b_kind, b_size, b_a, b_b, b_x, b_y) (nI a) (nI b) (nI how) (nI to) := by
                    intro q h4 hk
                    refine Y0 q (br_f c1 (br_t c2 ⟨vp_in_nI ha (by omega), br_t z ⟨vp_in_nI hb (by omega), br_t w ⟨(ct a).length + 1, ?_⟩⟩⟩))
                    refine yk_mg64 ha hb h5 (hys a ha) (hys b hb) (fun x y hA => ⟨(ct b).length + 1, ?_⟩) (ct a).length (i := 0) (by omega) (by omega) ms_A0
                    refine yk_mg213 ha hb h5 (hys a ha) (hys b hb) z3 w3 (fun x y hA => ?_) (ct b).length (i := 0) (by omega) (by omega) hA
                    exact yk_keep ht (Or.inl ⟨rfl, rfl⟩) hA (by omega) hys (fun c => h4 c _ _ _) (fun c a' b' s' hY => hk c _ _ _ a' b' s' hY)
                  -- the walk behind the count
                  have go : ∀ {mn : Int32} {st g wo : Nat → Int32}, (y2 how (ct a) (ct b) (ct b).length).length ≤ 24 → ∀ z0 : Int32, z0 ≤ 24 → wX_merge_165 (fun r u' => wpY_merge (fun r' v' => r' = r ∧ i_Rel (k + 5) u' v') (g_n, b_kind, b_size, b_a, b_b, b_x, b_y) (nI a) (nI b) (nI how) (nI to)) (nI how) (nI to) (a_root a) (a_root b) z0 (nI rm) (nI rl) f_depth mn f_first f_second a_held a_root m.1 m.2.1 m.2.2.1 m.2.2.2.1 m.2.2.2.2 a_mapMark a_mapFree h.1 h.2.1 h.2.2.1 h.2.2.2.1 h.2.2.2.2.1 h.2.2.2.2.2 a_listMark a_listFree a_path a_turns st a_other g wo a_spareKey a_spareValue a_low a_high a_before a_behind := by
                    intro mn st g wo hl24 z0 hz
                    refine br_t hz (xt_tidy F.1 F.2.1 F.2.2.1 (fun mm lm st fm' rm' fl' rl' i1 i2 i3 i4 hP' => ?_))
                    rcases hP' a ha with ⟨z', _⟩ | ⟨z', z1, z2, z3⟩ | ⟨z', _⟩
                    · exact absurd (cA.symm.trans z') (by decide)
                    rcases hP' b hb with ⟨w', _⟩ | ⟨w', w1, w2, w3⟩ | ⟨w', _⟩
                    · exact absurd (cB.symm.trans w') (by decide)
                    · refine pk_eq how 3 (fun c3 => ?_) (fun c3 => ?_)
                      · refine xm_intersection z2 z3 i1 i2 z1 w1 (fun x' m' r' dp mn pa st g wo sk sv g2 X hM => ?_)
                        rw [mg_i z2 w2] at hM
                        subst c3
                        refine xp_map ht hM (by omega) (fun st' => ?_)
                        refine YY _ (fun c4 => absurd c4 (by omega)) (fun _ n x y a' b' s' hY => ⟨rfl, ?_⟩)
                        exact rl_in (rl_put (ps_Im g2 i1) i3 (fun p p8 => xs_m X pl_X_r (hP' p p8)) hkk (Or.inr (Or.inl ⟨rfl, hM, hRS, hl24⟩)) hY)
                      · have el := mg_u (how := how) c3 h5 z2 w2
                        have hend := mu_len (how := how) c3 h5 z2 w2 (ct b).length (Nat.le_refl _)
                        have hlen : ∀ j, j ≤ (ct b).length → (mu how (ct a) (ct b) j).length ≤ 36 ∧ (mu how (ct a) (ct b) j).length ≤ 24 + j := by
                          intro j hj
                          obtain ⟨l1, l2, l3⟩ := mu_len (how := how) c3 h5 z2 w2 j hj
                          obtain ⟨e1, e2, e3⟩ := hend
                          have hm := mu_b_m (ex := ct a) (ey := ct b) hj
                          have hm0 := mu_b_le (ex := ct a) (ey := ct b) j
                          rw [el] at e1 e2 e3
                          by_cases p1 : how ≤ 2
                          · have l1 := l1 p1
                            have e1 := e1 p1
                            omega
                          · by_cases p4 : how = 4
                            · have l2 := l2 p4
                              omega
                            · have l3 := l3 (by omega)
                              have e3 := e3 (by omega)
                              omega
                        refine xm_union c3 h5 z2 w2 w3 hlen i1 i2 z1 w1 (fun x' m' r' dp mn pa st g wo sk sv g2 X hM => ?_)
                        rw [el] at hM
                        refine xp_map ht hM (by omega) (fun st' => ?_)
                        refine YY _ (fun c4 => absurd c4 (by omega)) (fun _ n x y a' b' s' hY => ⟨rfl, ?_⟩)
                        exact rl_in (rl_put (ps_Im g2 i1) i3 (fun p p8 => xs_m X pl_X_r (hP' p p8)) hkk (Or.inr (Or.inl ⟨rfl, hM, hRS, hl24⟩)) hY)
                    · exact absurd (cB.symm.trans w') (by decide)
                    · exact absurd (cA.symm.trans z') (by decide)
                  refine br_t cB ⟨vp_in_nI ha (by omega), nm_e ⟨vp_in_nI hb (by omega), nm_e ?_⟩⟩
                  refine xm_gather w1 w2 (by omega) (fun st g wo hA => ⟨(ct b).length + 1, ?_⟩)
                  refine xm_mg84 z1 hA w3 (fun N => ?_) (ct b).length (i := 0) (q := 0) (by omega) (by omega) rfl
                  refine br_t (nI_le (Nat.le_refl _) (by omega)) (xm_mapSize z1 (by omega) (fun st' => ?_))
                  have hb1 := mu_b_le (ex := ct a) (ey := ct b) (ct b).length
                  refine pk_le 3 how (fun c3 => pk_eq how 5 (fun c5 => ?_) (fun c5 => ?_)) (fun c3 => ?_)
                  · have el := mg_u (how := how) (by omega) h5 z2 w2
                    have hend := (mu_len (how := how) (by omega) h5 z2 w2 (ct b).length (Nat.le_refl _)).2.2 c5
                    rw [el] at hend
                    have ez : nI (ct a).length + nI (ct b).length - 2 * nI (mu_b (ct a) (ct b) (ct b).length) = nI (y2 how (ct a) (ct b) (ct b).length).length := by
                      show nI (ct a).length + nI (ct b).length - nI 2 * nI (mu_b (ct a) (ct b) (ct b).length) = _
                      rw [nI_add, pk_mul, pk_sub (by omega)]
                      exact congrArg nI (by omega)
                    rw [ez]
                    by_cases c : (y2 how (ct a) (ct b) (ct b).length).length ≤ 24
                    · exact go c _ (nI_le (b := 24) c (by omega))
                    · exact br_f (nI_ge (a := 24) (by omega) (by omega)) (YY _ (fun _ n x y => ⟨rfl, rl_in F⟩) (fun c4 => absurd c4 c))
                  · refine go ?_ _ (by decide)
                    by_cases p3 : how = 3
                    · subst p3
                      rw [← mg_i z2 w2]
                      exact Nat.le_trans (mi_l _) z3
                    · have el := mg_u (how := how) p3 h5 z2 w2
                      have hend := (mu_len (how := how) p3 h5 z2 w2 (ct b).length (Nat.le_refl _)).2.1 (by omega)
                      rw [el] at hend
                      omega
                  · have el := mg_u (how := how) (by omega) h5 z2 w2
                    have hend := (mu_len (how := how) (by omega) h5 z2 w2 (ct b).length (Nat.le_refl _)).1 (by omega)
                    rw [el] at hend
                    have ez : nI (ct a).length + nI (ct b).length - nI (mu_b (ct a) (ct b) (ct b).length) = nI (y2 how (ct a) (ct b) (ct b).length).length := by
                      rw [nI_add, pk_sub (by omega)]
                      exact congrArg nI (by omega)
                    rw [ez]
                    by_cases c : (y2 how (ct a) (ct b) (ct b).length).length ≤ 24
                    · exact go c _ (nI_le (b := 24) c (by omega))
                    · exact br_f (nI_ge (a := 24) (by omega) (by omega)) (YY _ (fun _ n x y => ⟨rfl, rl_in F⟩) (fun c4 => absurd c4 c))
                · exact absurd (cB.symm.trans w) (by decide)
                · exact absurd (cA.symm.trans z) (by decide)
              · refine br_f cB ?_
                exact Y0 _ (br_f c1 (br_t c2 ⟨vp_in_nI ha (by omega), br_t cA ⟨vp_in_nI hb (by omega), br_f cB ⟨rfl, rl_in F⟩⟩⟩))
            · refine br_f cA ?_
              exact Y0 _ (br_f c1 (br_t c2 ⟨vp_in_nI ha (by omega), br_f cA ⟨rfl, rl_in F⟩⟩))
          · refine br_f c2 ?_
            exact Y0 _ (br_f c1 (br_f c2 ⟨rfl, rl_in F⟩))
      · refine xn_bad hv ?_
        refine br_f (by decide) ?_
        show wpY_merge _ _ _ _ _ _
        unfold wpY_merge
        refine yp_ok ha ?_
        refine br_f (by decide) ?_
        refine yp_ok hb ?_
        refine br_f (by decide) ?_
        refine yp_bad hv ?_
        exact br_t rfl ⟨rfl, rl_in F⟩
    · refine xn_bad hv ?_
      refine br_f (by decide) ?_
      show wpY_merge _ _ _ _ _ _
      unfold wpY_merge
      refine yp_ok ha ?_
      refine br_f (by decide) ?_
      refine yp_bad hv ?_
      exact br_t rfl ⟨rfl, rl_in F⟩
  · refine xn_bad hv ?_
    refine br_f (by decide) ?_
    show wpY_merge _ _ _ _ _ _
    unfold wpY_merge
    refine yp_bad hv ?_
    exact br_t rfl ⟨rfl, rl_in F⟩
end
end
section
/-! what is owed -/
theorem i_vc_make {k : Nat} {u : SX} {v : SY} (I : i_Rel k u v) (hk : k + 5 ≤ 2560) (v1 : Int32) (v2 : Int32) : wpX_make (fun r u' => wpY_make (fun r' v' => r' = r ∧ i_Rel (k + 5) u' v') v v1 v2) u v1 v2 :=
  rl_el (P := fun u v => wpX_make (fun r u' => wpY_make (fun r' v' => r' = r ∧ i_Rel (k + 5) u' v') v v1 v2) u v1 v2) (fun F => vc_make F) I
theorem i_vc_copy {k : Nat} {u : SX} {v : SY} (I : i_Rel k u v) (hk : k + 5 ≤ 2560) (v1 : Int32) (v2 : Int32) : wpX_copy (fun r u' => wpY_copy (fun r' v' => r' = r ∧ i_Rel (k + 5) u' v') v v1 v2) u v1 v2 :=
  rl_el (P := fun u v => wpX_copy (fun r u' => wpY_copy (fun r' v' => r' = r ∧ i_Rel (k + 5) u' v') v v1 v2) u v1 v2) (fun F => vc_copy F) I
theorem i_vc_put {k : Nat} {u : SX} {v : SY} (I : i_Rel k u v) (hk : k + 5 ≤ 2560) (v1 : Int32) (v2 : Int32) (v3 : Int32) (v4 : Int32) : wpX_put (fun r u' => wpY_put (fun r' v' => r' = r ∧ i_Rel (k + 5) u' v') v v1 v2 v3 v4) u v1 v2 v3 v4 :=
  rl_el (P := fun u v => wpX_put (fun r u' => wpY_put (fun r' v' => r' = r ∧ i_Rel (k + 5) u' v') v v1 v2 v3 v4) u v1 v2 v3 v4) (fun F => vc_put F) I
theorem i_vc_remove {k : Nat} {u : SX} {v : SY} (I : i_Rel k u v) (hk : k + 5 ≤ 2560) (v1 : Int32) (v2 : Int32) (v3 : Int32) : wpX_remove (fun r u' => wpY_remove (fun r' v' => r' = r ∧ i_Rel (k + 5) u' v') v v1 v2 v3) u v1 v2 v3 :=
  rl_el (P := fun u v => wpX_remove (fun r u' => wpY_remove (fun r' v' => r' = r ∧ i_Rel (k + 5) u' v') v v1 v2 v3) u v1 v2 v3) (fun F => vc_remove F) I
theorem i_vc_merge {k : Nat} {u : SX} {v : SY} (I : i_Rel k u v) (hk : k + 5 ≤ 2560) (v1 : Int32) (v2 : Int32) (v3 : Int32) (v4 : Int32) : wpX_merge (fun r u' => wpY_merge (fun r' v' => r' = r ∧ i_Rel (k + 5) u' v') v v1 v2 v3 v4) u v1 v2 v3 v4 :=
  rl_el (P := fun u v => wpX_merge (fun r u' => wpY_merge (fun r' v' => r' = r ∧ i_Rel (k + 5) u' v') v v1 v2 v3 v4) u v1 v2 v3 v4) (fun F => vc_merge F) I
theorem i_vc_value {k : Nat} {u : SX} {v : SY} (I : i_Rel k u v) (hk : k + 5 ≤ 2560) (v1 : Int32) (v2 : Int32) : wpX_value (fun r => wpY_value (fun r' => r' = r ∧ i_Rel (k + 5) u v) v v1 v2) u v1 v2 :=
  rl_el (P := fun u v => wpX_value (fun r => wpY_value (fun r' => r' = r ∧ i_Rel (k + 5) u v) v v1 v2) u v1 v2) (fun F => vc_value F) I
theorem i_vc_key {k : Nat} {u : SX} {v : SY} (I : i_Rel k u v) (hk : k + 5 ≤ 2560) (v1 : Int32) (v2 : Int32) : wpX_key (fun r u' => wpY_key (fun r' => r' = r ∧ i_Rel (k + 5) u' v) v v1 v2) u v1 v2 :=
  rl_el (P := fun u v => wpX_key (fun r u' => wpY_key (fun r' => r' = r ∧ i_Rel (k + 5) u' v) v v1 v2) u v1 v2) (fun F => vc_key F) I
theorem i_vc_insert {k : Nat} {u : SX} {v : SY} (I : i_Rel k u v) (hk : k + 5 ≤ 2560) (v1 : Int32) (v2 : Int32) (v3 : Int32) (v4 : Int32) : wpX_insert (fun r u' => wpY_insert (fun r' v' => r' = r ∧ i_Rel (k + 5) u' v') v v1 v2 v3 v4) u v1 v2 v3 v4 :=
  rl_el (P := fun u v => wpX_insert (fun r u' => wpY_insert (fun r' v' => r' = r ∧ i_Rel (k + 5) u' v') v v1 v2 v3 v4) u v1 v2 v3 v4) (fun F => vc_insert F) I
theorem i_vc_cut {k : Nat} {u : SX} {v : SY} (I : i_Rel k u v) (hk : k + 5 ≤ 2560) (v1 : Int32) (v2 : Int32) (v3 : Int32) (v4 : Int32) : wpX_cut (fun r u' => wpY_cut (fun r' v' => r' = r ∧ i_Rel (k + 5) u' v') v v1 v2 v3 v4) u v1 v2 v3 v4 :=
  rl_el (P := fun u v => wpX_cut (fun r u' => wpY_cut (fun r' v' => r' = r ∧ i_Rel (k + 5) u' v') v v1 v2 v3 v4) u v1 v2 v3 v4) (fun F => vc_cut F) I
theorem i_vc_part {k : Nat} {u : SX} {v : SY} (I : i_Rel k u v) (hk : k + 5 ≤ 2560) (v1 : Int32) (v2 : Int32) (v3 : Int32) (v4 : Int32) : wpX_part (fun r u' => wpY_part (fun r' v' => r' = r ∧ i_Rel (k + 5) u' v') v v1 v2 v3 v4) u v1 v2 v3 v4 :=
  rl_el (P := fun u v => wpX_part (fun r u' => wpY_part (fun r' v' => r' = r ∧ i_Rel (k + 5) u' v') v v1 v2 v3 v4) u v1 v2 v3 v4) (fun F => vc_part F) I
theorem i_vc_join {k : Nat} {u : SX} {v : SY} (I : i_Rel k u v) (hk : k + 5 ≤ 2560) (v1 : Int32) (v2 : Int32) (v3 : Int32) : wpX_join (fun r u' => wpY_join (fun r' v' => r' = r ∧ i_Rel (k + 5) u' v') v v1 v2 v3) u v1 v2 v3 :=
  rl_el (P := fun u v => wpX_join (fun r u' => wpY_join (fun r' v' => r' = r ∧ i_Rel (k + 5) u' v') v v1 v2 v3) u v1 v2 v3) (fun F => vc_join F) I
theorem i_vc_turn {k : Nat} {u : SX} {v : SY} (I : i_Rel k u v) (hk : k + 5 ≤ 2560) (v1 : Int32) (v2 : Int32) : wpX_turn (fun r u' => wpY_turn (fun r' v' => r' = r ∧ i_Rel (k + 5) u' v') v v1 v2) u v1 v2 :=
  rl_el (P := fun u v => wpX_turn (fun r u' => wpY_turn (fun r' v' => r' = r ∧ i_Rel (k + 5) u' v') v v1 v2) u v1 v2) (fun F => vc_turn F) I
theorem i_vc_at {k : Nat} {u : SX} {v : SY} (I : i_Rel k u v) (hk : k + 5 ≤ 2560) (v1 : Int32) (v2 : Int32) : wpX_at (fun r => wpY_at (fun r' => r' = r ∧ i_Rel (k + 5) u v) v v1 v2) u v1 v2 :=
  rl_el (P := fun u v => wpX_at (fun r => wpY_at (fun r' => r' = r ∧ i_Rel (k + 5) u v) v v1 v2) u v1 v2) (fun F => vc_at F) I
theorem i_vc_sum {k : Nat} {u : SX} {v : SY} (I : i_Rel k u v) (hk : k + 5 ≤ 2560) (v1 : Int32) (v2 : Int32) (v3 : Int32) : wpX_sum (fun r => wpY_sum (fun r' => r' = r ∧ i_Rel (k + 5) u v) v v1 v2 v3) u v1 v2 v3 :=
  rl_el (P := fun u v => wpX_sum (fun r => wpY_sum (fun r' => r' = r ∧ i_Rel (k + 5) u v) v v1 v2 v3) u v1 v2 v3) (fun F => vc_sum F) I
theorem i_vc_convert {k : Nat} {u : SX} {v : SY} (I : i_Rel k u v) (hk : k + 5 ≤ 2560) (v1 : Int32) (v2 : Int32) (v3 : Int32) : wpX_convert (fun r u' => wpY_convert (fun r' v' => r' = r ∧ i_Rel (k + 5) u' v') v v1 v2 v3) u v1 v2 v3 :=
  rl_el (P := fun u v => wpX_convert (fun r u' => wpY_convert (fun r' v' => r' = r ∧ i_Rel (k + 5) u' v') v v1 v2 v3) u v1 v2 v3) (fun F => vc_convert F) I
theorem i_vc_about {k : Nat} {u : SX} {v : SY} (I : i_Rel k u v) (hk : k + 5 ≤ 2560) (v1 : Int32) (v2 : Int32) : wpX_about (fun r u' => wpY_about (fun r' => r' = r ∧ i_Rel (k + 5) u' v) v v1 v2) u v1 v2 :=
  rl_el (P := fun u v => wpX_about (fun r u' => wpY_about (fun r' => r' = r ∧ i_Rel (k + 5) u' v) v v1 v2) u v1 v2) (fun F => vc_about F) I
theorem i_vc_same {k : Nat} {u : SX} {v : SY} (I : i_Rel k u v) (hk : k + 5 ≤ 2560) (v1 : Int32) (v2 : Int32) : wpX_same (fun r u' => wpY_same (fun r' => r' = r ∧ i_Rel (k + 5) u' v) v v1 v2) u v1 v2 :=
  rl_el (P := fun u v => wpX_same (fun r u' => wpY_same (fun r' => r' = r ∧ i_Rel (k + 5) u' v) v v1 v2) u v1 v2) (fun F => vc_same F) I
end
