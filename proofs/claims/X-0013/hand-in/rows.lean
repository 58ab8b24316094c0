section
/-! pure rows to paste: stores, nI and lN arithmetic, masks, shifts, narrowing, branches by naturals (pk_le, pk_lt, pk_eq), loops (lp1 .. lp16: the measure of the state; rp1 ..: recursion), negatives. Take what you need -/
theorem pk_us {f : Nat → Int32} {k : Nat} {x : Int32} : upd f k x k = x := if_pos rfl
theorem pk_un {f : Nat → Int32} {k j : Nat} {x : Int32} (h : j ≠ k) : upd f k x j = f j := if_neg h
theorem pk_uLs {f : Nat → Int64} {k : Nat} {x : Int64} : vp_updL f k x k = x := if_pos rfl
theorem pk_uLn {f : Nat → Int64} {k j : Nat} {x : Int64} (h : j ≠ k) : vp_updL f k x j = f j := if_neg h
theorem pk_sub {a b : Nat} (h : b ≤ a) : nI a - nI b = nI (a - b) := by
  obtain ⟨c, rfl⟩ : ∃ c, a = c + b := ⟨a - b, by omega⟩
  rw [← nI_add, Int32.add_sub_cancel, Nat.add_sub_cancel]
theorem pk_m1 (n : Nat) : nI (n + 1) + (-1) = nI n := by
  rw [← nI_1, Int32.add_assoc, show (1 : Int32) + (-1) = 0 from rfl, Int32.add_zero]
theorem pk_mul (a b : Nat) : nI a * nI b = nI (a * b) := (Int32.ofNat_mul a b).symm
theorem pk_div {a d : Nat} (ha : a < 2 ^ 31) (h0 : 0 < d) (hd : d < 2 ^ 31) : nI a / nI d = nI (a / d) := by
  apply Int32.toInt_inj.mp
  rw [lg_idiv_nonneg (by rw [nI_toInt ha]; omega) (by rw [nI_toInt hd]; omega), nI_toInt ha, nI_toInt hd, nI_toInt (Nat.lt_of_le_of_lt (Nat.div_le_self a d) ha)]
  first | rfl | exact (Int.natCast_ediv _ _).symm
theorem pk_rem {a d : Nat} (ha : a < 2 ^ 31) (h0 : 0 < d) (hd : d < 2 ^ 31) : nI a - nI a / nI d * nI d = nI (a % d) := by
  rw [pk_div ha h0 hd, pk_mul, pk_sub (Nat.div_mul_le_self a d)]
  exact congrArg nI (by have := Nat.div_add_mod' a d; omega)
theorem pk_sub_toInt {a b : Nat} (ha : a < 2 ^ 30) (hb : b < 2 ^ 30) : (nI a - nI b).toInt = (a : Int) - b := by
  rw [Int32.toInt_sub, nI_toInt (by omega), nI_toInt (by omega)]
  exact Int.bmod_eq_of_le (by omega) (by omega)
theorem pk_sneg {a b : Nat} (hb : b < 2 ^ 30) (h : a < b) : nI a - nI b < 0 := by
  rw [Int32.lt_iff_toInt_lt, pk_sub_toInt (by omega) hb, show (0 : Int32).toInt = 0 from by decide]
  omega
theorem pk_ix (x : Int32) {n : Nat} (hn : n < 2 ^ 31) : x < 0 ∨ nI n ≤ x ∨ ∃ j : Nat, j < n ∧ x = nI j := by
  by_cases h : x < 0
  · exact Or.inl h
  · obtain ⟨j, hj, rfl⟩ := nI_of h
    by_cases h2 : j < n
    · exact Or.inr (Or.inr ⟨j, h2, rfl⟩)
    · exact Or.inr (Or.inl (nI_le (by omega) hj))
theorem pk_le {x y : Int32} {A B : Prop} (a b : Nat) (f : a ≤ b → A) (g : b < a → B) (hx : x = nI a := by rfl) (hy : y = nI b := by rfl) (ha : a < 2 ^ 31 := by omega) (hb : b < 2 ^ 31 := by omega) : (x ≤ y → A) ∧ (¬ x ≤ y → B) := by
  subst hx hy
  rw [nI_leI ha hb]
  exact ⟨f, fun z => g (by omega)⟩
theorem pk_lt {x y : Int32} {A B : Prop} (a b : Nat) (f : a < b → A) (g : b ≤ a → B) (hx : x = nI a := by rfl) (hy : y = nI b := by rfl) (ha : a < 2 ^ 31 := by omega) (hb : b < 2 ^ 31 := by omega) : (x < y → A) ∧ (¬ x < y → B) := by
  subst hx hy
  rw [nI_ltI ha hb]
  exact ⟨f, fun z => g (by omega)⟩
theorem pk_eq {x y : Int32} {A B : Prop} (a b : Nat) (f : a = b → A) (g : a ≠ b → B) (hx : x = nI a := by rfl) (hy : y = nI b := by rfl) (ha : a < 2 ^ 31 := by omega) (hb : b < 2 ^ 31 := by omega) : (x = y → A) ∧ (¬ x = y → B) := by
  subst hx hy
  rw [nI_eq ha hb]
  exact ⟨f, g⟩
theorem pk_in {x : Int32} (n N : Nat) (h : n < N) (hx : x = nI n := by rfl) (hN : N < 2 ^ 31 := by omega) : vp_in x N := by
  subst hx
  exact vp_in_nI h hN
theorem pk_cl {x : Int32} (n : Nat) (hx : x = nI n := by rfl) (h : n < 2 ^ 31 := by omega) : x.toNatClampNeg = n := by
  subst hx
  exact nI_clamp h
theorem pk_tn {n : Nat} (h : n < 2 ^ 32) : (nI n).toBitVec.toNat = n := Nat.mod_eq_of_lt h
theorem pk_and (x : Int32) {m : Int32} (k : Nat) (hm : m.toBitVec.toNat = 2 ^ k - 1) : x &&& m = nI (x.toBitVec.toNat % 2 ^ k) := by
  apply Int32.toBitVec_inj.mp
  apply BitVec.eq_of_toNat_eq
  rw [Int32.toBitVec_and, BitVec.toNat_and, hm, Nat.and_two_pow_sub_one_eq_mod]
  show _ = (BitVec.ofNat 32 _).toNat
  rw [BitVec.toNat_ofNat]
  exact (Nat.mod_eq_of_lt (Nat.lt_of_le_of_lt (Nat.mod_le _ _) x.toBitVec.isLt)).symm
theorem pk_andN {n : Nat} (h : n < 2 ^ 32) {m : Int32} (k : Nat) (hm : m.toBitVec.toNat = 2 ^ k - 1) : nI n &&& m = nI (n % 2 ^ k) := by
  rw [pk_and _ k hm, pk_tn h]
theorem pk_andE (x : Int32) {m : Int32} (k : Nat) (hm : m.toBitVec.toNat = 2 ^ k - 1) : ∃ j : Nat, j < 2 ^ k ∧ x &&& m = nI j := ⟨_, Nat.mod_lt _ (Nat.two_pow_pos k), pk_and x k hm⟩
theorem pk_andIn (x : Int32) {m : Int32} (k : Nat) (hm : m.toBitVec.toNat = 2 ^ k - 1) (hk : k ≤ 30) : vp_in (x &&& m) (2 ^ k) := by
  obtain ⟨j, hj, e⟩ := pk_andE x k hm
  rw [e]
  exact vp_in_nI hj (Nat.lt_of_le_of_lt (Nat.pow_le_pow_right (by decide) hk) (by decide))
theorem pk_shl (a s : Int32) (k : Nat) (hs : (s.toBitVec.smod 32).toNat = k) : (a <<< s).toBitVec.toNat = a.toBitVec.toNat * 2 ^ k % 2 ^ 32 := by
  show (a.toBitVec <<< (s.toBitVec.smod 32).toNat).toNat = _
  rw [hs, BitVec.toNat_shiftLeft, Nat.shiftLeft_eq]
theorem pk_shlN {n : Nat} (s : Int32) (k : Nat) (hs : (s.toBitVec.smod 32).toNat = k) (h : n * 2 ^ k < 2 ^ 32) : nI n <<< s = nI (n * 2 ^ k) := by
  apply Int32.toBitVec_inj.mp
  apply BitVec.eq_of_toNat_eq
  have hn : n < 2 ^ 32 := Nat.lt_of_le_of_lt (Nat.le_mul_of_pos_right n (Nat.two_pow_pos k)) h
  rw [pk_shl _ _ k hs, pk_tn hn, pk_tn h, Nat.mod_eq_of_lt h]
theorem pk_shr (a s : Int32) (k : Nat) (hs : (s.toBitVec.smod 32).toNat = k) : (a >>> s).toInt = a.toInt >>> k := by
  show (a.toBitVec.sshiftRight (s.toBitVec.smod 32).toNat).toInt = _
  rw [hs, BitVec.toInt_sshiftRight]
  rfl
theorem pk_shrN {n : Nat} (h : n < 2 ^ 31) (s : Int32) (k : Nat) (hs : (s.toBitVec.smod 32).toNat = k) : nI n >>> s = nI (n / 2 ^ k) := by
  apply Int32.toInt_inj.mp
  have h2 : n / 2 ^ k ≤ n := Nat.div_le_self _ _
  rw [pk_shr _ _ k hs, nI_toInt h, nI_toInt (by omega), Int.shiftRight_eq_div_pow]
  rfl
theorem pk_ushr (x s : Int32) (k : Nat) (hs : ((s.toUInt32 &&& Int32.toUInt32 31).toBitVec % 32).toNat = k) : (x.toUInt32 >>> (s.toUInt32 &&& Int32.toUInt32 31)).toInt32.toBitVec.toNat = x.toBitVec.toNat / 2 ^ k := by
  have e : (x.toUInt32 >>> (s.toUInt32 &&& Int32.toUInt32 31)).toInt32.toBitVec = x.toBitVec >>> k := by
    rw [← hs]
    exact UInt32.toBitVec_shiftRight _ _
  rw [e, BitVec.toNat_ushiftRight, Nat.shiftRight_eq_div_pow]
theorem pk_ushrN {n : Nat} (hn : n < 2 ^ 32) (s : Int32) (k : Nat) (hs : ((s.toUInt32 &&& Int32.toUInt32 31).toBitVec % 32).toNat = k) : ((nI n).toUInt32 >>> (s.toUInt32 &&& Int32.toUInt32 31)).toInt32 = nI (n / 2 ^ k) := by
  apply Int32.toBitVec_inj.mp
  apply BitVec.eq_of_toNat_eq
  rw [pk_ushr _ s k hs, pk_tn hn, pk_tn (Nat.lt_of_le_of_lt (Nat.div_le_self _ _) hn)]
theorem pk_nb (z : Int32) : narrow .byte (.int z.toInt8.toInt32) = .int z.toInt8.toInt32 := congrArg Value.int (by simp)
theorem pk_ns (z : Int32) : narrow .short (.int z.toInt16.toInt32) = .int z.toInt16.toInt32 := congrArg Value.int (by simp)
theorem pk_fb (r : Int32) : fits .byte (.int r.toInt8.toInt32) = true := by
  have ⟨a, b⟩ := lg_i2b_range r
  have h1 : (-128 : Int32).toInt = -128 := by decide
  have h2 : (127 : Int32).toInt = 127 := by decide
  simp only [fits, Bool.and_eq_true, decide_eq_true_eq, Int32.le_iff_toInt_le, h1, h2]
  omega
theorem pk_fs (r : Int32) : fits .short (.int r.toInt16.toInt32) = true := by
  have ⟨a, b⟩ := lg_i2s_range r
  have h1 : (-32768 : Int32).toInt = -32768 := by decide
  have h2 : (32767 : Int32).toInt = 32767 := by decide
  simp only [fits, Bool.and_eq_true, decide_eq_true_eq, Int32.le_iff_toInt_le, h1, h2]
  omega
theorem pk_charN {q : Nat} (hq : q < 65536) : narrow .char (.int (nI q)) = .int (nI q) ∧ fits .char (.int (nI q)) = true := by
  constructor
  · have e : (nI q).toUInt32.toUInt16.toUInt32.toInt32 = nI q := by
      apply Int32.toBitVec_inj.mp
      apply BitVec.eq_of_toNat_eq
      show (nI q).toUInt32.toUInt16.toUInt32.toNat = q % 2 ^ 32
      rw [UInt16.toNat_toUInt32, UInt32.toNat_toUInt16, show (nI q).toUInt32.toNat = q % 2 ^ 32 from rfl]
      omega
    exact congrArg Value.int e
  · have a : (0 : Int32) ≤ nI q := nI_pos' (by omega)
    have b : nI q ≤ 65535 := nI_le (b := 65535) (by omega) (by decide)
    show (decide ((0 : Int32) ≤ nI q) && decide (nI q ≤ 65535)) = true
    rw [decide_eq_true a, decide_eq_true b]
    rfl
theorem pk_char (x : Int32) : (x.toUInt32 % 65536).toInt32 = nI (x.toBitVec.toNat % 65536) := by
  apply Int32.toBitVec_inj.mp
  apply BitVec.eq_of_toNat_eq
  rw [pk_tn (by omega)]
  show (x.toUInt32 % 65536).toNat = _
  rw [UInt32.toNat_mod]
  rfl
theorem pk_nc (x : Int32) : narrow .char (.int (x.toUInt32 % 65536).toInt32) = .int (x.toUInt32 % 65536).toInt32 := by
  rw [pk_char]
  exact (pk_charN (Nat.mod_lt _ (by decide))).1
theorem pk_fc (x : Int32) : fits .char (.int (x.toUInt32 % 65536).toInt32) = true := by
  rw [pk_char]
  exact (pk_charN (Nat.mod_lt _ (by decide))).2
theorem pk_vb (z : Int32) : vp_nar .byte z.toInt8.toInt32 = z.toInt8.toInt32 := by rw [vp_nar_byte]; simp
theorem pk_vs (z : Int32) : vp_nar .short z.toInt16.toInt32 = z.toInt16.toInt32 := by rw [vp_nar_short]; simp
theorem pk_vc (z : Int32) : vp_nar .char (z.toUInt32 % 65536).toInt32 = (z.toUInt32 % 65536).toInt32 := Value.int.inj (pk_nc z)
theorem pk_lT {n : Nat} (h : n < 2 ^ 63) : (lN n).toInt = (n : Int) := lg_ofNat_toInt h
theorem pk_lLT {a b : Nat} (ha : a < 2 ^ 63) (hb : b < 2 ^ 63) : lN a < lN b ↔ a < b := by
  rw [Int64.lt_iff_toInt_lt, pk_lT ha, pk_lT hb]; omega
theorem pk_lLE {a b : Nat} (ha : a < 2 ^ 63) (hb : b < 2 ^ 63) : lN a ≤ lN b ↔ a ≤ b := by
  rw [Int64.le_iff_toInt_le, pk_lT ha, pk_lT hb]; omega
theorem pk_lEQ {a b : Nat} (ha : a < 2 ^ 63) (hb : b < 2 ^ 63) : lN a = lN b ↔ a = b := by
  rw [← Int64.toInt_inj, pk_lT ha, pk_lT hb]; omega
theorem pk_lOf {x : Int64} (h : ¬ x < 0) : ∃ k : Nat, k < 2 ^ 63 ∧ x = lN k := by
  rw [Int64.lt_iff_toInt_lt] at h
  have h0 : (0 : Int64).toInt = 0 := by decide
  have hx := Int64.toInt_lt x
  refine ⟨x.toInt.toNat, by omega, Int64.toInt_inj.mp ?_⟩
  rw [pk_lT (by omega)]
  omega
theorem pk_lDiv {a b : Nat} (ha : a < 2 ^ 63) (h0 : 0 < b) (hb : b < 2 ^ 63) : lN a / lN b = lN (a / b) := by
  apply Int64.toInt_inj.mp
  rw [lg_ldiv_nonneg (by rw [pk_lT ha]; omega) (by rw [pk_lT hb]; omega), pk_lT ha, pk_lT hb, pk_lT (Nat.lt_of_le_of_lt (Nat.div_le_self a b) ha)]
  rfl
theorem pk_lRem {a b : Nat} (ha : a < 2 ^ 63) (h0 : 0 < b) (hb : b < 2 ^ 63) : lN a - lN a / lN b * lN b = lN (a % b) := by
  rw [pk_lDiv ha h0 hb, lN_mul, lN_sub (Nat.div_mul_le_self a b)]
  exact congrArg lN (by have := Nat.div_add_mod' a b; omega)
theorem pk_loop {σ : Type} (W : Nat → Nat → σ → Prop) (I : Nat → σ → Prop) (e i0 : Nat) (s : σ) (hi : i0 ≤ e) (h0 : I i0 s) (hx : ∀ n s, I e s → W (n + 1) e s)
    (hs : ∀ n i s, i < e → I i s → (∀ s', I (i + 1) s' → W n (i + 1) s') → W (n + 1) i s) : ∃ n, W n i0 s :=
  ⟨e + 1, loop_i W I e hx hs (e + 1) i0 s hi (by omega) h0⟩
theorem pk_loopD {σ : Type} (W : Nat → Nat → σ → Prop) (I : Nat → σ → Prop) (hx : ∀ n s, I 0 s → W (n + 1) 0 s)
    (hs : ∀ n i s, I (i + 1) s → (∀ s', I i s' → W n i s') → W (n + 1) (i + 1) s) : ∀ (e : Nat) (s : σ), I e s → W (e + 1) e s := by
  intro e
  induction e with
  | zero => exact fun s h => hx 0 s h
  | succ e ih => exact fun s h => hs (e + 1) e s h (fun s' h' => ih s' h')
theorem lp1 {A1 : Type} (W : Nat → A1 → Prop) (I : A1 → Prop) (μ : A1 → Nat) (hs : ∀ (n : Nat) (a1 : A1), I a1 → (∀ (b1 : A1), I b1 → μ b1 < μ a1 → W n b1) → W (n + 1) a1) (a1 : A1) (h : I a1) : ∃ n, W n a1 :=
  loop_m (σ := A1) (fun n s => W n s) (fun s => I s) (fun s => μ s) (fun n s hI hk => hs n s hI (fun b1 h9 hm => hk b1 h9 hm)) a1 h
theorem lp2 {A1 A2 : Type} (W : Nat → A1 → A2 → Prop) (I : A1 → A2 → Prop) (μ : A1 → A2 → Nat) (hs : ∀ (n : Nat) (a1 : A1) (a2 : A2), I a1 a2 → (∀ (b1 : A1) (b2 : A2), I b1 b2 → μ b1 b2 < μ a1 a2 → W n b1 b2) → W (n + 1) a1 a2) (a1 : A1) (a2 : A2) (h : I a1 a2) : ∃ n, W n a1 a2 :=
  loop_m (σ := A1 × A2) (fun n s => W n s.1 s.2) (fun s => I s.1 s.2) (fun s => μ s.1 s.2) (fun n s hI hk => hs n s.1 s.2 hI (fun b1 b2 h9 hm => hk (b1, b2) h9 hm)) (a1, a2) h
theorem lp3 {A1 A2 A3 : Type} (W : Nat → A1 → A2 → A3 → Prop) (I : A1 → A2 → A3 → Prop) (μ : A1 → A2 → A3 → Nat) (hs : ∀ (n : Nat) (a1 : A1) (a2 : A2) (a3 : A3), I a1 a2 a3 → (∀ (b1 : A1) (b2 : A2) (b3 : A3), I b1 b2 b3 → μ b1 b2 b3 < μ a1 a2 a3 → W n b1 b2 b3) → W (n + 1) a1 a2 a3) (a1 : A1) (a2 : A2) (a3 : A3) (h : I a1 a2 a3) : ∃ n, W n a1 a2 a3 :=
  loop_m (σ := A1 × A2 × A3) (fun n s => W n s.1 s.2.1 s.2.2) (fun s => I s.1 s.2.1 s.2.2) (fun s => μ s.1 s.2.1 s.2.2) (fun n s hI hk => hs n s.1 s.2.1 s.2.2 hI (fun b1 b2 b3 h9 hm => hk (b1, b2, b3) h9 hm)) (a1, a2, a3) h
theorem lp4 {A1 A2 A3 A4 : Type} (W : Nat → A1 → A2 → A3 → A4 → Prop) (I : A1 → A2 → A3 → A4 → Prop) (μ : A1 → A2 → A3 → A4 → Nat) (hs : ∀ (n : Nat) (a1 : A1) (a2 : A2) (a3 : A3) (a4 : A4), I a1 a2 a3 a4 → (∀ (b1 : A1) (b2 : A2) (b3 : A3) (b4 : A4), I b1 b2 b3 b4 → μ b1 b2 b3 b4 < μ a1 a2 a3 a4 → W n b1 b2 b3 b4) → W (n + 1) a1 a2 a3 a4) (a1 : A1) (a2 : A2) (a3 : A3) (a4 : A4) (h : I a1 a2 a3 a4) : ∃ n, W n a1 a2 a3 a4 :=
  loop_m (σ := A1 × A2 × A3 × A4) (fun n s => W n s.1 s.2.1 s.2.2.1 s.2.2.2) (fun s => I s.1 s.2.1 s.2.2.1 s.2.2.2) (fun s => μ s.1 s.2.1 s.2.2.1 s.2.2.2) (fun n s hI hk => hs n s.1 s.2.1 s.2.2.1 s.2.2.2 hI (fun b1 b2 b3 b4 h9 hm => hk (b1, b2, b3, b4) h9 hm)) (a1, a2, a3, a4) h
theorem lp5 {A1 A2 A3 A4 A5 : Type} (W : Nat → A1 → A2 → A3 → A4 → A5 → Prop) (I : A1 → A2 → A3 → A4 → A5 → Prop) (μ : A1 → A2 → A3 → A4 → A5 → Nat) (hs : ∀ (n : Nat) (a1 : A1) (a2 : A2) (a3 : A3) (a4 : A4) (a5 : A5), I a1 a2 a3 a4 a5 → (∀ (b1 : A1) (b2 : A2) (b3 : A3) (b4 : A4) (b5 : A5), I b1 b2 b3 b4 b5 → μ b1 b2 b3 b4 b5 < μ a1 a2 a3 a4 a5 → W n b1 b2 b3 b4 b5) → W (n + 1) a1 a2 a3 a4 a5) (a1 : A1) (a2 : A2) (a3 : A3) (a4 : A4) (a5 : A5) (h : I a1 a2 a3 a4 a5) : ∃ n, W n a1 a2 a3 a4 a5 :=
  loop_m (σ := A1 × A2 × A3 × A4 × A5) (fun n s => W n s.1 s.2.1 s.2.2.1 s.2.2.2.1 s.2.2.2.2) (fun s => I s.1 s.2.1 s.2.2.1 s.2.2.2.1 s.2.2.2.2) (fun s => μ s.1 s.2.1 s.2.2.1 s.2.2.2.1 s.2.2.2.2) (fun n s hI hk => hs n s.1 s.2.1 s.2.2.1 s.2.2.2.1 s.2.2.2.2 hI (fun b1 b2 b3 b4 b5 h9 hm => hk (b1, b2, b3, b4, b5) h9 hm)) (a1, a2, a3, a4, a5) h
theorem lp6 {A1 A2 A3 A4 A5 A6 : Type} (W : Nat → A1 → A2 → A3 → A4 → A5 → A6 → Prop) (I : A1 → A2 → A3 → A4 → A5 → A6 → Prop) (μ : A1 → A2 → A3 → A4 → A5 → A6 → Nat) (hs : ∀ (n : Nat) (a1 : A1) (a2 : A2) (a3 : A3) (a4 : A4) (a5 : A5) (a6 : A6), I a1 a2 a3 a4 a5 a6 → (∀ (b1 : A1) (b2 : A2) (b3 : A3) (b4 : A4) (b5 : A5) (b6 : A6), I b1 b2 b3 b4 b5 b6 → μ b1 b2 b3 b4 b5 b6 < μ a1 a2 a3 a4 a5 a6 → W n b1 b2 b3 b4 b5 b6) → W (n + 1) a1 a2 a3 a4 a5 a6) (a1 : A1) (a2 : A2) (a3 : A3) (a4 : A4) (a5 : A5) (a6 : A6) (h : I a1 a2 a3 a4 a5 a6) : ∃ n, W n a1 a2 a3 a4 a5 a6 :=
  loop_m (σ := A1 × A2 × A3 × A4 × A5 × A6) (fun n s => W n s.1 s.2.1 s.2.2.1 s.2.2.2.1 s.2.2.2.2.1 s.2.2.2.2.2) (fun s => I s.1 s.2.1 s.2.2.1 s.2.2.2.1 s.2.2.2.2.1 s.2.2.2.2.2) (fun s => μ s.1 s.2.1 s.2.2.1 s.2.2.2.1 s.2.2.2.2.1 s.2.2.2.2.2) (fun n s hI hk => hs n s.1 s.2.1 s.2.2.1 s.2.2.2.1 s.2.2.2.2.1 s.2.2.2.2.2 hI (fun b1 b2 b3 b4 b5 b6 h9 hm => hk (b1, b2, b3, b4, b5, b6) h9 hm)) (a1, a2, a3, a4, a5, a6) h
theorem lp7 {A1 A2 A3 A4 A5 A6 A7 : Type} (W : Nat → A1 → A2 → A3 → A4 → A5 → A6 → A7 → Prop) (I : A1 → A2 → A3 → A4 → A5 → A6 → A7 → Prop) (μ : A1 → A2 → A3 → A4 → A5 → A6 → A7 → Nat) (hs : ∀ (n : Nat) (a1 : A1) (a2 : A2) (a3 : A3) (a4 : A4) (a5 : A5) (a6 : A6) (a7 : A7), I a1 a2 a3 a4 a5 a6 a7 → (∀ (b1 : A1) (b2 : A2) (b3 : A3) (b4 : A4) (b5 : A5) (b6 : A6) (b7 : A7), I b1 b2 b3 b4 b5 b6 b7 → μ b1 b2 b3 b4 b5 b6 b7 < μ a1 a2 a3 a4 a5 a6 a7 → W n b1 b2 b3 b4 b5 b6 b7) → W (n + 1) a1 a2 a3 a4 a5 a6 a7) (a1 : A1) (a2 : A2) (a3 : A3) (a4 : A4) (a5 : A5) (a6 : A6) (a7 : A7) (h : I a1 a2 a3 a4 a5 a6 a7) : ∃ n, W n a1 a2 a3 a4 a5 a6 a7 :=
  loop_m (σ := A1 × A2 × A3 × A4 × A5 × A6 × A7) (fun n s => W n s.1 s.2.1 s.2.2.1 s.2.2.2.1 s.2.2.2.2.1 s.2.2.2.2.2.1 s.2.2.2.2.2.2) (fun s => I s.1 s.2.1 s.2.2.1 s.2.2.2.1 s.2.2.2.2.1 s.2.2.2.2.2.1 s.2.2.2.2.2.2) (fun s => μ s.1 s.2.1 s.2.2.1 s.2.2.2.1 s.2.2.2.2.1 s.2.2.2.2.2.1 s.2.2.2.2.2.2) (fun n s hI hk => hs n s.1 s.2.1 s.2.2.1 s.2.2.2.1 s.2.2.2.2.1 s.2.2.2.2.2.1 s.2.2.2.2.2.2 hI (fun b1 b2 b3 b4 b5 b6 b7 h9 hm => hk (b1, b2, b3, b4, b5, b6, b7) h9 hm)) (a1, a2, a3, a4, a5, a6, a7) h
theorem lp8 {A1 A2 A3 A4 A5 A6 A7 A8 : Type} (W : Nat → A1 → A2 → A3 → A4 → A5 → A6 → A7 → A8 → Prop) (I : A1 → A2 → A3 → A4 → A5 → A6 → A7 → A8 → Prop) (μ : A1 → A2 → A3 → A4 → A5 → A6 → A7 → A8 → Nat) (hs : ∀ (n : Nat) (a1 : A1) (a2 : A2) (a3 : A3) (a4 : A4) (a5 : A5) (a6 : A6) (a7 : A7) (a8 : A8), I a1 a2 a3 a4 a5 a6 a7 a8 → (∀ (b1 : A1) (b2 : A2) (b3 : A3) (b4 : A4) (b5 : A5) (b6 : A6) (b7 : A7) (b8 : A8), I b1 b2 b3 b4 b5 b6 b7 b8 → μ b1 b2 b3 b4 b5 b6 b7 b8 < μ a1 a2 a3 a4 a5 a6 a7 a8 → W n b1 b2 b3 b4 b5 b6 b7 b8) → W (n + 1) a1 a2 a3 a4 a5 a6 a7 a8) (a1 : A1) (a2 : A2) (a3 : A3) (a4 : A4) (a5 : A5) (a6 : A6) (a7 : A7) (a8 : A8) (h : I a1 a2 a3 a4 a5 a6 a7 a8) : ∃ n, W n a1 a2 a3 a4 a5 a6 a7 a8 :=
  loop_m (σ := A1 × A2 × A3 × A4 × A5 × A6 × A7 × A8) (fun n s => W n s.1 s.2.1 s.2.2.1 s.2.2.2.1 s.2.2.2.2.1 s.2.2.2.2.2.1 s.2.2.2.2.2.2.1 s.2.2.2.2.2.2.2) (fun s => I s.1 s.2.1 s.2.2.1 s.2.2.2.1 s.2.2.2.2.1 s.2.2.2.2.2.1 s.2.2.2.2.2.2.1 s.2.2.2.2.2.2.2) (fun s => μ s.1 s.2.1 s.2.2.1 s.2.2.2.1 s.2.2.2.2.1 s.2.2.2.2.2.1 s.2.2.2.2.2.2.1 s.2.2.2.2.2.2.2) (fun n s hI hk => hs n s.1 s.2.1 s.2.2.1 s.2.2.2.1 s.2.2.2.2.1 s.2.2.2.2.2.1 s.2.2.2.2.2.2.1 s.2.2.2.2.2.2.2 hI (fun b1 b2 b3 b4 b5 b6 b7 b8 h9 hm => hk (b1, b2, b3, b4, b5, b6, b7, b8) h9 hm)) (a1, a2, a3, a4, a5, a6, a7, a8) h
theorem lp9 {A1 A2 A3 A4 A5 A6 A7 A8 A9 : Type} (W : Nat → A1 → A2 → A3 → A4 → A5 → A6 → A7 → A8 → A9 → Prop) (I : A1 → A2 → A3 → A4 → A5 → A6 → A7 → A8 → A9 → Prop) (μ : A1 → A2 → A3 → A4 → A5 → A6 → A7 → A8 → A9 → Nat) (hs : ∀ (n : Nat) (a1 : A1) (a2 : A2) (a3 : A3) (a4 : A4) (a5 : A5) (a6 : A6) (a7 : A7) (a8 : A8) (a9 : A9), I a1 a2 a3 a4 a5 a6 a7 a8 a9 → (∀ (b1 : A1) (b2 : A2) (b3 : A3) (b4 : A4) (b5 : A5) (b6 : A6) (b7 : A7) (b8 : A8) (b9 : A9), I b1 b2 b3 b4 b5 b6 b7 b8 b9 → μ b1 b2 b3 b4 b5 b6 b7 b8 b9 < μ a1 a2 a3 a4 a5 a6 a7 a8 a9 → W n b1 b2 b3 b4 b5 b6 b7 b8 b9) → W (n + 1) a1 a2 a3 a4 a5 a6 a7 a8 a9) (a1 : A1) (a2 : A2) (a3 : A3) (a4 : A4) (a5 : A5) (a6 : A6) (a7 : A7) (a8 : A8) (a9 : A9) (h : I a1 a2 a3 a4 a5 a6 a7 a8 a9) : ∃ n, W n a1 a2 a3 a4 a5 a6 a7 a8 a9 :=
  loop_m (σ := A1 × A2 × A3 × A4 × A5 × A6 × A7 × A8 × A9) (fun n s => W n s.1 s.2.1 s.2.2.1 s.2.2.2.1 s.2.2.2.2.1 s.2.2.2.2.2.1 s.2.2.2.2.2.2.1 s.2.2.2.2.2.2.2.1 s.2.2.2.2.2.2.2.2) (fun s => I s.1 s.2.1 s.2.2.1 s.2.2.2.1 s.2.2.2.2.1 s.2.2.2.2.2.1 s.2.2.2.2.2.2.1 s.2.2.2.2.2.2.2.1 s.2.2.2.2.2.2.2.2) (fun s => μ s.1 s.2.1 s.2.2.1 s.2.2.2.1 s.2.2.2.2.1 s.2.2.2.2.2.1 s.2.2.2.2.2.2.1 s.2.2.2.2.2.2.2.1 s.2.2.2.2.2.2.2.2) (fun n s hI hk => hs n s.1 s.2.1 s.2.2.1 s.2.2.2.1 s.2.2.2.2.1 s.2.2.2.2.2.1 s.2.2.2.2.2.2.1 s.2.2.2.2.2.2.2.1 s.2.2.2.2.2.2.2.2 hI (fun b1 b2 b3 b4 b5 b6 b7 b8 b9 h9 hm => hk (b1, b2, b3, b4, b5, b6, b7, b8, b9) h9 hm)) (a1, a2, a3, a4, a5, a6, a7, a8, a9) h
theorem lp10 {A1 A2 A3 A4 A5 A6 A7 A8 A9 A10 : Type} (W : Nat → A1 → A2 → A3 → A4 → A5 → A6 → A7 → A8 → A9 → A10 → Prop) (I : A1 → A2 → A3 → A4 → A5 → A6 → A7 → A8 → A9 → A10 → Prop) (μ : A1 → A2 → A3 → A4 → A5 → A6 → A7 → A8 → A9 → A10 → Nat) (hs : ∀ (n : Nat) (a1 : A1) (a2 : A2) (a3 : A3) (a4 : A4) (a5 : A5) (a6 : A6) (a7 : A7) (a8 : A8) (a9 : A9) (a10 : A10), I a1 a2 a3 a4 a5 a6 a7 a8 a9 a10 → (∀ (b1 : A1) (b2 : A2) (b3 : A3) (b4 : A4) (b5 : A5) (b6 : A6) (b7 : A7) (b8 : A8) (b9 : A9) (b10 : A10), I b1 b2 b3 b4 b5 b6 b7 b8 b9 b10 → μ b1 b2 b3 b4 b5 b6 b7 b8 b9 b10 < μ a1 a2 a3 a4 a5 a6 a7 a8 a9 a10 → W n b1 b2 b3 b4 b5 b6 b7 b8 b9 b10) → W (n + 1) a1 a2 a3 a4 a5 a6 a7 a8 a9 a10) (a1 : A1) (a2 : A2) (a3 : A3) (a4 : A4) (a5 : A5) (a6 : A6) (a7 : A7) (a8 : A8) (a9 : A9) (a10 : A10) (h : I a1 a2 a3 a4 a5 a6 a7 a8 a9 a10) : ∃ n, W n a1 a2 a3 a4 a5 a6 a7 a8 a9 a10 :=
  loop_m (σ := A1 × A2 × A3 × A4 × A5 × A6 × A7 × A8 × A9 × A10) (fun n s => W n s.1 s.2.1 s.2.2.1 s.2.2.2.1 s.2.2.2.2.1 s.2.2.2.2.2.1 s.2.2.2.2.2.2.1 s.2.2.2.2.2.2.2.1 s.2.2.2.2.2.2.2.2.1 s.2.2.2.2.2.2.2.2.2) (fun s => I s.1 s.2.1 s.2.2.1 s.2.2.2.1 s.2.2.2.2.1 s.2.2.2.2.2.1 s.2.2.2.2.2.2.1 s.2.2.2.2.2.2.2.1 s.2.2.2.2.2.2.2.2.1 s.2.2.2.2.2.2.2.2.2) (fun s => μ s.1 s.2.1 s.2.2.1 s.2.2.2.1 s.2.2.2.2.1 s.2.2.2.2.2.1 s.2.2.2.2.2.2.1 s.2.2.2.2.2.2.2.1 s.2.2.2.2.2.2.2.2.1 s.2.2.2.2.2.2.2.2.2) (fun n s hI hk => hs n s.1 s.2.1 s.2.2.1 s.2.2.2.1 s.2.2.2.2.1 s.2.2.2.2.2.1 s.2.2.2.2.2.2.1 s.2.2.2.2.2.2.2.1 s.2.2.2.2.2.2.2.2.1 s.2.2.2.2.2.2.2.2.2 hI (fun b1 b2 b3 b4 b5 b6 b7 b8 b9 b10 h9 hm => hk (b1, b2, b3, b4, b5, b6, b7, b8, b9, b10) h9 hm)) (a1, a2, a3, a4, a5, a6, a7, a8, a9, a10) h
theorem lp11 {A1 A2 A3 A4 A5 A6 A7 A8 A9 A10 A11 : Type} (W : Nat → A1 → A2 → A3 → A4 → A5 → A6 → A7 → A8 → A9 → A10 → A11 → Prop) (I : A1 → A2 → A3 → A4 → A5 → A6 → A7 → A8 → A9 → A10 → A11 → Prop) (μ : A1 → A2 → A3 → A4 → A5 → A6 → A7 → A8 → A9 → A10 → A11 → Nat) (hs : ∀ (n : Nat) (a1 : A1) (a2 : A2) (a3 : A3) (a4 : A4) (a5 : A5) (a6 : A6) (a7 : A7) (a8 : A8) (a9 : A9) (a10 : A10) (a11 : A11), I a1 a2 a3 a4 a5 a6 a7 a8 a9 a10 a11 → (∀ (b1 : A1) (b2 : A2) (b3 : A3) (b4 : A4) (b5 : A5) (b6 : A6) (b7 : A7) (b8 : A8) (b9 : A9) (b10 : A10) (b11 : A11), I b1 b2 b3 b4 b5 b6 b7 b8 b9 b10 b11 → μ b1 b2 b3 b4 b5 b6 b7 b8 b9 b10 b11 < μ a1 a2 a3 a4 a5 a6 a7 a8 a9 a10 a11 → W n b1 b2 b3 b4 b5 b6 b7 b8 b9 b10 b11) → W (n + 1) a1 a2 a3 a4 a5 a6 a7 a8 a9 a10 a11) (a1 : A1) (a2 : A2) (a3 : A3) (a4 : A4) (a5 : A5) (a6 : A6) (a7 : A7) (a8 : A8) (a9 : A9) (a10 : A10) (a11 : A11) (h : I a1 a2 a3 a4 a5 a6 a7 a8 a9 a10 a11) : ∃ n, W n a1 a2 a3 a4 a5 a6 a7 a8 a9 a10 a11 :=
  loop_m (σ := A1 × A2 × A3 × A4 × A5 × A6 × A7 × A8 × A9 × A10 × A11) (fun n s => W n s.1 s.2.1 s.2.2.1 s.2.2.2.1 s.2.2.2.2.1 s.2.2.2.2.2.1 s.2.2.2.2.2.2.1 s.2.2.2.2.2.2.2.1 s.2.2.2.2.2.2.2.2.1 s.2.2.2.2.2.2.2.2.2.1 s.2.2.2.2.2.2.2.2.2.2) (fun s => I s.1 s.2.1 s.2.2.1 s.2.2.2.1 s.2.2.2.2.1 s.2.2.2.2.2.1 s.2.2.2.2.2.2.1 s.2.2.2.2.2.2.2.1 s.2.2.2.2.2.2.2.2.1 s.2.2.2.2.2.2.2.2.2.1 s.2.2.2.2.2.2.2.2.2.2) (fun s => μ s.1 s.2.1 s.2.2.1 s.2.2.2.1 s.2.2.2.2.1 s.2.2.2.2.2.1 s.2.2.2.2.2.2.1 s.2.2.2.2.2.2.2.1 s.2.2.2.2.2.2.2.2.1 s.2.2.2.2.2.2.2.2.2.1 s.2.2.2.2.2.2.2.2.2.2) (fun n s hI hk => hs n s.1 s.2.1 s.2.2.1 s.2.2.2.1 s.2.2.2.2.1 s.2.2.2.2.2.1 s.2.2.2.2.2.2.1 s.2.2.2.2.2.2.2.1 s.2.2.2.2.2.2.2.2.1 s.2.2.2.2.2.2.2.2.2.1 s.2.2.2.2.2.2.2.2.2.2 hI (fun b1 b2 b3 b4 b5 b6 b7 b8 b9 b10 b11 h9 hm => hk (b1, b2, b3, b4, b5, b6, b7, b8, b9, b10, b11) h9 hm)) (a1, a2, a3, a4, a5, a6, a7, a8, a9, a10, a11) h
theorem lp12 {A1 A2 A3 A4 A5 A6 A7 A8 A9 A10 A11 A12 : Type} (W : Nat → A1 → A2 → A3 → A4 → A5 → A6 → A7 → A8 → A9 → A10 → A11 → A12 → Prop) (I : A1 → A2 → A3 → A4 → A5 → A6 → A7 → A8 → A9 → A10 → A11 → A12 → Prop) (μ : A1 → A2 → A3 → A4 → A5 → A6 → A7 → A8 → A9 → A10 → A11 → A12 → Nat) (hs : ∀ (n : Nat) (a1 : A1) (a2 : A2) (a3 : A3) (a4 : A4) (a5 : A5) (a6 : A6) (a7 : A7) (a8 : A8) (a9 : A9) (a10 : A10) (a11 : A11) (a12 : A12), I a1 a2 a3 a4 a5 a6 a7 a8 a9 a10 a11 a12 → (∀ (b1 : A1) (b2 : A2) (b3 : A3) (b4 : A4) (b5 : A5) (b6 : A6) (b7 : A7) (b8 : A8) (b9 : A9) (b10 : A10) (b11 : A11) (b12 : A12), I b1 b2 b3 b4 b5 b6 b7 b8 b9 b10 b11 b12 → μ b1 b2 b3 b4 b5 b6 b7 b8 b9 b10 b11 b12 < μ a1 a2 a3 a4 a5 a6 a7 a8 a9 a10 a11 a12 → W n b1 b2 b3 b4 b5 b6 b7 b8 b9 b10 b11 b12) → W (n + 1) a1 a2 a3 a4 a5 a6 a7 a8 a9 a10 a11 a12) (a1 : A1) (a2 : A2) (a3 : A3) (a4 : A4) (a5 : A5) (a6 : A6) (a7 : A7) (a8 : A8) (a9 : A9) (a10 : A10) (a11 : A11) (a12 : A12) (h : I a1 a2 a3 a4 a5 a6 a7 a8 a9 a10 a11 a12) : ∃ n, W n a1 a2 a3 a4 a5 a6 a7 a8 a9 a10 a11 a12 :=
  loop_m (σ := A1 × A2 × A3 × A4 × A5 × A6 × A7 × A8 × A9 × A10 × A11 × A12) (fun n s => W n s.1 s.2.1 s.2.2.1 s.2.2.2.1 s.2.2.2.2.1 s.2.2.2.2.2.1 s.2.2.2.2.2.2.1 s.2.2.2.2.2.2.2.1 s.2.2.2.2.2.2.2.2.1 s.2.2.2.2.2.2.2.2.2.1 s.2.2.2.2.2.2.2.2.2.2.1 s.2.2.2.2.2.2.2.2.2.2.2) (fun s => I s.1 s.2.1 s.2.2.1 s.2.2.2.1 s.2.2.2.2.1 s.2.2.2.2.2.1 s.2.2.2.2.2.2.1 s.2.2.2.2.2.2.2.1 s.2.2.2.2.2.2.2.2.1 s.2.2.2.2.2.2.2.2.2.1 s.2.2.2.2.2.2.2.2.2.2.1 s.2.2.2.2.2.2.2.2.2.2.2) (fun s => μ s.1 s.2.1 s.2.2.1 s.2.2.2.1 s.2.2.2.2.1 s.2.2.2.2.2.1 s.2.2.2.2.2.2.1 s.2.2.2.2.2.2.2.1 s.2.2.2.2.2.2.2.2.1 s.2.2.2.2.2.2.2.2.2.1 s.2.2.2.2.2.2.2.2.2.2.1 s.2.2.2.2.2.2.2.2.2.2.2) (fun n s hI hk => hs n s.1 s.2.1 s.2.2.1 s.2.2.2.1 s.2.2.2.2.1 s.2.2.2.2.2.1 s.2.2.2.2.2.2.1 s.2.2.2.2.2.2.2.1 s.2.2.2.2.2.2.2.2.1 s.2.2.2.2.2.2.2.2.2.1 s.2.2.2.2.2.2.2.2.2.2.1 s.2.2.2.2.2.2.2.2.2.2.2 hI (fun b1 b2 b3 b4 b5 b6 b7 b8 b9 b10 b11 b12 h9 hm => hk (b1, b2, b3, b4, b5, b6, b7, b8, b9, b10, b11, b12) h9 hm)) (a1, a2, a3, a4, a5, a6, a7, a8, a9, a10, a11, a12) h
theorem lp13 {A1 A2 A3 A4 A5 A6 A7 A8 A9 A10 A11 A12 A13 : Type} (W : Nat → A1 → A2 → A3 → A4 → A5 → A6 → A7 → A8 → A9 → A10 → A11 → A12 → A13 → Prop) (I : A1 → A2 → A3 → A4 → A5 → A6 → A7 → A8 → A9 → A10 → A11 → A12 → A13 → Prop) (μ : A1 → A2 → A3 → A4 → A5 → A6 → A7 → A8 → A9 → A10 → A11 → A12 → A13 → Nat) (hs : ∀ (n : Nat) (a1 : A1) (a2 : A2) (a3 : A3) (a4 : A4) (a5 : A5) (a6 : A6) (a7 : A7) (a8 : A8) (a9 : A9) (a10 : A10) (a11 : A11) (a12 : A12) (a13 : A13), I a1 a2 a3 a4 a5 a6 a7 a8 a9 a10 a11 a12 a13 → (∀ (b1 : A1) (b2 : A2) (b3 : A3) (b4 : A4) (b5 : A5) (b6 : A6) (b7 : A7) (b8 : A8) (b9 : A9) (b10 : A10) (b11 : A11) (b12 : A12) (b13 : A13), I b1 b2 b3 b4 b5 b6 b7 b8 b9 b10 b11 b12 b13 → μ b1 b2 b3 b4 b5 b6 b7 b8 b9 b10 b11 b12 b13 < μ a1 a2 a3 a4 a5 a6 a7 a8 a9 a10 a11 a12 a13 → W n b1 b2 b3 b4 b5 b6 b7 b8 b9 b10 b11 b12 b13) → W (n + 1) a1 a2 a3 a4 a5 a6 a7 a8 a9 a10 a11 a12 a13) (a1 : A1) (a2 : A2) (a3 : A3) (a4 : A4) (a5 : A5) (a6 : A6) (a7 : A7) (a8 : A8) (a9 : A9) (a10 : A10) (a11 : A11) (a12 : A12) (a13 : A13) (h : I a1 a2 a3 a4 a5 a6 a7 a8 a9 a10 a11 a12 a13) : ∃ n, W n a1 a2 a3 a4 a5 a6 a7 a8 a9 a10 a11 a12 a13 :=
  loop_m (σ := A1 × A2 × A3 × A4 × A5 × A6 × A7 × A8 × A9 × A10 × A11 × A12 × A13) (fun n s => W n s.1 s.2.1 s.2.2.1 s.2.2.2.1 s.2.2.2.2.1 s.2.2.2.2.2.1 s.2.2.2.2.2.2.1 s.2.2.2.2.2.2.2.1 s.2.2.2.2.2.2.2.2.1 s.2.2.2.2.2.2.2.2.2.1 s.2.2.2.2.2.2.2.2.2.2.1 s.2.2.2.2.2.2.2.2.2.2.2.1 s.2.2.2.2.2.2.2.2.2.2.2.2) (fun s => I s.1 s.2.1 s.2.2.1 s.2.2.2.1 s.2.2.2.2.1 s.2.2.2.2.2.1 s.2.2.2.2.2.2.1 s.2.2.2.2.2.2.2.1 s.2.2.2.2.2.2.2.2.1 s.2.2.2.2.2.2.2.2.2.1 s.2.2.2.2.2.2.2.2.2.2.1 s.2.2.2.2.2.2.2.2.2.2.2.1 s.2.2.2.2.2.2.2.2.2.2.2.2) (fun s => μ s.1 s.2.1 s.2.2.1 s.2.2.2.1 s.2.2.2.2.1 s.2.2.2.2.2.1 s.2.2.2.2.2.2.1 s.2.2.2.2.2.2.2.1 s.2.2.2.2.2.2.2.2.1 s.2.2.2.2.2.2.2.2.2.1 s.2.2.2.2.2.2.2.2.2.2.1 s.2.2.2.2.2.2.2.2.2.2.2.1 s.2.2.2.2.2.2.2.2.2.2.2.2) (fun n s hI hk => hs n s.1 s.2.1 s.2.2.1 s.2.2.2.1 s.2.2.2.2.1 s.2.2.2.2.2.1 s.2.2.2.2.2.2.1 s.2.2.2.2.2.2.2.1 s.2.2.2.2.2.2.2.2.1 s.2.2.2.2.2.2.2.2.2.1 s.2.2.2.2.2.2.2.2.2.2.1 s.2.2.2.2.2.2.2.2.2.2.2.1 s.2.2.2.2.2.2.2.2.2.2.2.2 hI (fun b1 b2 b3 b4 b5 b6 b7 b8 b9 b10 b11 b12 b13 h9 hm => hk (b1, b2, b3, b4, b5, b6, b7, b8, b9, b10, b11, b12, b13) h9 hm)) (a1, a2, a3, a4, a5, a6, a7, a8, a9, a10, a11, a12, a13) h
theorem lp14 {A1 A2 A3 A4 A5 A6 A7 A8 A9 A10 A11 A12 A13 A14 : Type} (W : Nat → A1 → A2 → A3 → A4 → A5 → A6 → A7 → A8 → A9 → A10 → A11 → A12 → A13 → A14 → Prop) (I : A1 → A2 → A3 → A4 → A5 → A6 → A7 → A8 → A9 → A10 → A11 → A12 → A13 → A14 → Prop) (μ : A1 → A2 → A3 → A4 → A5 → A6 → A7 → A8 → A9 → A10 → A11 → A12 → A13 → A14 → Nat) (hs : ∀ (n : Nat) (a1 : A1) (a2 : A2) (a3 : A3) (a4 : A4) (a5 : A5) (a6 : A6) (a7 : A7) (a8 : A8) (a9 : A9) (a10 : A10) (a11 : A11) (a12 : A12) (a13 : A13) (a14 : A14), I a1 a2 a3 a4 a5 a6 a7 a8 a9 a10 a11 a12 a13 a14 → (∀ (b1 : A1) (b2 : A2) (b3 : A3) (b4 : A4) (b5 : A5) (b6 : A6) (b7 : A7) (b8 : A8) (b9 : A9) (b10 : A10) (b11 : A11) (b12 : A12) (b13 : A13) (b14 : A14), I b1 b2 b3 b4 b5 b6 b7 b8 b9 b10 b11 b12 b13 b14 → μ b1 b2 b3 b4 b5 b6 b7 b8 b9 b10 b11 b12 b13 b14 < μ a1 a2 a3 a4 a5 a6 a7 a8 a9 a10 a11 a12 a13 a14 → W n b1 b2 b3 b4 b5 b6 b7 b8 b9 b10 b11 b12 b13 b14) → W (n + 1) a1 a2 a3 a4 a5 a6 a7 a8 a9 a10 a11 a12 a13 a14) (a1 : A1) (a2 : A2) (a3 : A3) (a4 : A4) (a5 : A5) (a6 : A6) (a7 : A7) (a8 : A8) (a9 : A9) (a10 : A10) (a11 : A11) (a12 : A12) (a13 : A13) (a14 : A14) (h : I a1 a2 a3 a4 a5 a6 a7 a8 a9 a10 a11 a12 a13 a14) : ∃ n, W n a1 a2 a3 a4 a5 a6 a7 a8 a9 a10 a11 a12 a13 a14 :=
  loop_m (σ := A1 × A2 × A3 × A4 × A5 × A6 × A7 × A8 × A9 × A10 × A11 × A12 × A13 × A14) (fun n s => W n s.1 s.2.1 s.2.2.1 s.2.2.2.1 s.2.2.2.2.1 s.2.2.2.2.2.1 s.2.2.2.2.2.2.1 s.2.2.2.2.2.2.2.1 s.2.2.2.2.2.2.2.2.1 s.2.2.2.2.2.2.2.2.2.1 s.2.2.2.2.2.2.2.2.2.2.1 s.2.2.2.2.2.2.2.2.2.2.2.1 s.2.2.2.2.2.2.2.2.2.2.2.2.1 s.2.2.2.2.2.2.2.2.2.2.2.2.2) (fun s => I s.1 s.2.1 s.2.2.1 s.2.2.2.1 s.2.2.2.2.1 s.2.2.2.2.2.1 s.2.2.2.2.2.2.1 s.2.2.2.2.2.2.2.1 s.2.2.2.2.2.2.2.2.1 s.2.2.2.2.2.2.2.2.2.1 s.2.2.2.2.2.2.2.2.2.2.1 s.2.2.2.2.2.2.2.2.2.2.2.1 s.2.2.2.2.2.2.2.2.2.2.2.2.1 s.2.2.2.2.2.2.2.2.2.2.2.2.2) (fun s => μ s.1 s.2.1 s.2.2.1 s.2.2.2.1 s.2.2.2.2.1 s.2.2.2.2.2.1 s.2.2.2.2.2.2.1 s.2.2.2.2.2.2.2.1 s.2.2.2.2.2.2.2.2.1 s.2.2.2.2.2.2.2.2.2.1 s.2.2.2.2.2.2.2.2.2.2.1 s.2.2.2.2.2.2.2.2.2.2.2.1 s.2.2.2.2.2.2.2.2.2.2.2.2.1 s.2.2.2.2.2.2.2.2.2.2.2.2.2) (fun n s hI hk => hs n s.1 s.2.1 s.2.2.1 s.2.2.2.1 s.2.2.2.2.1 s.2.2.2.2.2.1 s.2.2.2.2.2.2.1 s.2.2.2.2.2.2.2.1 s.2.2.2.2.2.2.2.2.1 s.2.2.2.2.2.2.2.2.2.1 s.2.2.2.2.2.2.2.2.2.2.1 s.2.2.2.2.2.2.2.2.2.2.2.1 s.2.2.2.2.2.2.2.2.2.2.2.2.1 s.2.2.2.2.2.2.2.2.2.2.2.2.2 hI (fun b1 b2 b3 b4 b5 b6 b7 b8 b9 b10 b11 b12 b13 b14 h9 hm => hk (b1, b2, b3, b4, b5, b6, b7, b8, b9, b10, b11, b12, b13, b14) h9 hm)) (a1, a2, a3, a4, a5, a6, a7, a8, a9, a10, a11, a12, a13, a14) h
theorem lp15 {A1 A2 A3 A4 A5 A6 A7 A8 A9 A10 A11 A12 A13 A14 A15 : Type} (W : Nat → A1 → A2 → A3 → A4 → A5 → A6 → A7 → A8 → A9 → A10 → A11 → A12 → A13 → A14 → A15 → Prop) (I : A1 → A2 → A3 → A4 → A5 → A6 → A7 → A8 → A9 → A10 → A11 → A12 → A13 → A14 → A15 → Prop) (μ : A1 → A2 → A3 → A4 → A5 → A6 → A7 → A8 → A9 → A10 → A11 → A12 → A13 → A14 → A15 → Nat) (hs : ∀ (n : Nat) (a1 : A1) (a2 : A2) (a3 : A3) (a4 : A4) (a5 : A5) (a6 : A6) (a7 : A7) (a8 : A8) (a9 : A9) (a10 : A10) (a11 : A11) (a12 : A12) (a13 : A13) (a14 : A14) (a15 : A15), I a1 a2 a3 a4 a5 a6 a7 a8 a9 a10 a11 a12 a13 a14 a15 → (∀ (b1 : A1) (b2 : A2) (b3 : A3) (b4 : A4) (b5 : A5) (b6 : A6) (b7 : A7) (b8 : A8) (b9 : A9) (b10 : A10) (b11 : A11) (b12 : A12) (b13 : A13) (b14 : A14) (b15 : A15), I b1 b2 b3 b4 b5 b6 b7 b8 b9 b10 b11 b12 b13 b14 b15 → μ b1 b2 b3 b4 b5 b6 b7 b8 b9 b10 b11 b12 b13 b14 b15 < μ a1 a2 a3 a4 a5 a6 a7 a8 a9 a10 a11 a12 a13 a14 a15 → W n b1 b2 b3 b4 b5 b6 b7 b8 b9 b10 b11 b12 b13 b14 b15) → W (n + 1) a1 a2 a3 a4 a5 a6 a7 a8 a9 a10 a11 a12 a13 a14 a15) (a1 : A1) (a2 : A2) (a3 : A3) (a4 : A4) (a5 : A5) (a6 : A6) (a7 : A7) (a8 : A8) (a9 : A9) (a10 : A10) (a11 : A11) (a12 : A12) (a13 : A13) (a14 : A14) (a15 : A15) (h : I a1 a2 a3 a4 a5 a6 a7 a8 a9 a10 a11 a12 a13 a14 a15) : ∃ n, W n a1 a2 a3 a4 a5 a6 a7 a8 a9 a10 a11 a12 a13 a14 a15 :=
  loop_m (σ := A1 × A2 × A3 × A4 × A5 × A6 × A7 × A8 × A9 × A10 × A11 × A12 × A13 × A14 × A15) (fun n s => W n s.1 s.2.1 s.2.2.1 s.2.2.2.1 s.2.2.2.2.1 s.2.2.2.2.2.1 s.2.2.2.2.2.2.1 s.2.2.2.2.2.2.2.1 s.2.2.2.2.2.2.2.2.1 s.2.2.2.2.2.2.2.2.2.1 s.2.2.2.2.2.2.2.2.2.2.1 s.2.2.2.2.2.2.2.2.2.2.2.1 s.2.2.2.2.2.2.2.2.2.2.2.2.1 s.2.2.2.2.2.2.2.2.2.2.2.2.2.1 s.2.2.2.2.2.2.2.2.2.2.2.2.2.2) (fun s => I s.1 s.2.1 s.2.2.1 s.2.2.2.1 s.2.2.2.2.1 s.2.2.2.2.2.1 s.2.2.2.2.2.2.1 s.2.2.2.2.2.2.2.1 s.2.2.2.2.2.2.2.2.1 s.2.2.2.2.2.2.2.2.2.1 s.2.2.2.2.2.2.2.2.2.2.1 s.2.2.2.2.2.2.2.2.2.2.2.1 s.2.2.2.2.2.2.2.2.2.2.2.2.1 s.2.2.2.2.2.2.2.2.2.2.2.2.2.1 s.2.2.2.2.2.2.2.2.2.2.2.2.2.2) (fun s => μ s.1 s.2.1 s.2.2.1 s.2.2.2.1 s.2.2.2.2.1 s.2.2.2.2.2.1 s.2.2.2.2.2.2.1 s.2.2.2.2.2.2.2.1 s.2.2.2.2.2.2.2.2.1 s.2.2.2.2.2.2.2.2.2.1 s.2.2.2.2.2.2.2.2.2.2.1 s.2.2.2.2.2.2.2.2.2.2.2.1 s.2.2.2.2.2.2.2.2.2.2.2.2.1 s.2.2.2.2.2.2.2.2.2.2.2.2.2.1 s.2.2.2.2.2.2.2.2.2.2.2.2.2.2) (fun n s hI hk => hs n s.1 s.2.1 s.2.2.1 s.2.2.2.1 s.2.2.2.2.1 s.2.2.2.2.2.1 s.2.2.2.2.2.2.1 s.2.2.2.2.2.2.2.1 s.2.2.2.2.2.2.2.2.1 s.2.2.2.2.2.2.2.2.2.1 s.2.2.2.2.2.2.2.2.2.2.1 s.2.2.2.2.2.2.2.2.2.2.2.1 s.2.2.2.2.2.2.2.2.2.2.2.2.1 s.2.2.2.2.2.2.2.2.2.2.2.2.2.1 s.2.2.2.2.2.2.2.2.2.2.2.2.2.2 hI (fun b1 b2 b3 b4 b5 b6 b7 b8 b9 b10 b11 b12 b13 b14 b15 h9 hm => hk (b1, b2, b3, b4, b5, b6, b7, b8, b9, b10, b11, b12, b13, b14, b15) h9 hm)) (a1, a2, a3, a4, a5, a6, a7, a8, a9, a10, a11, a12, a13, a14, a15) h
theorem lp16 {A1 A2 A3 A4 A5 A6 A7 A8 A9 A10 A11 A12 A13 A14 A15 A16 : Type} (W : Nat → A1 → A2 → A3 → A4 → A5 → A6 → A7 → A8 → A9 → A10 → A11 → A12 → A13 → A14 → A15 → A16 → Prop) (I : A1 → A2 → A3 → A4 → A5 → A6 → A7 → A8 → A9 → A10 → A11 → A12 → A13 → A14 → A15 → A16 → Prop) (μ : A1 → A2 → A3 → A4 → A5 → A6 → A7 → A8 → A9 → A10 → A11 → A12 → A13 → A14 → A15 → A16 → Nat) (hs : ∀ (n : Nat) (a1 : A1) (a2 : A2) (a3 : A3) (a4 : A4) (a5 : A5) (a6 : A6) (a7 : A7) (a8 : A8) (a9 : A9) (a10 : A10) (a11 : A11) (a12 : A12) (a13 : A13) (a14 : A14) (a15 : A15) (a16 : A16), I a1 a2 a3 a4 a5 a6 a7 a8 a9 a10 a11 a12 a13 a14 a15 a16 → (∀ (b1 : A1) (b2 : A2) (b3 : A3) (b4 : A4) (b5 : A5) (b6 : A6) (b7 : A7) (b8 : A8) (b9 : A9) (b10 : A10) (b11 : A11) (b12 : A12) (b13 : A13) (b14 : A14) (b15 : A15) (b16 : A16), I b1 b2 b3 b4 b5 b6 b7 b8 b9 b10 b11 b12 b13 b14 b15 b16 → μ b1 b2 b3 b4 b5 b6 b7 b8 b9 b10 b11 b12 b13 b14 b15 b16 < μ a1 a2 a3 a4 a5 a6 a7 a8 a9 a10 a11 a12 a13 a14 a15 a16 → W n b1 b2 b3 b4 b5 b6 b7 b8 b9 b10 b11 b12 b13 b14 b15 b16) → W (n + 1) a1 a2 a3 a4 a5 a6 a7 a8 a9 a10 a11 a12 a13 a14 a15 a16) (a1 : A1) (a2 : A2) (a3 : A3) (a4 : A4) (a5 : A5) (a6 : A6) (a7 : A7) (a8 : A8) (a9 : A9) (a10 : A10) (a11 : A11) (a12 : A12) (a13 : A13) (a14 : A14) (a15 : A15) (a16 : A16) (h : I a1 a2 a3 a4 a5 a6 a7 a8 a9 a10 a11 a12 a13 a14 a15 a16) : ∃ n, W n a1 a2 a3 a4 a5 a6 a7 a8 a9 a10 a11 a12 a13 a14 a15 a16 :=
  loop_m (σ := A1 × A2 × A3 × A4 × A5 × A6 × A7 × A8 × A9 × A10 × A11 × A12 × A13 × A14 × A15 × A16) (fun n s => W n s.1 s.2.1 s.2.2.1 s.2.2.2.1 s.2.2.2.2.1 s.2.2.2.2.2.1 s.2.2.2.2.2.2.1 s.2.2.2.2.2.2.2.1 s.2.2.2.2.2.2.2.2.1 s.2.2.2.2.2.2.2.2.2.1 s.2.2.2.2.2.2.2.2.2.2.1 s.2.2.2.2.2.2.2.2.2.2.2.1 s.2.2.2.2.2.2.2.2.2.2.2.2.1 s.2.2.2.2.2.2.2.2.2.2.2.2.2.1 s.2.2.2.2.2.2.2.2.2.2.2.2.2.2.1 s.2.2.2.2.2.2.2.2.2.2.2.2.2.2.2) (fun s => I s.1 s.2.1 s.2.2.1 s.2.2.2.1 s.2.2.2.2.1 s.2.2.2.2.2.1 s.2.2.2.2.2.2.1 s.2.2.2.2.2.2.2.1 s.2.2.2.2.2.2.2.2.1 s.2.2.2.2.2.2.2.2.2.1 s.2.2.2.2.2.2.2.2.2.2.1 s.2.2.2.2.2.2.2.2.2.2.2.1 s.2.2.2.2.2.2.2.2.2.2.2.2.1 s.2.2.2.2.2.2.2.2.2.2.2.2.2.1 s.2.2.2.2.2.2.2.2.2.2.2.2.2.2.1 s.2.2.2.2.2.2.2.2.2.2.2.2.2.2.2) (fun s => μ s.1 s.2.1 s.2.2.1 s.2.2.2.1 s.2.2.2.2.1 s.2.2.2.2.2.1 s.2.2.2.2.2.2.1 s.2.2.2.2.2.2.2.1 s.2.2.2.2.2.2.2.2.1 s.2.2.2.2.2.2.2.2.2.1 s.2.2.2.2.2.2.2.2.2.2.1 s.2.2.2.2.2.2.2.2.2.2.2.1 s.2.2.2.2.2.2.2.2.2.2.2.2.1 s.2.2.2.2.2.2.2.2.2.2.2.2.2.1 s.2.2.2.2.2.2.2.2.2.2.2.2.2.2.1 s.2.2.2.2.2.2.2.2.2.2.2.2.2.2.2) (fun n s hI hk => hs n s.1 s.2.1 s.2.2.1 s.2.2.2.1 s.2.2.2.2.1 s.2.2.2.2.2.1 s.2.2.2.2.2.2.1 s.2.2.2.2.2.2.2.1 s.2.2.2.2.2.2.2.2.1 s.2.2.2.2.2.2.2.2.2.1 s.2.2.2.2.2.2.2.2.2.2.1 s.2.2.2.2.2.2.2.2.2.2.2.1 s.2.2.2.2.2.2.2.2.2.2.2.2.1 s.2.2.2.2.2.2.2.2.2.2.2.2.2.1 s.2.2.2.2.2.2.2.2.2.2.2.2.2.2.1 s.2.2.2.2.2.2.2.2.2.2.2.2.2.2.2 hI (fun b1 b2 b3 b4 b5 b6 b7 b8 b9 b10 b11 b12 b13 b14 b15 b16 h9 hm => hk (b1, b2, b3, b4, b5, b6, b7, b8, b9, b10, b11, b12, b13, b14, b15, b16) h9 hm)) (a1, a2, a3, a4, a5, a6, a7, a8, a9, a10, a11, a12, a13, a14, a15, a16) h
theorem pk_least (P : Nat → Prop) (h : ∃ k, P k) : ∃ k, P k ∧ ∀ j, j < k → ¬ P j := by
  obtain ⟨k, hk⟩ := h
  induction k using Nat.strongRecOn with
  | ind k ih =>
    by_cases e : ∃ j, j < k ∧ P j
    · obtain ⟨j, hj, pj⟩ := e
      exact ih j hj pj
    · exact ⟨k, hk, fun j hj pj => e ⟨j, hj, pj⟩⟩
theorem rp1 {ρ A1 : Type} (W : Nat → (ρ → Prop) → A1 → Prop) (ok : A1 → Prop) (μ : A1 → Nat) (val : A1 → ρ)
    (hs : ∀ (d : Nat) (post : ρ → Prop) (a1 : A1), ok a1 → post (val a1) → (∀ (post' : ρ → Prop) (b1 : A1), ok b1 → μ b1 < μ a1 → post' (val b1) → W d post' b1) → W (d + 1) post a1) :
    ∀ (d : Nat) (post : ρ → Prop) (a1 : A1), ok a1 → μ a1 < d → post (val a1) → W d post a1 := by
  intro d
  induction d with
  | zero => intro post a1 _ h; omega
  | succ d ih =>
    intro post a1 ho hm hp
    exact hs d post a1 ho hp (fun post' b1 ho' hm' hp' => ih post' b1 ho' (by omega) hp')
theorem rp2 {ρ A1 A2 : Type} (W : Nat → (ρ → Prop) → A1 → A2 → Prop) (ok : A1 → A2 → Prop) (μ : A1 → A2 → Nat) (val : A1 → A2 → ρ)
    (hs : ∀ (d : Nat) (post : ρ → Prop) (a1 : A1) (a2 : A2), ok a1 a2 → post (val a1 a2) → (∀ (post' : ρ → Prop) (b1 : A1) (b2 : A2), ok b1 b2 → μ b1 b2 < μ a1 a2 → post' (val b1 b2) → W d post' b1 b2) → W (d + 1) post a1 a2) :
    ∀ (d : Nat) (post : ρ → Prop) (a1 : A1) (a2 : A2), ok a1 a2 → μ a1 a2 < d → post (val a1 a2) → W d post a1 a2 := by
  intro d
  induction d with
  | zero => intro post a1 a2 _ h; omega
  | succ d ih =>
    intro post a1 a2 ho hm hp
    exact hs d post a1 a2 ho hp (fun post' b1 b2 ho' hm' hp' => ih post' b1 b2 ho' (by omega) hp')
theorem rp3 {ρ A1 A2 A3 : Type} (W : Nat → (ρ → Prop) → A1 → A2 → A3 → Prop) (ok : A1 → A2 → A3 → Prop) (μ : A1 → A2 → A3 → Nat) (val : A1 → A2 → A3 → ρ)
    (hs : ∀ (d : Nat) (post : ρ → Prop) (a1 : A1) (a2 : A2) (a3 : A3), ok a1 a2 a3 → post (val a1 a2 a3) → (∀ (post' : ρ → Prop) (b1 : A1) (b2 : A2) (b3 : A3), ok b1 b2 b3 → μ b1 b2 b3 < μ a1 a2 a3 → post' (val b1 b2 b3) → W d post' b1 b2 b3) → W (d + 1) post a1 a2 a3) :
    ∀ (d : Nat) (post : ρ → Prop) (a1 : A1) (a2 : A2) (a3 : A3), ok a1 a2 a3 → μ a1 a2 a3 < d → post (val a1 a2 a3) → W d post a1 a2 a3 := by
  intro d
  induction d with
  | zero => intro post a1 a2 a3 _ h; omega
  | succ d ih =>
    intro post a1 a2 a3 ho hm hp
    exact hs d post a1 a2 a3 ho hp (fun post' b1 b2 b3 ho' hm' hp' => ih post' b1 b2 b3 ho' (by omega) hp')
theorem rp4 {ρ A1 A2 A3 A4 : Type} (W : Nat → (ρ → Prop) → A1 → A2 → A3 → A4 → Prop) (ok : A1 → A2 → A3 → A4 → Prop) (μ : A1 → A2 → A3 → A4 → Nat) (val : A1 → A2 → A3 → A4 → ρ)
    (hs : ∀ (d : Nat) (post : ρ → Prop) (a1 : A1) (a2 : A2) (a3 : A3) (a4 : A4), ok a1 a2 a3 a4 → post (val a1 a2 a3 a4) → (∀ (post' : ρ → Prop) (b1 : A1) (b2 : A2) (b3 : A3) (b4 : A4), ok b1 b2 b3 b4 → μ b1 b2 b3 b4 < μ a1 a2 a3 a4 → post' (val b1 b2 b3 b4) → W d post' b1 b2 b3 b4) → W (d + 1) post a1 a2 a3 a4) :
    ∀ (d : Nat) (post : ρ → Prop) (a1 : A1) (a2 : A2) (a3 : A3) (a4 : A4), ok a1 a2 a3 a4 → μ a1 a2 a3 a4 < d → post (val a1 a2 a3 a4) → W d post a1 a2 a3 a4 := by
  intro d
  induction d with
  | zero => intro post a1 a2 a3 a4 _ h; omega
  | succ d ih =>
    intro post a1 a2 a3 a4 ho hm hp
    exact hs d post a1 a2 a3 a4 ho hp (fun post' b1 b2 b3 b4 ho' hm' hp' => ih post' b1 b2 b3 b4 ho' (by omega) hp')
theorem rp5 {ρ A1 A2 A3 A4 A5 : Type} (W : Nat → (ρ → Prop) → A1 → A2 → A3 → A4 → A5 → Prop) (ok : A1 → A2 → A3 → A4 → A5 → Prop) (μ : A1 → A2 → A3 → A4 → A5 → Nat) (val : A1 → A2 → A3 → A4 → A5 → ρ)
    (hs : ∀ (d : Nat) (post : ρ → Prop) (a1 : A1) (a2 : A2) (a3 : A3) (a4 : A4) (a5 : A5), ok a1 a2 a3 a4 a5 → post (val a1 a2 a3 a4 a5) → (∀ (post' : ρ → Prop) (b1 : A1) (b2 : A2) (b3 : A3) (b4 : A4) (b5 : A5), ok b1 b2 b3 b4 b5 → μ b1 b2 b3 b4 b5 < μ a1 a2 a3 a4 a5 → post' (val b1 b2 b3 b4 b5) → W d post' b1 b2 b3 b4 b5) → W (d + 1) post a1 a2 a3 a4 a5) :
    ∀ (d : Nat) (post : ρ → Prop) (a1 : A1) (a2 : A2) (a3 : A3) (a4 : A4) (a5 : A5), ok a1 a2 a3 a4 a5 → μ a1 a2 a3 a4 a5 < d → post (val a1 a2 a3 a4 a5) → W d post a1 a2 a3 a4 a5 := by
  intro d
  induction d with
  | zero => intro post a1 a2 a3 a4 a5 _ h; omega
  | succ d ih =>
    intro post a1 a2 a3 a4 a5 ho hm hp
    exact hs d post a1 a2 a3 a4 a5 ho hp (fun post' b1 b2 b3 b4 b5 ho' hm' hp' => ih post' b1 b2 b3 b4 b5 ho' (by omega) hp')
theorem rp6 {ρ A1 A2 A3 A4 A5 A6 : Type} (W : Nat → (ρ → Prop) → A1 → A2 → A3 → A4 → A5 → A6 → Prop) (ok : A1 → A2 → A3 → A4 → A5 → A6 → Prop) (μ : A1 → A2 → A3 → A4 → A5 → A6 → Nat) (val : A1 → A2 → A3 → A4 → A5 → A6 → ρ)
    (hs : ∀ (d : Nat) (post : ρ → Prop) (a1 : A1) (a2 : A2) (a3 : A3) (a4 : A4) (a5 : A5) (a6 : A6), ok a1 a2 a3 a4 a5 a6 → post (val a1 a2 a3 a4 a5 a6) → (∀ (post' : ρ → Prop) (b1 : A1) (b2 : A2) (b3 : A3) (b4 : A4) (b5 : A5) (b6 : A6), ok b1 b2 b3 b4 b5 b6 → μ b1 b2 b3 b4 b5 b6 < μ a1 a2 a3 a4 a5 a6 → post' (val b1 b2 b3 b4 b5 b6) → W d post' b1 b2 b3 b4 b5 b6) → W (d + 1) post a1 a2 a3 a4 a5 a6) :
    ∀ (d : Nat) (post : ρ → Prop) (a1 : A1) (a2 : A2) (a3 : A3) (a4 : A4) (a5 : A5) (a6 : A6), ok a1 a2 a3 a4 a5 a6 → μ a1 a2 a3 a4 a5 a6 < d → post (val a1 a2 a3 a4 a5 a6) → W d post a1 a2 a3 a4 a5 a6 := by
  intro d
  induction d with
  | zero => intro post a1 a2 a3 a4 a5 a6 _ h; omega
  | succ d ih =>
    intro post a1 a2 a3 a4 a5 a6 ho hm hp
    exact hs d post a1 a2 a3 a4 a5 a6 ho hp (fun post' b1 b2 b3 b4 b5 b6 ho' hm' hp' => ih post' b1 b2 b3 b4 b5 b6 ho' (by omega) hp')
theorem rec_p {σ ρ : Type} (W : Nat → (ρ → Prop) → σ → Prop) (ok : σ → Prop) (μ : σ → Nat) (val : σ → ρ)
    (hs : ∀ d s post, ok s → post (val s) → (∀ s' post', ok s' → μ s' < μ s → post' (val s') → W d post' s') → W (d + 1) post s) :
    ∀ d s post, ok s → μ s < d → post (val s) → W d post s := by
  intro d
  induction d with
  | zero => intro s post _ h; omega
  | succ d ih =>
    intro s post ho hm hp
    exact hs d s post ho hp (fun s' post' ho' hm' hp' => ih s' post' ho' (by omega) hp')
theorem rec_q {σ ρ : Type} (W : Nat → (ρ → Prop) → σ → Prop) (ok : σ → Prop) (μ : σ → Nat) (Q : σ → ρ → Prop)
    (hs : ∀ d s post, ok s → (∀ r, Q s r → post r) → (∀ s' post', ok s' → μ s' < μ s → (∀ r, Q s' r → post' r) → W d post' s') → W (d + 1) post s) :
    ∀ d s post, ok s → μ s < d → (∀ r, Q s r → post r) → W d post s := by
  intro d
  induction d with
  | zero => intro s post _ h; omega
  | succ d ih =>
    intro s post ho hm hp
    exact hs d s post ho hp (fun s' post' ho' hm' hp' => ih s' post' ho' (by omega) hp')
def bx_sum (f : Nat → Int32) : Nat → Int32
  | 0 => 0
  | n + 1 => bx_sum f n + f n
theorem ek_u {A : Prop} {B : Nat → Prop} {k N : Nat} (hk : k < N) (h : B k) : (some k = none → A) ∧ (∀ y : Nat, some k = some y → (y < N ∧ B y)) :=
  ⟨fun z => absurd z (Option.some_ne_none k), fun _ e => (by cases e; exact ⟨hk, h⟩)⟩
theorem ek_nu {A : Prop} {B : Nat → Prop} (h : A) : ((none : Option Nat) = none → A) ∧ (∀ y : Nat, (none : Option Nat) = some y → B y) :=
  ⟨fun _ => h, fun _ e => (by cases e)⟩
theorem ek_if {c d A B : Prop} (e : c ↔ d) (f : d → A) (g : ¬ d → B) : (c → A) ∧ (¬ c → B) :=
  ⟨fun z => f (e.mp z), fun z => g (fun y => z (e.mpr y))⟩
theorem ek_v {α : Sort _} {P : α → Prop} {a b : α} (e : a = b) (h : P b) : P a := e ▸ h
theorem co_some {x : Option Nat} {A : Prop} {B : Nat → Prop} (i : Nat) (h : B i) (hx : x = some i := by rfl) : (x = none → A) ∧ (∀ y : Nat, x = some y → B y) := by
  subst hx
  exact ⟨fun e => (nomatch e), fun y e => Option.some.inj e ▸ h⟩
theorem co_none {x : Option Nat} {A : Prop} {B : Nat → Prop} (h : A) (hx : x = none := by rfl) : (x = none → A) ∧ (∀ y : Nat, x = some y → B y) := by
  subst hx
  exact ⟨fun _ => h, fun y e => (nomatch e)⟩
theorem co_any {x : Option Nat} {A : Prop} {B : Nat → Prop} (hn : x = none → A) (hs : ∀ i : Nat, x = some i → B i) : (x = none → A) ∧ (∀ y : Nat, x = some y → B y) := ⟨hn, hs⟩
theorem co_2 {P : Nat → Prop} (h0 : P 0) (h1 : P 1) {i : Nat} (hi : i < 2) : P i :=
  match i, hi with
  | 0, _ => h0
  | 1, _ => h1
theorem co_3 {P : Nat → Prop} (h0 : P 0) (h1 : P 1) (h2 : P 2) {i : Nat} (hi : i < 3) : P i :=
  match i, hi with
  | 0, _ => h0
  | 1, _ => h1
  | 2, _ => h2
theorem co_4 {P : Nat → Prop} (h0 : P 0) (h1 : P 1) (h2 : P 2) (h3 : P 3) {i : Nat} (hi : i < 4) : P i :=
  match i, hi with
  | 0, _ => h0
  | 1, _ => h1
  | 2, _ => h2
  | 3, _ => h3
theorem co_dec {N : Nat} {P : Nat → Prop} [DecidablePred P] (h : (List.range N).all (fun i => decide (P i)) = true) {i : Nat} (hi : i < N) : P i := by
  have := List.all_eq_true.mp h i (List.mem_range.mpr hi)
  exact of_decide_eq_true this
theorem co_tab {α : Type} {l : List α} {d : α} {P : α → Prop} (h : ∀ a, a ∈ l → P a) {i : Nat} (hi : i < l.length) : P (l.getD i d) := by
  rw [List.getD_eq_getElem?_getD, List.getElem?_eq_getElem hi]
  exact h _ (List.getElem_mem hi)
theorem pk_mu {x : Int32} {L : Nat} (h0 : ¬ x < 0) (h : ¬ nI L ≤ x) (hL : L < 2 ^ 31) : ∃ j : Nat, j < L ∧ x = nI j ∧ x + 1 = nI (j + 1) ∧ x.toNatClampNeg = j ∧ L - (x + 1).toNatClampNeg < L - x.toNatClampNeg := by
  obtain ⟨j, hj, rfl⟩ := nI_of h0
  have hl : j < L := Nat.not_le.mp fun q => h (nI_le q hj)
  refine ⟨j, hl, rfl, nI_1 j, nI_clamp hj, ?_⟩
  rw [nI_1, nI_clamp (by omega), nI_clamp hj]
  omega
theorem op_s {α : Type} {r : Option α} {A : Prop} {B : α → Prop} {y : α} (h : r = some y) (b : B y) : (r = none → A) ∧ ∀ z, r = some z → B z :=
  ⟨fun e => (by rw [h] at e; cases e), fun z e => (by rw [h] at e; cases e; exact b)⟩
def l_holds {α : Type} (a : Nat → Option Nat) (LP : List Nat) (p : Nat → α) (c : Nat) (b : Nat → α) : Prop :=
  ∀ j, j < c → ∃ y, a j = some y ∧ y ∈ LP ∧ p y = b j
theorem l_holds_0 {α : Type} {a : Nat → Option Nat} {LP : List Nat} {p b : Nat → α} : l_holds a LP p 0 b := fun j h => absurd h (Nat.not_lt_zero j)
theorem l_in_new (LP : List Nat) (q : Nat) : q ∈ LP ++ [q] := List.mem_append.mpr (Or.inr (List.mem_singleton.mpr rfl))
def l_sum (b : Nat → Int32) : Nat → Int32
  | 0 => 0
  | k + 1 => l_sum b k + b k
theorem sb_shr0 (x : Int32) : x >>> ((0 : Int32) &&& 31) = x := by
  rw [show ((0 : Int32) &&& 31) = 0 by decide]
  simp
theorem sb_shl0 (x : Int32) : x <<< ((0 : Int32) &&& 31) = x := by
  rw [show ((0 : Int32) &&& 31) = 0 by decide]
  simp
theorem sb_cl0 : (0 : Int32).toNatClampNeg = 0 := by decide
theorem sb_m1 {p : Nat} (h : 0 < p) : nI p + (-1) = nI (p - 1) := by
  obtain ⟨q, rfl⟩ : ∃ q, p = q + 1 := ⟨p - 1, by omega⟩
  exact pk_m1 q
def sb_b (c : Nat) : Int32 := (nI c).toInt8.toInt32
theorem sb_byte : ∀ c, c < 256 → sb_b c &&& 255 = nI c ∧ ((nI c).toUInt32 % 65536).toInt32 = nI c ∧ nI c ≤ 255 := by decide +kernel
def sb_Fit (a : Nat → Int32) : Prop := ∀ j, fits .byte (.int (a j)) = true
def sb_Lat (t : Nat → Nat) (n : Nat) (a : Nat → Int32) : Prop := ∀ j, j < n → t j < 256 ∧ a j = sb_b (t j)
theorem sb_fitB (c : Nat) : fits .byte (.int (sb_b c)) = true := pk_fb _
theorem sb_fit0 : sb_Fit (fun _ => 0) := fun _ => by
  show fits .byte (.int 0) = true
  decide
theorem sb_fitU {a : Nat → Int32} {k : Nat} {x : Int32} (h : sb_Fit a) (hx : fits .byte (.int x) = true) : sb_Fit (upd a k x) := by
  intro j
  by_cases e : j = k
  · subst e
    rw [pk_us]
    exact hx
  · rw [pk_un e]
    exact h j
def sb_cat (t : Nat → Nat) (n : Nat) (s : Nat → Nat) : Nat → Nat := fun j => if j < n then t j else s (j - n)
theorem sb_cat_lo {t s : Nat → Nat} {n j : Nat} (h : j < n) : sb_cat t n s j = t j := if_pos h
theorem sb_cat_hi {t s : Nat → Nat} {n j : Nat} : sb_cat t n s (n + j) = s j := by
  show (if n + j < n then t (n + j) else s (n + j - n)) = s j
  rw [if_neg (by omega), Nat.add_sub_cancel_left]
theorem sb_latPut {t s : Nat → Nat} {n w : Nat} {a a' : Nat → Int32} (h : sb_Lat t n a) (hk : ∀ j, j < n → a' j = a j) (hs : ∀ i, i < w → s i < 256 ∧ a' (n + i) = sb_b (s i)) : sb_Lat (sb_cat t n s) (n + w) a' := by
  intro j hj
  by_cases e : j < n
  · rw [sb_cat_lo e, hk j e]
    exact h j e
  · obtain ⟨i, rfl⟩ : ∃ i, j = n + i := ⟨j - n, by omega⟩
    rw [sb_cat_hi]
    exact hs i (by omega)
theorem sb_latKeep {t : Nat → Nat} {n : Nat} {a a' : Nat → Int32} (h : sb_Lat t n a) (hk : ∀ j, j < n → a' j = a j) : sb_Lat t n a' := fun j hj => by
  rw [hk j hj]
  exact h j hj
def sb_cap (q m : Nat) : Nat := if q ≤ m then m else if 2 * m + 2 < q then q else 2 * m + 2
def sb_Room (q m mc ms : Nat) : Prop := q ≤ m ∨ (1 ≤ mc ∧ sb_cap q m ≤ ms ∧ sb_cap q m ≤ 65536)
theorem sb_cap_ge (q m : Nat) : q ≤ sb_cap q m := by
  unfold sb_cap
  split
  · omega
  · split <;> omega
theorem sb_cap_gem (q m : Nat) : m ≤ sb_cap q m := by
  unfold sb_cap
  split
  · omega
  · split <;> omega
theorem sb_cap_le {q m mc ms : Nat} (hm : m ≤ 65536) (hr : sb_Room q m mc ms) : sb_cap q m ≤ 65536 := by
  rcases hr with h | h
  · rw [sb_cap, if_pos h]
    exact hm
  · exact h.2.2
theorem sb_at {P : Int32 → Prop} {x y : Int32} (e : x = y) (h : P y) : P x := e ▸ h
def sb_dg (w : Nat) : Nat := if w < 10 then 1 else if w < 100 then 2 else if w < 1000 then 3 else if w < 10000 then 4 else if w < 100000 then 5 else if w < 1000000 then 6 else if w < 10000000 then 7 else if w < 100000000 then 8 else if w < 1000000000 then 9 else 10
def sb_dec (v : Nat) : Nat → Nat := fun i => 48 + v / 10 ^ (sb_dg v - 1 - i) % 10
theorem sb_dg_in (w : Nat) : 1 ≤ sb_dg w ∧ sb_dg w ≤ 10 := by
  unfold sb_dg
  constructor <;> (repeat' split) <;> omega
theorem sb_dg100 {w : Nat} (h : 100 ≤ w) (hw : w < 2 ^ 31) : sb_dg w = sb_dg (w / 100) + 2 := by
  rw [sb_dg, sb_dg, if_neg (show ¬ w < 10 by omega), if_neg (show ¬ w < 100 by omega)]
  by_cases h3 : w < 1000
  · rw [if_pos h3, if_pos (show w / 100 < 10 by omega)]
  rw [if_neg h3, if_neg (show ¬ w / 100 < 10 by omega)]
  by_cases h4 : w < 10000
  · rw [if_pos h4, if_pos (show w / 100 < 100 by omega)]
  rw [if_neg h4, if_neg (show ¬ w / 100 < 100 by omega)]
  by_cases h5 : w < 100000
  · rw [if_pos h5, if_pos (show w / 100 < 1000 by omega)]
  rw [if_neg h5, if_neg (show ¬ w / 100 < 1000 by omega)]
  by_cases h6 : w < 1000000
  · rw [if_pos h6, if_pos (show w / 100 < 10000 by omega)]
  rw [if_neg h6, if_neg (show ¬ w / 100 < 10000 by omega)]
  by_cases h7 : w < 10000000
  · rw [if_pos h7, if_pos (show w / 100 < 100000 by omega)]
  rw [if_neg h7, if_neg (show ¬ w / 100 < 100000 by omega)]
  by_cases h8 : w < 100000000
  · rw [if_pos h8, if_pos (show w / 100 < 1000000 by omega)]
  rw [if_neg h8, if_neg (show ¬ w / 100 < 1000000 by omega)]
  by_cases h9 : w < 1000000000
  · rw [if_pos h9, if_pos (show w / 100 < 10000000 by omega)]
  rw [if_neg h9, if_neg (show ¬ w / 100 < 10000000 by omega)]
  rw [if_pos (show w / 100 < 100000000 by omega)]
theorem sb_negT {w : Nat} (h : w < 2 ^ 31) : (-nI w).toInt = -(w : Int) := by
  rw [Int32.toInt_neg, nI_toInt h]
  exact Int.bmod_eq_of_le (by omega) (by omega)
theorem sb_nle {a b : Nat} (ha : a < 2 ^ 31) (hb : b < 2 ^ 31) : -nI a ≤ -nI b ↔ b ≤ a := by
  rw [Int32.le_iff_toInt_le, sb_negT ha, sb_negT hb]
  omega
theorem sb_nlt {a b : Nat} (ha : a < 2 ^ 31) (hb : b < 2 ^ 31) : -nI a < -nI b ↔ b < a := by
  rw [Int32.lt_iff_toInt_lt, sb_negT ha, sb_negT hb]
  omega
theorem sb_cmp {A B : Prop} {x : Int32} (v c : Nat) (f : c ≤ v → A) (g : v < c → B) (hv : v < 2 ^ 31) (hx : x = -nI c := by rfl) (hc : c < 2 ^ 31 := by omega) : (-nI v ≤ x → A) ∧ (¬ -nI v ≤ x → B) := by
  subst hx
  rw [sb_nle hv hc]
  exact ⟨f, fun z => g (by omega)⟩
theorem sb_ndiv {w : Nat} (hw : w < 2 ^ 31) : (-nI w) / 100 = -nI (w / 100) := by
  apply Int32.toInt_inj.mp
  have h100 : (100 : Int32).toInt = 100 := by decide
  rw [Int32.toInt_div, sb_negT hw, h100, sb_negT (by omega), Int.neg_tdiv, Int.tdiv_eq_ediv_of_nonneg (by omega), Int.bmod_eq_of_le (by omega) (by omega)]
  omega
theorem sb_nrem {w : Nat} (hw : w < 2 ^ 31) : (-nI (w / 100)) * 100 - (-nI w) = nI (w % 100) := by
  have h := pk_rem (a := w) (d := 100) hw (by decide) (by decide)
  rw [pk_div hw (by decide) (by decide)] at h
  rw [← h]
  show (-nI (w / 100)) * nI 100 - (-nI w) = nI w - nI (w / 100) * nI 100
  rw [Int32.neg_mul, Int32.sub_neg, Int32.add_comm, ← Int32.sub_eq_add_neg]
/-! rows on bits, shifts and unsigned numbers, to paste: each family out of a closed proof of our own, whole with what it rests on; each by itself clean at Lean in its own claim (generation 39, form 5). Take a family whole -/
/-! ===== Int32 by its bits: bt x i ===== -/
def bt (x : Int32) (i : Nat) : Bool := x.toBitVec.getLsbD i
theorem b_ext {x y : Int32} (h : ∀ i, i < 32 → bt x i = bt y i) : x = y := Int32.toBitVec_inj.mp (BitVec.eq_of_getLsbD_eq (fun i hi => h i hi))
theorem b_or (x y : Int32) (i : Nat) : bt (x ||| y) i = (bt x i || bt y i) := by unfold bt; rw [Int32.toBitVec_or, BitVec.getLsbD_or]
theorem b_and (x y : Int32) (i : Nat) : bt (x &&& y) i = (bt x i && bt y i) := by unfold bt; rw [Int32.toBitVec_and, BitVec.getLsbD_and]
theorem b_xor (x y : Int32) (i : Nat) : bt (x ^^^ y) i = (bt x i ^^ bt y i) := by unfold bt; rw [Int32.toBitVec_xor, BitVec.getLsbD_xor]
theorem b_big {x : Int32} {i : Nat} (h : 32 ≤ i) : bt x i = false := BitVec.getLsbD_of_ge _ _ h
theorem b_255 (i : Nat) : bt 255 i = decide (i < 8) := by
  rcases Nat.lt_or_ge i 32 with h | h
  · exact (by decide +kernel : ∀ i, i < 32 → bt 255 i = decide (i < 8)) i h
  · rw [b_big h, decide_eq_false (by omega)]
theorem b_65535 (i : Nat) : bt 65535 i = decide (i < 16) := by
  rcases Nat.lt_or_ge i 32 with h | h
  · exact (by decide +kernel : ∀ i, i < 32 → bt 65535 i = decide (i < 16)) i h
  · rw [b_big h, decide_eq_false (by omega)]
theorem b_m1 : ∀ i, i < 32 → bt (-1) i = true := by decide +kernel
theorem b_0 (i : Nat) : bt 0 i = false := BitVec.getLsbD_zero
theorem s_l : ∀ n, n < 32 → ((nI n &&& 31).toBitVec.smod 32).toNat = n := by decide +kernel
theorem s_u : ∀ n, n < 32 → (((nI n).toUInt32 &&& Int32.toUInt32 31).toBitVec % 32).toNat = n := by decide +kernel
theorem b_shl (n : Nat) (hn : n < 32) (x : Int32) {i : Nat} (hi : i < 32) : bt (x <<< (nI n &&& 31)) i = (decide (n ≤ i) && bt x (i - n)) := by
  unfold bt
  rw [Int32.toBitVec_shiftLeft]
  show (x.toBitVec <<< ((nI n &&& 31).toBitVec.smod 32).toNat).getLsbD i = _
  rw [s_l n hn, BitVec.getLsbD_shiftLeft]
  rcases Nat.lt_or_ge i n with h | h
  · simp [h, Nat.not_le.mpr h]
  · simp [hi, h, Nat.not_lt.mpr h]
theorem b_ushr (n : Nat) (hn : n < 32) (x : Int32) (i : Nat) : bt ((x.toUInt32 >>> ((nI n).toUInt32 &&& Int32.toUInt32 31)).toInt32) i = bt x (n + i) := by
  show (x.toUInt32 >>> ((nI n).toUInt32 &&& Int32.toUInt32 31)).toBitVec.getLsbD i = x.toUInt32.toBitVec.getLsbD (n + i)
  rw [UInt32.toBitVec_shiftRight]
  show (x.toUInt32.toBitVec >>> (((nI n).toUInt32 &&& Int32.toUInt32 31).toBitVec % 32).toNat).getLsbD i = _
  rw [s_u n hn, BitVec.getLsbD_ushiftRight]
theorem b_sshr (n : Nat) (hn : n < 32) (x : Int32) {i : Nat} (hi : i < 32) : bt (x >>> (nI n &&& 31)) i = if n + i < 32 then bt x (n + i) else bt x 31 := by
  unfold bt
  rw [Int32.toBitVec_shiftRight]
  show (x.toBitVec.sshiftRight ((nI n &&& 31).toBitVec.smod 32).toNat).getLsbD i = _
  rw [s_l n hn, BitVec.getLsbD_sshiftRight, BitVec.msb_eq_getLsbD_last]
  simp [hi]
theorem b_shl8 (x : Int32) {i : Nat} (hi : i < 32) : bt (x <<< ((8 : Int32) &&& 31)) i = (decide (8 ≤ i) && bt x (i - 8)) := b_shl 8 (by omega) x hi
theorem b_shl16 (x : Int32) {i : Nat} (hi : i < 32) : bt (x <<< ((16 : Int32) &&& 31)) i = (decide (16 ≤ i) && bt x (i - 16)) := b_shl 16 (by omega) x hi
theorem b_shl24 (x : Int32) {i : Nat} (hi : i < 32) : bt (x <<< ((24 : Int32) &&& 31)) i = (decide (24 ≤ i) && bt x (i - 24)) := b_shl 24 (by omega) x hi
theorem b_sshr8 (x : Int32) {i : Nat} (hi : i < 32) : bt (x >>> ((8 : Int32) &&& 31)) i = if 8 + i < 32 then bt x (8 + i) else bt x 31 := b_sshr 8 (by omega) x hi
/-! ===== nI under and, xor, >>>, one bit, 65535 ===== -/
theorem nx_and (a b : Nat) : nI a &&& nI b = nI (a &&& b) := by
  apply Int32.toBitVec_inj.1
  show BitVec.ofNat 32 a &&& BitVec.ofNat 32 b = BitVec.ofNat 32 (a &&& b)
  apply BitVec.eq_of_getLsbD_eq
  intro i hi
  simp [hi]
theorem nx_xor (a b : Nat) : nI a ^^^ nI b = nI (a ^^^ b) := by
  apply Int32.toBitVec_inj.1
  show BitVec.ofNat 32 a ^^^ BitVec.ofNat 32 b = BitVec.ofNat 32 (a ^^^ b)
  apply BitVec.eq_of_getLsbD_eq
  intro i hi
  simp [hi]
theorem nx_cnt : ∀ j : Fin 32, (UInt32.ofNat j.val &&& Int32.toUInt32 31).toNat % 32 = j.val := by decide +kernel
theorem nx_ush {k j : Nat} (hk : k < 65536) (hj : j < 32) : ((nI k).toUInt32 >>> ((nI j).toUInt32 &&& Int32.toUInt32 31)).toInt32 = nI (k >>> j) := by
  have hs : k >>> j ≤ k := by
    rw [Nat.shiftRight_eq_div_pow]
    exact Nat.div_le_self _ _
  have e2 : UInt32.ofNat k >>> (UInt32.ofNat j &&& Int32.toUInt32 31) = UInt32.ofNat (k >>> j) := by
    apply UInt32.toNat_inj.1
    have h1 : (UInt32.ofNat k).toNat = k := Nat.mod_eq_of_lt (by omega)
    have h2 : (UInt32.ofNat (k >>> j)).toNat = k >>> j := Nat.mod_eq_of_lt (by omega)
    rw [UInt32.toNat_shiftRight, nx_cnt ⟨j, hj⟩, h1, h2]
  show (UInt32.ofNat k >>> (UInt32.ofNat j &&& Int32.toUInt32 31)).toInt32 = _
  rw [e2]
  rfl
theorem nx_bit {k j : Nat} (hk : k < 65536) (hj : j < 16) : (((nI k).toUInt32 >>> ((nI j).toUInt32 &&& Int32.toUInt32 31)).toInt32 &&& 1) = 0 ↔ k.testBit j = false := by
  rw [nx_ush hk (by omega)]
  show nI (k >>> j) &&& nI 1 = 0 ↔ _
  rw [nx_and, Nat.and_one_is_mod, ← nI_0, nI_eq (by omega) (by omega), Nat.testBit_eq_decide_div_mod_eq, Nat.shiftRight_eq_div_pow, decide_eq_false_iff_not]
  generalize k / 2 ^ j = z
  omega
theorem nx_mod (k : Nat) : nI k &&& 65535 = nI (k % 65536) := by
  show nI k &&& nI 65535 = _
  rw [nx_and, show (65535 : Nat) = 2 ^ 16 - 1 from rfl, Nat.and_two_pow_sub_one_eq_mod]
theorem nx_m16 {k : Nat} (h : k < 65536) : nI k &&& 65535 = nI k := by rw [nx_mod, Nat.mod_eq_of_lt h]
theorem nx_mask (x : Int32) : ∃ k, k < 65536 ∧ x &&& 65535 = nI k := by
  have e : x = nI x.toBitVec.toNat := by
    apply Int32.toBitVec_inj.1
    show x.toBitVec = BitVec.ofNat 32 x.toBitVec.toNat
    simp
  refine ⟨x.toBitVec.toNat % 65536, Nat.mod_lt _ (by omega), ?_⟩
  rw [← nx_mod, ← e]
/-! ===== Int32 as a set of bits: test, set ===== -/
def nf_M (m : Int32) : Nat := 4294967296 - m.toBitVec.toNat
theorem nf_sh : ∀ l, l < 32 → ((1 : Int32) <<< (nI l &&& 31)).toBitVec = BitVec.twoPow 32 l := by decide +kernel
theorem nf_sl : ∀ l, l < 32 → (((nI l).toUInt32 &&& Int32.toUInt32 31).toBitVec % 32).toNat = l := by decide +kernel
theorem nf_tp : ∀ l, l < 32 → BitVec.twoPow 32 l ≠ 0#32 := by decide +kernel
theorem nf_bit (m : Int32) (l : Nat) (hl : l < 32) : ((m.toUInt32 >>> ((nI l).toUInt32 &&& Int32.toUInt32 31)).toInt32 &&& 1) = 0 ↔ (m &&& ((1 : Int32) <<< (nI l &&& 31))) = 0 := by
  have e : ((m.toUInt32 >>> ((nI l).toUInt32 &&& Int32.toUInt32 31)).toInt32).toBitVec = m.toBitVec >>> l := by
    show m.toBitVec >>> (((nI l).toUInt32 &&& Int32.toUInt32 31).toBitVec % 32) = m.toBitVec >>> l
    rw [BitVec.ushiftRight_eq', nf_sl l hl]
  rw [← Int32.toBitVec_inj, ← Int32.toBitVec_inj, Int32.toBitVec_and, Int32.toBitVec_and, nf_sh l hl, e, BitVec.and_twoPow]
  show (m.toBitVec >>> l &&& 1#32) = 0#32 ↔ _ = 0#32
  rw [BitVec.and_one_eq_setWidth_ofBool_getLsbD, BitVec.getLsbD_ushiftRight, Nat.add_zero]
  cases hb : m.toBitVec.getLsbD l
  · exact ⟨fun _ => by simp, fun _ => by decide⟩
  · exact ⟨fun z => absurd z (by decide), fun z => absurd ((if_pos rfl).symm.trans z) (nf_tp l hl)⟩
theorem nf_gr (m k : Int32) (h : m &&& k = 0) (hk : k ≠ 0) : nf_M (m ||| k) < nf_M m := by
  have hm := m.toBitVec.isLt
  have hm' := (m ||| k).toBitVec.isLt
  have h1 : m.toBitVec.toNat ≤ (m ||| k).toBitVec.toNat := by
    rw [Int32.toBitVec_or, BitVec.toNat_or]
    exact Nat.left_le_or
  have h2 : m.toBitVec.toNat ≠ (m ||| k).toBitVec.toNat := by
    intro e
    have e2 : m = m ||| k := Int32.toBitVec_inj.mp (BitVec.eq_of_toNat_eq e)
    apply hk
    apply Int32.toBitVec_inj.mp
    show k.toBitVec = 0#32
    apply BitVec.eq_of_getLsbD_eq
    intro i hi
    have a : m.toBitVec.getLsbD i = (m.toBitVec.getLsbD i || k.toBitVec.getLsbD i) := by rw [← BitVec.getLsbD_or, ← Int32.toBitVec_or, ← e2]
    have b : (m.toBitVec.getLsbD i && k.toBitVec.getLsbD i) = false := by
      rw [← BitVec.getLsbD_and, ← Int32.toBitVec_and, h]
      exact BitVec.getLsbD_zero
    rw [BitVec.getLsbD_zero]
    revert a b
    cases m.toBitVec.getLsbD i <;> cases k.toBitVec.getLsbD i <;> simp
  unfold nf_M
  omega
/-! ===== a byte read unsigned ===== -/
theorem bp_b (x : Int32) : x.toInt8.toInt32 &&& 255 = x &&& 255 := by
  apply Int32.toBitVec_inj.mp
  rw [Int32.toBitVec_and, Int32.toBitVec_and, Int8.toBitVec_toInt32, Int32.toBitVec_toInt8]
  apply BitVec.eq_of_getLsbD_eq
  intro i hi
  rw [BitVec.getLsbD_and, BitVec.getLsbD_and]
  have hm : ∀ i < 32, 8 ≤ i → (255 : Int32).toBitVec.getLsbD i = false := by decide
  rcases Nat.lt_or_ge i 8 with z | z
  · rw [BitVec.getLsbD_signExtend, BitVec.getLsbD_signExtend, if_pos z, if_pos hi]
    simp only [z, hi, decide_true, Bool.true_and]
  · rw [hm i hi z]; simp
/-! ===== the char cast and 65535 ===== -/
theorem em_w (v : Int32) : ∃ w : Nat, w < 65536 ∧ (v.toUInt32 % 65536).toInt32 = nI w ∧ v &&& 65535 = nI w := by
  have hr := lw_u16_r v
  have h0 : (0 : Int32).toInt = 0 := by decide
  obtain ⟨w, h1, h2⟩ := nI_of (x := lw_u16 v) (by rw [Int32.lt_iff_toInt_lt]; omega)
  have h3 : (v.toUInt32 % 65536).toInt32 = nI w := h2
  rw [h2, nI_toInt h1] at hr
  exact ⟨w, by omega, h3, by rw [← lg_i2c_mask, ← lg_i2c_nf, h3]⟩
/-! ===== Int64 as a set of bits: test, set, clear ===== -/
theorem ts_nf {x : Bool} (h : ¬ x = false) : x = true := by cases x <;> first | rfl | exact absurd rfl h
theorem ts_nt {x : Bool} (h : ¬ x = true) : x = false := by cases x <;> first | rfl | exact absurd rfl h
theorem ts_bit {w : Int64} {s : UInt64} {j : Nat} (hj : j < 64) (hs : s.toNat = j) : ((w.toUInt64 >>> s).toInt64 &&& 1) = 0 ↔ w.toBitVec.getLsbD j = false := by
  have e : (w.toUInt64 >>> s).toInt64.toBitVec = w.toBitVec >>> j := by
    apply BitVec.eq_of_toNat_eq
    show (w.toUInt64 >>> s).toNat = _
    rw [UInt64.toNat_shiftRight, hs, Nat.mod_eq_of_lt hj, BitVec.toNat_ushiftRight]
    rfl
  rw [← Int64.toBitVec_inj, Int64.toBitVec_and, e]
  show w.toBitVec >>> j &&& 1#64 = 0#64 ↔ _
  constructor
  · intro h
    have t := congrArg (fun x => x.getLsbD 0) h
    simpa using t
  · intro h
    apply BitVec.eq_of_getLsbD_eq
    intro i hi
    cases i with
    | zero => simp [h]
    | succ i => simp
theorem ts_or {w m : Int64} {j : Nat} (hj : j < 64) (hm : m.toBitVec = BitVec.twoPow 64 j) : (w ||| m) = w ↔ w.toBitVec.getLsbD j = true := by
  rw [← Int64.toBitVec_inj, Int64.toBitVec_or, hm]
  constructor
  · intro h
    have t := congrArg (fun x => x.getLsbD j) h
    simp only [BitVec.getLsbD_or, BitVec.getLsbD_twoPow] at t
    simpa [hj] using t.symm
  · intro h
    apply BitVec.eq_of_getLsbD_eq
    intro i hi
    rw [BitVec.getLsbD_or, BitVec.getLsbD_twoPow]
    by_cases e : j = i
    · subst e; rw [h, Bool.true_or]
    · simp [e]
theorem ts_and {w m : Int64} {j : Nat} (hj : j < 64) (hm : m.toBitVec = BitVec.twoPow 64 j) : (w &&& (m ^^^ (-1))) = w ↔ w.toBitVec.getLsbD j = false := by
  have ha : (-1 : Int64).toBitVec = BitVec.allOnes 64 := by decide
  rw [← Int64.toBitVec_inj, Int64.toBitVec_and, Int64.toBitVec_xor, hm, ha]
  constructor
  · intro h
    have t := congrArg (fun x => x.getLsbD j) h
    simp only [BitVec.getLsbD_and, BitVec.getLsbD_xor, BitVec.getLsbD_twoPow, BitVec.getLsbD_allOnes] at t
    simpa [hj] using t.symm
  · intro h
    apply BitVec.eq_of_getLsbD_eq
    intro i hi
    rw [BitVec.getLsbD_and, BitVec.getLsbD_xor, BitVec.getLsbD_twoPow, BitVec.getLsbD_allOnes]
    by_cases e : j = i
    · subst e; rw [h, Bool.false_and]
    · simp [e, hi]
/-! ===== lN n to 2^64: shifts, and, or, masks, one bit ===== -/
theorem wb_tb (n : Nat) : (lN n).toBitVec = BitVec.ofNat 64 n := rfl
theorem wb_inj {a b : Int64} (h : a.toBitVec = b.toBitVec) : a = b := Int64.toBitVec_inj.mp h
theorem wb_tn {n : Nat} (h : n < 2 ^ 64) : (lN n).toBitVec.toNat = n := by rw [wb_tb, BitVec.toNat_ofNat, Nat.mod_eq_of_lt h]
theorem wb_of (x : Int64) : ∃ n, n < 2 ^ 64 ∧ x = lN n := ⟨x.toBitVec.toNat, x.toBitVec.isLt, wb_inj (by rw [wb_tb]; simp)⟩
theorem wb_of32 (x : Int32) : ∃ n, n < 2 ^ 32 ∧ x = nI n := ⟨x.toBitVec.toNat, x.toBitVec.isLt, Int32.toBitVec_inj.mp (by show _ = BitVec.ofNat 32 _; simp)⟩
theorem wb_c : ∀ k, k < 64 → ((nI k).toInt64 &&& 63) = lN k := by decide +kernel
theorem wb_cu : ∀ k, k < 64 → ((nI k).toInt64.toUInt64 &&& Int64.toUInt64 63) = UInt64.ofNat k := by decide +kernel
theorem wb_sm : ∀ k, k < 64 → (BitVec.ofNat 64 k).smod 64 = BitVec.ofNat 64 k := by decide +kernel
theorem wb_pw {a b : Nat} (h : a ≤ b) : 2 ^ b = 2 ^ a * 2 ^ (b - a) := by rw [← Nat.pow_add]; congr 1; omega
theorem wb_lt2 {a b : Nat} (h : a < b) : 2 ^ a < 2 ^ b := Nat.pow_lt_pow_right (by decide) h
theorem wb_mod (n : Nat) : lN n = lN (n % 2 ^ 64) := wb_inj (by rw [wb_tb, wb_tb]; apply BitVec.eq_of_toNat_eq; rw [BitVec.toNat_ofNat, BitVec.toNat_ofNat, Nat.mod_mod])
theorem wb_shr {n k : Nat} (hn : n < 2 ^ 64) (hk : k < 64) : ((lN n).toUInt64 >>> ((nI k).toInt64.toUInt64 &&& Int64.toUInt64 63)).toInt64 = lN (n / 2 ^ k) := by
  rw [wb_cu k hk]
  apply wb_inj
  apply BitVec.eq_of_toNat_eq
  show ((lN n).toUInt64 >>> UInt64.ofNat k).toNat = (BitVec.ofNat 64 _).toNat
  have h1 : (UInt64.ofNat k).toNat = k := by
    show (BitVec.ofNat 64 k).toNat = k
    rw [BitVec.toNat_ofNat, Nat.mod_eq_of_lt (by omega)]
  have h2 : (lN n).toUInt64.toNat = n := wb_tn hn
  rw [UInt64.toNat_shiftRight, h1, h2, Nat.mod_eq_of_lt hk, Nat.shiftRight_eq_div_pow, BitVec.toNat_ofNat, Nat.mod_eq_of_lt (Nat.lt_of_le_of_lt (Nat.div_le_self _ _) hn)]
theorem wb_shl (n : Nat) {k : Nat} (hk : k < 64) : lN n <<< ((nI k).toInt64 &&& 63) = lN (n * 2 ^ k) := by
  rw [wb_c k hk]
  apply wb_inj
  rw [Int64.toBitVec_shiftLeft, wb_tb, wb_tb, wb_tb, wb_sm k hk]
  apply BitVec.eq_of_toNat_eq
  rw [BitVec.shiftLeft_eq', BitVec.toNat_shiftLeft, BitVec.toNat_ofNat, BitVec.toNat_ofNat, BitVec.toNat_ofNat, Nat.mod_eq_of_lt (show k < 2 ^ 64 by omega), Nat.shiftLeft_eq, Nat.mul_mod, Nat.mod_mod, ← Nat.mul_mod]
theorem wb_and {a b : Nat} (ha : a < 2 ^ 64) (hb : b < 2 ^ 64) : lN a &&& lN b = lN (a &&& b) := by
  apply wb_inj
  rw [Int64.toBitVec_and, wb_tb, wb_tb, wb_tb]
  apply BitVec.eq_of_toNat_eq
  rw [BitVec.toNat_and, BitVec.toNat_ofNat, BitVec.toNat_ofNat, BitVec.toNat_ofNat, Nat.mod_eq_of_lt ha, Nat.mod_eq_of_lt hb, Nat.mod_eq_of_lt (Nat.and_lt_two_pow _ hb)]
theorem wb_or {a b : Nat} (ha : a < 2 ^ 64) (hb : b < 2 ^ 64) : lN a ||| lN b = lN (a ||| b) := by
  apply wb_inj
  rw [Int64.toBitVec_or, wb_tb, wb_tb, wb_tb]
  apply BitVec.eq_of_toNat_eq
  rw [BitVec.toNat_or, BitVec.toNat_ofNat, BitVec.toNat_ofNat, BitVec.toNat_ofNat, Nat.mod_eq_of_lt ha, Nat.mod_eq_of_lt hb, Nat.mod_eq_of_lt (Nat.or_lt_two_pow ha hb)]
theorem wb_mask {n k : Nat} (hn : n < 2 ^ 64) (hk : k < 64) : lN n &&& lN (2 ^ k - 1) = lN (n % 2 ^ k) := by
  rw [wb_and hn (by have := wb_lt2 hk; omega), Nat.and_two_pow_sub_one_eq_mod]
theorem wb_a1 {n : Nat} (hn : n < 2 ^ 64) : lN n &&& 1 = lN (n % 2) := wb_mask (k := 1) hn (by decide)
theorem wb_bit {n k : Nat} (hn : n < 2 ^ 64) (hk : k < 64) : ((lN n).toUInt64 >>> ((nI k).toInt64.toUInt64 &&& Int64.toUInt64 63)).toInt64 &&& 1 = lN (n / 2 ^ k % 2) := by
  rw [wb_shr hn hk, wb_a1 (Nat.lt_of_le_of_lt (Nat.div_le_self _ _) hn)]
theorem wb_xor {q k : Nat} (hk : k < 63) (h : 2 ^ k ≤ q) (h2 : q < 2 ^ (k + 1)) : lN q ^^^ lN (2 ^ k) = lN (q - 2 ^ k) := by
  obtain ⟨r, rfl⟩ : ∃ r, q = 2 ^ k + r := ⟨q - 2 ^ k, by omega⟩
  have hr : r < 2 ^ k := by rw [Nat.pow_succ] at h2; omega
  have hx : (2 ^ k + r) ^^^ 2 ^ k = r := by
    apply Nat.eq_of_testBit_eq
    intro i
    rw [Nat.testBit_xor, Nat.testBit_two_pow]
    rcases Nat.lt_trichotomy i k with h | h | h
    · rw [Nat.testBit_two_pow_add_gt h]
      simp [show ¬ k = i by omega]
    · subst h
      rw [Nat.testBit_two_pow_add_eq]
      simp
    · have a1 : 2 ^ (k + 1) ≤ 2 ^ i := Nat.pow_le_pow_right (by decide) h
      rw [Nat.testBit_lt_two_pow (show 2 ^ k + r < 2 ^ i by omega), Nat.testBit_lt_two_pow (show r < 2 ^ i by omega)]
      simp [show ¬ k = i by omega]
  have b1 := wb_lt2 (show k + 1 < 64 by omega)
  have b2 := wb_lt2 (show k < 64 by omega)
  apply wb_inj
  rw [Int64.toBitVec_xor, wb_tb, wb_tb, wb_tb]
  apply BitVec.eq_of_toNat_eq
  rw [BitVec.toNat_xor, BitVec.toNat_ofNat, BitVec.toNat_ofNat, BitVec.toNat_ofNat, Nat.mod_eq_of_lt (by omega : 2 ^ k + r < 2 ^ 64), Nat.mod_eq_of_lt b2, hx, Nat.add_sub_cancel_left, Nat.mod_eq_of_lt (by omega)]
/-! ===== lN: masks, 'or' of parts that don't overlap is a sum ===== -/
theorem u_tn {n : Nat} (h : n < 2 ^ 64) : (UInt64.ofNat n).toNat = n := Nat.mod_eq_of_lt h
theorem g_and {a b c : Nat} (ha : a < 2 ^ 64) (hb : b < 2 ^ 64) (hc : a &&& b = c) : lN a &&& lN b = lN c := by
  subst hc
  have h : UInt64.ofNat a &&& UInt64.ofNat b = UInt64.ofNat (a &&& b) := UInt64.toNat_inj.mp (by rw [UInt64.toNat_and, u_tn ha, u_tn hb, u_tn (Nat.and_lt_two_pow a hb)])
  have h2 := congrArg UInt64.toInt64 h
  exact h2
theorem g_and1 {a : Nat} (ha : a < 2 ^ 64) : lN a &&& 1 = lN (a % 2) := g_and (b := 1) ha (by decide) (Nat.and_two_pow_sub_one_eq_mod a 1)
theorem g_mask {a s p : Nat} (hp : 2 ^ s = p) (hs : s < 64) (ha : a < 2 ^ 64) : lN a &&& lN (p - 1) = lN (a % p) := by
  subst hp
  have := Nat.pow_lt_pow_right (show 1 < 2 by decide) hs
  exact g_and ha (by omega) (Nat.and_two_pow_sub_one_eq_mod a s)
theorem g_or {k p a b : Nat} (hp : 2 ^ k = p) (ha : a < p) (h : b * p + a < 2 ^ 64) : lN (b * p) ||| lN a = lN (b * p + a) := by
  subst hp
  have h1 : b * 2 ^ k ||| a = b * 2 ^ k + a := by rw [← Nat.shiftLeft_eq, Nat.shiftLeft_add_eq_or_of_lt ha]
  have h3 : UInt64.ofNat (b * 2 ^ k) ||| UInt64.ofNat a = UInt64.ofNat (b * 2 ^ k + a) := UInt64.toNat_inj.mp (by rw [UInt64.toNat_or, u_tn (by omega), u_tn (by omega), u_tn h, h1])
  have h2 := congrArg UInt64.toInt64 h3
  exact h2
theorem g_or' {k p a b : Nat} (hp : 2 ^ k = p) (ha : a < p) (h : a + b * p < 2 ^ 64) : lN a ||| lN (b * p) = lN (a + b * p) := by
  rw [Int64.or_comm, g_or hp ha (by omega), Nat.add_comm]
theorem g_ushr {a k p : Nat} {y : UInt64} (hy : y = UInt64.ofNat k) (hk : k < 64) (hp : 2 ^ k = p) (ha : a < 2 ^ 64) : ((lN a).toUInt64 >>> y).toInt64 = lN (a / p) := by
  subst hy hp
  have h : UInt64.ofNat a >>> UInt64.ofNat k = UInt64.ofNat (a / 2 ^ k) := UInt64.toNat_inj.mp (by rw [UInt64.toNat_shiftRight, u_tn ha, u_tn (by omega), u_tn (Nat.lt_of_le_of_lt (Nat.div_le_self _ _) ha), Nat.mod_eq_of_lt hk, Nat.shiftRight_eq_div_pow])
  have h2 := congrArg UInt64.toInt64 h
  exact h2
theorem g_shl {a k p : Nat} {y : Int64} (hy : y.toBitVec.smod 64 = BitVec.ofNat 64 k) (hk : k < 64) (hp : 2 ^ k = p) (ha : a < 2 ^ 64) : lN a <<< y = lN (a * p) := by
  subst hp
  apply Int64.toBitVec_inj.mp
  rw [Int64.toBitVec_shiftLeft, hy]
  apply BitVec.eq_of_toNat_eq
  have hb : (lN a).toBitVec.toNat = a := Nat.mod_eq_of_lt ha
  have hk' : (BitVec.ofNat 64 k).toNat = k := Nat.mod_eq_of_lt (by omega)
  have h : ((lN a).toBitVec <<< BitVec.ofNat 64 k).toNat = (a * 2 ^ k) % 2 ^ 64 := by simp only [BitVec.shiftLeft_eq', BitVec.toNat_shiftLeft, hb, hk', Nat.shiftLeft_eq]
  exact h
/-! ===== lN to 2^62 under >> and >>> ===== -/
theorem pf_lI {a : Nat} (h : a < 2 ^ 63) : (lN a).toInt = (a : Int) := lg_ofNat_toInt h
theorem pf_shr {a d : Nat} {D : Int64} (hD : (D.toBitVec.smod 64).toNat = d) (h : a < 2 ^ 62) : lN a >>> D = lN (a / 2 ^ d) := by
  have hd : a / 2 ^ d ≤ a := Nat.div_le_self _ _
  apply Int64.toInt_inj.mp
  have e : (lN a >>> D).toInt = (lN a).toInt >>> d := by
    rw [← hD]
    exact BitVec.toInt_sshiftRight ..
  rw [e, Int.shiftRight_eq_div_pow, pf_lI (by omega), pf_lI (by omega)]
  rfl
theorem pf_ushr {a d : Nat} {D : UInt64} (hD : D.toNat % 64 = d) (h : a < 2 ^ 62) : ((lN a).toUInt64 >>> D).toInt64 = lN (a / 2 ^ d) := by
  have hd : a / 2 ^ d ≤ a := Nat.div_le_self _ _
  have e : (lN a).toUInt64 >>> D = UInt64.ofNat (a / 2 ^ d) := UInt64.toNat_inj.mp (by
    rw [UInt64.toNat_shiftRight, hD, Nat.shiftRight_eq_div_pow, UInt64.toNat_ofNat']
    show (UInt64.ofNat a).toNat / 2 ^ d = _
    rw [UInt64.toNat_ofNat', Nat.mod_eq_of_lt (by omega), Nat.mod_eq_of_lt (by omega)])
  rw [e]
  rfl
theorem pf_andw (x : Int64) : ∃ m, m < 2 ^ 32 ∧ x &&& 4294967295 = lN m := ⟨x.toBitVec.toNat % 2 ^ 32, Nat.mod_lt _ (by decide), Int64.toBitVec_inj.mp (BitVec.eq_of_toNat_eq (by
  show (x.toBitVec &&& 4294967295#64).toNat = (BitVec.ofNat 64 (x.toBitVec.toNat % 2 ^ 32)).toNat
  rw [BitVec.toNat_and, show (4294967295#64).toNat = 2 ^ 32 - 1 from by decide, Nat.and_two_pow_sub_one_eq_mod, BitVec.toNat_ofNat]
  omega))⟩
/-! ===== Int64 as an unsigned number: uN x ===== -/
def uN (x : Int64) : Nat := x.toUInt64.toNat
theorem uN_lt (x : Int64) : uN x < 18446744073709551616 := x.toUInt64.toNat_lt
theorem uN_inj {x y : Int64} (h : uN x = uN y) : x = y := congrArg UInt64.toInt64 (UInt64.toNat_inj.mp h)
theorem uN_add (x y : Int64) : uN (x + y) = (uN x + uN y) % 18446744073709551616 := by
  show (x.toUInt64 + y.toUInt64).toNat = _
  exact UInt64.toNat_add _ _
theorem uN_mul (x y : Int64) : uN (x * y) = (uN x * uN y) % 18446744073709551616 := by
  show (x.toUInt64 * y.toUInt64).toNat = _
  exact UInt64.toNat_mul _ _
theorem uN_shl (x : Int64) : uN (x <<< ((1 : Int32).toInt64 &&& 63)) = (2 * uN x) % 18446744073709551616 := by
  have h : (((1 : Int32).toInt64 &&& 63).toBitVec.smod 64).toNat = 1 := by decide
  show (x.toBitVec <<< (((1 : Int32).toInt64 &&& 63).toBitVec.smod 64).toNat).toNat = _
  rw [h, BitVec.toNat_shiftLeft, Nat.shiftLeft_eq, Nat.mul_comm]
  rfl
theorem uN_shr (x : Int64) (s : UInt64) : uN (x.toUInt64 >>> s).toInt64 = uN x / 2 ^ (s.toNat % 64) := by
  show (x.toUInt64 >>> s).toNat = _
  rw [UInt64.toNat_shiftRight, Nat.shiftRight_eq_div_pow]
  rfl
theorem uN_s32 (x : Int64) : uN (x.toUInt64 >>> ((32 : Int32).toInt64.toUInt64 &&& Int64.toUInt64 63)).toInt64 = uN x / 4294967296 := by
  have h : ((32 : Int32).toInt64.toUInt64 &&& Int64.toUInt64 63).toNat % 64 = 32 := by decide
  rw [uN_shr, h]
theorem uN_s63 (x : Int64) : uN (x.toUInt64 >>> ((63 : Int32).toInt64.toUInt64 &&& Int64.toUInt64 63)).toInt64 = uN x / 9223372036854775808 := by
  have h : ((63 : Int32).toInt64.toUInt64 &&& Int64.toUInt64 63).toNat % 64 = 63 := by decide
  rw [uN_shr, h]
theorem uN_lo (x : Int64) : uN (x &&& 4294967295) = uN x % 4294967296 := by
  show (x.toUInt64 &&& Int64.toUInt64 4294967295).toNat = _
  rw [UInt64.toNat_and]
  exact Nat.and_two_pow_sub_one_eq_mod _ 32
theorem uN_bit (x : Int64) : (x &&& 1) = 0 ↔ uN x % 2 = 0 := by
  have h : uN (x &&& 1) = uN x % 2 := by
    show (x.toUInt64 &&& Int64.toUInt64 1).toNat = _
    rw [UInt64.toNat_and]
    exact Nat.and_two_pow_sub_one_eq_mod _ 1
  rw [← h]
  exact ⟨fun z => by rw [z]; rfl, fun z => uN_inj (z.trans rfl)⟩
theorem uN_or {x y : Int64} (hy : uN y < 2) : uN ((x <<< ((1 : Int32).toInt64 &&& 63)) ||| y) = (2 * uN x) % 18446744073709551616 + uN y := by
  have h1 : uN ((x <<< ((1 : Int32).toInt64 &&& 63)) ||| y) = uN (x <<< ((1 : Int32).toInt64 &&& 63)) ||| uN y := UInt64.toNat_or _ _
  have h2 : (2 * uN x) % 18446744073709551616 = 2 ^ 1 * (uN x % 9223372036854775808) := by omega
  rw [h1, uN_shl, h2]
  exact (Nat.two_pow_add_eq_or_of_lt (i := 1) hy _).symm
theorem nat_xor {a : Nat} (h : a < 18446744073709551616) : a ^^^ 2 ^ 63 = (a + 9223372036854775808) % 18446744073709551616 := by
  have h1 : (a ^^^ 2 ^ 63) % 2 ^ 63 = a % 2 ^ 63 := by rw [Nat.xor_mod_two_pow, Nat.mod_self, Nat.xor_zero]
  have h2 : (a ^^^ 2 ^ 63) / 2 ^ 63 = (a / 2 ^ 63) ^^^ 1 := by rw [Nat.xor_div_two_pow, Nat.div_self (Nat.two_pow_pos 63)]
  have h3 : a / 2 ^ 63 = 0 ∨ a / 2 ^ 63 = 1 := by omega
  generalize a ^^^ 2 ^ 63 = t at h1 h2
  rcases h3 with h3 | h3
  · rw [h3] at h2
    have h2 : t / 2 ^ 63 = 1 := h2
    omega
  · rw [h3] at h2
    have h2 : t / 2 ^ 63 = 0 := h2
    omega
theorem uN_xor (x : Int64) : uN (x ^^^ (-9223372036854775808)) = (uN x + 9223372036854775808) % 18446744073709551616 := by
  rw [← nat_xor (uN_lt x)]
  exact UInt64.toNat_xor _ _
theorem uN_int (x : Int64) : x.toInt = if 2 * uN x < 18446744073709551616 then (uN x : Int) else (uN x : Int) - 18446744073709551616 := BitVec.toInt_eq_toNat_cond _
theorem uN_le (x y : Int64) : (x ^^^ (-9223372036854775808)) ≤ (y ^^^ (-9223372036854775808)) ↔ uN x ≤ uN y := by
  have hx := uN_lt x
  have hy := uN_lt y
  rw [Int64.le_iff_toInt_le, uN_int, uN_int, uN_xor, uN_xor]
  omega
theorem uN_sk (x : Int64) {k : Nat} (hk : k < 64) : uN (x.toUInt64 >>> ((nI k).toInt64.toUInt64 &&& Int64.toUInt64 63)).toInt64 = uN x / 2 ^ k := by
  have h : ((nI k).toInt64.toUInt64 &&& Int64.toUInt64 63).toNat % 64 = k := by
    rw [nI_l (by omega), UInt64.toNat_and]
    have e : (lN k).toUInt64.toNat = k % 2 ^ 64 := rfl
    have e2 : (Int64.toUInt64 63).toNat = 2 ^ 6 - 1 := by decide
    rw [e, e2, Nat.and_two_pow_sub_one_eq_mod]
    omega
  rw [uN_shr, h]
/-! ===== unsigned comparison by xor with the least ===== -/
theorem lN_bv (n : Nat) : (lN n).toBitVec = BitVec.ofNat 64 n := rfl
theorem lN_nat {n : Nat} (h : n < 2 ^ 64) : (lN n).toBitVec.toNat = n := by rw [lN_bv, BitVec.toNat_ofNat]; exact Nat.mod_eq_of_lt h
theorem lN_xor (a b : Nat) : lN a ^^^ lN b = lN (a ^^^ b) := by
  apply Int64.toBitVec_inj.mp; rw [Int64.toBitVec_xor, lN_bv, lN_bv, lN_bv]; apply BitVec.eq_of_getLsbD_eq; intro i hi; simp [BitVec.getLsbD_ofNat, Nat.testBit_xor, hi]
theorem lN_ti {m : Nat} (h : m < 2 ^ 64) : (lN m).toInt = if m < 2 ^ 63 then (m : Int) else (m : Int) - 2 ^ 64 := by
  have c := BitVec.toInt_eq_toNat_cond (lN m).toBitVec
  rw [lN_nat h] at c
  show (lN m).toBitVec.toInt = _
  rw [c]
  split <;> split <;> omega
theorem xor63 {x : Nat} (h : x < 2 ^ 63) : x ^^^ 2 ^ 63 = 2 ^ 63 + x := by
  apply Nat.eq_of_testBit_eq
  intro i
  rw [Nat.testBit_xor, Nat.testBit_two_pow]
  rcases Nat.lt_trichotomy i 63 with z | z | z
  · rw [Nat.testBit_two_pow_add_gt z, decide_eq_false (by omega)]; simp
  · subst z; rw [Nat.testBit_two_pow_add_eq]; simp
  · have hp : 2 ^ 64 ≤ 2 ^ i := Nat.pow_le_pow_right (by decide) z
    rw [Nat.testBit_lt_two_pow (show x < 2 ^ i by omega), Nat.testBit_lt_two_pow (show 2 ^ 63 + x < 2 ^ i by omega), decide_eq_false (by omega)]; rfl
theorem xorS {a : Nat} (h : a < 2 ^ 64) : (lN a ^^^ (-9223372036854775808)).toInt = (a : Int) - 2 ^ 63 := by
  rw [show (-9223372036854775808 : Int64) = lN (2 ^ 63) from by decide +kernel, lN_xor]
  rcases Nat.lt_or_ge a (2 ^ 63) with z | z
  · rw [xor63 z, lN_ti (by omega), if_neg (by omega)]; omega
  · obtain ⟨x, rfl⟩ : ∃ x, a = 2 ^ 63 + x := ⟨a - 2 ^ 63, by omega⟩
    rw [← xor63 (by omega), Nat.xor_assoc, Nat.xor_self, Nat.xor_zero, lN_ti (by omega), if_pos (by omega), xor63 (by omega)]; omega
theorem ultL {a b : Nat} (ha : a < 2 ^ 64) (hb : b < 2 ^ 64) : ((lN b ^^^ (-9223372036854775808)) ≤ (lN a ^^^ (-9223372036854775808))) ↔ b ≤ a := by
  rw [Int64.le_iff_toInt_le, xorS ha, xorS hb]; omega
/-! ===== Int64 masks of n low bits ===== -/
theorem cr_bits (W U M : BitVec 64) : ((W &&& U) &&& (U &&& (M ^^^ BitVec.allOnes 64))) = 0#64 ↔ (W &&& U) &&& M = W &&& U := by
  constructor
  · intro h
    apply BitVec.eq_of_getLsbD_eq
    intro i hi
    have e := congrArg (fun x => BitVec.getLsbD x i) h
    simp only [BitVec.getLsbD_and, BitVec.getLsbD_xor, BitVec.getLsbD_allOnes, BitVec.getLsbD_zero, hi, decide_true] at e ⊢
    revert e
    cases W.getLsbD i <;> cases U.getLsbD i <;> cases M.getLsbD i <;> decide
  · intro h
    apply BitVec.eq_of_getLsbD_eq
    intro i hi
    have e := congrArg (fun x => BitVec.getLsbD x i) h
    simp only [BitVec.getLsbD_and, BitVec.getLsbD_xor, BitVec.getLsbD_allOnes, BitVec.getLsbD_zero, hi, decide_true] at e ⊢
    revert e
    cases W.getLsbD i <;> cases U.getLsbD i <;> cases M.getLsbD i <;> decide
theorem cr_mask (w U m : Int64) (n : Nat) (hm : m.toBitVec.toNat = 2 ^ n - 1) : ((w &&& U) &&& (U &&& (m ^^^ (-1)))) = 0 ↔ (w &&& U).toBitVec.toNat < 2 ^ n := by
  have e0 : (-1 : Int64).toBitVec = BitVec.allOnes 64 := by decide
  have z0 : (0 : Int64).toBitVec = 0#64 := by decide
  rw [← Int64.toBitVec_inj, z0, Int64.toBitVec_and, Int64.toBitVec_and, Int64.toBitVec_and, Int64.toBitVec_xor, e0, cr_bits]
  generalize w.toBitVec &&& U.toBitVec = T
  rw [← BitVec.toNat_inj, BitVec.toNat_and, hm, Nat.and_two_pow_sub_one_eq_mod]
  constructor
  · intro h
    have t := Nat.mod_lt T.toNat (Nat.two_pow_pos n)
    rw [h] at t
    exact t
  · exact Nat.mod_eq_of_lt
theorem cr_shr (t : Int64) (x : UInt64) (n : Nat) (hx : x.toNat % 64 = n) : (t.toUInt64 >>> x).toInt64 = 0 ↔ t.toBitVec.toNat < 2 ^ n := by
  rw [← Int64.toBitVec_inj, ← BitVec.toNat_inj]
  show (t.toUInt64 >>> x).toNat = 0 ↔ t.toUInt64.toNat < 2 ^ n
  rw [UInt64.toNat_shiftRight, hx, Nat.shiftRight_eq_div_pow]
  constructor
  · intro h
    have d : t.toUInt64.toNat / 2 ^ n < 1 := by
      rw [h]
      decide
    have e := (Nat.div_lt_iff_lt_mul (Nat.two_pow_pos n)).mp d
    rw [Nat.one_mul] at e
    exact e
  · exact Nat.div_eq_of_lt
theorem cr_amt (s : Int64) : ∃ n, n < 64 ∧ s &&& 63 = lN n ∧ (s.toUInt64 &&& Int64.toUInt64 63).toNat % 64 = n := by
  have e : (s.toUInt64 &&& Int64.toUInt64 63).toNat = s.toUInt64.toNat % 2 ^ 6 := by
    rw [UInt64.toNat_and, show (Int64.toUInt64 63).toNat = 2 ^ 6 - 1 from by decide, Nat.and_two_pow_sub_one_eq_mod]
  refine ⟨s.toUInt64.toNat % 2 ^ 6, by omega, ?_, by omega⟩
  rw [← Int64.toBitVec_inj, ← BitVec.toNat_inj]
  show (s.toUInt64 &&& Int64.toUInt64 63).toNat = (BitVec.ofNat 64 (s.toUInt64.toNat % 2 ^ 6)).toNat
  rw [e, BitVec.toNat_ofNat]
  omega
end
section
/-! weights, walks of roads, least weights -/
def zg_U : Nat := 4218184000985890816
theorem zg_U_eq : zg_U = 14986 * 2 ^ 48 := by decide
theorem zg_U_63 : zg_U + zg_U < 2 ^ 63 := by decide
theorem zg_U_pos : 0 < zg_U := by decide
def zg_p (a b : Nat) : Nat := if a + b < zg_U then a + b else zg_U
def zg_w (ln : Nat → Nat) (r : Nat) : Nat := if ln r = 0 then zg_U else ln r * 2 ^ 48 + 2 ^ r
theorem zg_p_le (a b : Nat) : zg_p a b ≤ zg_U := by unfold zg_p; split <;> omega
theorem zg_p_le2 (a b : Nat) : zg_p a b ≤ a + b := by unfold zg_p; split <;> omega
theorem zg_p_lt {a b : Nat} (h : zg_p a b < zg_U) : zg_p a b = a + b := by
  unfold zg_p at h ⊢; split at h
  · rw [if_pos (by assumption)]
  · omega
theorem zg_p_of {a b : Nat} (h : a + b ≤ zg_U) : zg_p a b = a + b := by unfold zg_p; split <;> omega
theorem zg_p_ge {a b c : Nat} (h : c ≤ a + b) (hc : c ≤ zg_U) : c ≤ zg_p a b := by unfold zg_p; split <;> omega
theorem zg_p_mono {a b c d : Nat} (h : a ≤ c) (h2 : b ≤ d) : zg_p a b ≤ zg_p c d := by unfold zg_p; split <;> split <;> omega
theorem zg_p_pos {a b : Nat} (h : 0 < a) : 0 < zg_p a b := by
  have := zg_U_pos
  unfold zg_p; split <;> omega
theorem zg_p_U {a b : Nat} (h : zg_U ≤ a) : zg_p a b = zg_U := by unfold zg_p; split <;> omega
theorem zg_w_pos (ln : Nat → Nat) (r : Nat) : 0 < zg_w ln r := by
  unfold zg_w; split
  · exact zg_U_pos
  · have : 0 < 2 ^ r := Nat.pos_of_ne_zero (by simp)
    omega
theorem zg_w_le {ln : Nat → Nat} {r : Nat} (h : ln r ≤ 999) (hr : r < 48) : zg_w ln r ≤ zg_U := by
  unfold zg_w; split
  · exact Nat.le_refl _
  · have h1 : 2 ^ r < 2 ^ 48 := Nat.pow_lt_pow_right (by decide) hr
    have h2 := zg_U_eq
    omega
theorem zg_w_lt {ln : Nat → Nat} {r : Nat} (h : zg_w ln r < zg_U) : 0 < ln r ∧ zg_w ln r = ln r * 2 ^ 48 + 2 ^ r := by
  unfold zg_w at h ⊢; split at h
  · omega
  · rw [if_neg (by assumption)]; exact ⟨by omega, rfl⟩
theorem zg_w_of {ln : Nat → Nat} {r : Nat} (h : 0 < ln r) : zg_w ln r = ln r * 2 ^ 48 + 2 ^ r := if_neg (by omega)
/-- a walk of roads -/
def zg_wk (ok : Nat → Prop) (tl hd : Nat → Nat) : Nat → List Nat → Nat → Prop
  | s, [], t => s = t
  | s, r :: l, t => ok r ∧ tl r = s ∧ zg_wk ok tl hd (hd r) l t
def zg_sum (f : Nat → Nat) : List Nat → Nat
  | [] => 0
  | r :: l => f r + zg_sum f l
theorem zg_sum_app (f : Nat → Nat) (a b : List Nat) : zg_sum f (a ++ b) = zg_sum f a + zg_sum f b := by
  induction a with
  | nil => show zg_sum f b = 0 + zg_sum f b; omega
  | cons r l ih => show f r + zg_sum f (l ++ b) = f r + zg_sum f l + zg_sum f b; omega
section
variable {ok : Nat → Prop} {tl hd : Nat → Nat}
theorem zg_wk_app {s x t : Nat} {a b : List Nat} (h : zg_wk ok tl hd s a x) (h2 : zg_wk ok tl hd x b t) : zg_wk ok tl hd s (a ++ b) t := by
  induction a generalizing s with
  | nil => cases h; exact h2
  | cons r l ih => exact ⟨h.1, h.2.1, ih h.2.2⟩
theorem zg_wk_split {s t : Nat} {a b : List Nat} (h : zg_wk ok tl hd s (a ++ b) t) : ∃ x, zg_wk ok tl hd s a x ∧ zg_wk ok tl hd x b t := by
  induction a generalizing s with
  | nil => exact ⟨s, rfl, h⟩
  | cons r l ih =>
    obtain ⟨x, h1, h2⟩ := ih h.2.2
    exact ⟨x, ⟨h.1, h.2.1, h1⟩, h2⟩
theorem zg_wk_ok {s t : Nat} {a : List Nat} (h : zg_wk ok tl hd s a t) : ∀ r, r ∈ a → ok r := by
  induction a generalizing s with
  | nil => intro r hr; cases hr
  | cons q l ih =>
    intro r hr
    cases hr with
    | head => exact h.1
    | tail _ hr => exact ih h.2.2 r hr
theorem zg_wk_mono {ok' : Nat → Prop} {s t : Nat} {a : List Nat} (h : zg_wk ok tl hd s a t) (hk : ∀ r, r ∈ a → ok' r) : zg_wk ok' tl hd s a t := by
  induction a generalizing s with
  | nil => exact h
  | cons q l ih => exact ⟨hk q (List.mem_cons_self ..), h.2.1, ih h.2.2 (fun r hr => hk r (List.mem_cons_of_mem _ hr))⟩
theorem zg_wk_end {s t t' : Nat} {a : List Nat} (h : zg_wk ok tl hd s a t) (h' : zg_wk ok tl hd s a t') : t = t' := by
  induction a generalizing s with
  | nil => exact h.symm.trans h'
  | cons q l ih => exact ih h.2.2 h'.2.2
theorem zg_wk_snoc {s t : Nat} {a : List Nat} {r : Nat} (h : zg_wk ok tl hd s (a ++ [r]) t) : zg_wk ok tl hd s a (tl r) ∧ ok r ∧ hd r = t := by
  obtain ⟨x, h1, h2⟩ := zg_wk_split h
  obtain ⟨k1, k2, k3⟩ := h2
  cases k2
  exact ⟨h1, k1, k3⟩
theorem zg_wk_lt {n s t : Nat} {a : List Nat} (hn : ∀ r, ok r → hd r < n) (hs : s < n) (h : zg_wk ok tl hd s a t) : t < n := by
  induction a generalizing s with
  | nil => cases h; exact hs
  | cons q l ih => exact ih (hn q h.1) h.2.2
end
theorem zg_min {S : Nat → Prop} {x : Nat} (h : S x) : ∃ m, S m ∧ ∀ y, S y → m ≤ y := by
  induction x using Nat.strongRecOn with
  | ind x ih =>
    by_cases c : ∃ y, S y ∧ y < x
    · obtain ⟨y, hy, hl⟩ := c
      exact ih y hl hy
    · exact ⟨x, h, fun y hy => Nat.le_of_not_lt (fun hl => c ⟨y, hy, hl⟩)⟩
def zg_S (ok : Nat → Prop) (tl hd f : Nat → Nat) (s t c : Nat) : Prop := c = zg_U ∨ ∃ l, zg_wk ok tl hd s l t ∧ zg_sum f l = c
theorem zg_dex (ok : Nat → Prop) (tl hd f : Nat → Nat) (s t : Nat) : ∃ m, zg_S ok tl hd f s t m ∧ ∀ y, zg_S ok tl hd f s t y → m ≤ y := zg_min (Or.inl rfl)
noncomputable def zg_d (ok : Nat → Prop) (tl hd f : Nat → Nat) (s t : Nat) : Nat := Classical.choose (zg_dex ok tl hd f s t)
section
variable {ok : Nat → Prop} {tl hd f : Nat → Nat}
theorem zg_d_U (s t : Nat) : zg_d ok tl hd f s t ≤ zg_U := (Classical.choose_spec (zg_dex ok tl hd f s t)).2 _ (Or.inl rfl)
theorem zg_d_le {s t : Nat} {l : List Nat} (h : zg_wk ok tl hd s l t) : zg_d ok tl hd f s t ≤ zg_sum f l := (Classical.choose_spec (zg_dex ok tl hd f s t)).2 _ (Or.inr ⟨l, h, rfl⟩)
theorem zg_d_w {s t : Nat} (h : zg_d ok tl hd f s t < zg_U) : ∃ l, zg_wk ok tl hd s l t ∧ zg_sum f l = zg_d ok tl hd f s t := by
  rcases (Classical.choose_spec (zg_dex ok tl hd f s t)).1 with h1 | h1
  · have : zg_d ok tl hd f s t = zg_U := h1
    omega
  · exact h1
theorem zg_d_self (s : Nat) : zg_d ok tl hd f s s = 0 := Nat.le_zero.mp (zg_d_le (l := []) rfl)
theorem zg_d_tri (s x t : Nat) : zg_d ok tl hd f s t ≤ zg_d ok tl hd f s x + zg_d ok tl hd f x t := by
  by_cases h1 : zg_d ok tl hd f s x < zg_U
  · by_cases h2 : zg_d ok tl hd f x t < zg_U
    · obtain ⟨a, ha, ea⟩ := zg_d_w h1
      obtain ⟨b, hb, eb⟩ := zg_d_w h2
      have := zg_d_le (f := f) (zg_wk_app ha hb)
      rw [zg_sum_app] at this
      omega
    · have := zg_d_U (ok := ok) (tl := tl) (hd := hd) (f := f) s t
      omega
  · have := zg_d_U (ok := ok) (tl := tl) (hd := hd) (f := f) s t
    omega
end
/-! simple walks -/
def zg_nd (hd : Nat → Nat) (s : Nat) (l : List Nat) : List Nat := s :: l.map hd
theorem zg_suf {ok : Nat → Prop} {tl hd : Nat → Nat} {s x t : Nat} {a : List Nat} (h : zg_wk ok tl hd x a t) (hn : (zg_nd hd x a).Nodup) (hs : s ∈ zg_nd hd x a) : ∃ b, List.Sublist b a ∧ zg_wk ok tl hd s b t ∧ (zg_nd hd s b).Nodup := by
  induction a generalizing x with
  | nil =>
    cases hs with
    | head => exact ⟨[], List.Sublist.refl _, h, hn⟩
    | tail _ hs => cases hs
  | cons q l ih =>
    cases hs with
    | head => exact ⟨q :: l, List.Sublist.refl _, h, hn⟩
    | tail _ hs =>
      obtain ⟨b, h1, h2, h3⟩ := ih h.2.2 (List.nodup_cons.mp hn).2 hs
      exact ⟨b, List.Sublist.cons _ h1, h2, h3⟩
theorem zg_simp {ok : Nat → Prop} {tl hd : Nat → Nat} {s t : Nat} {a : List Nat} (h : zg_wk ok tl hd s a t) : ∃ b, List.Sublist b a ∧ zg_wk ok tl hd s b t ∧ (zg_nd hd s b).Nodup := by
  induction a generalizing s with
  | nil => exact ⟨[], List.Sublist.refl _, h, by unfold zg_nd; simp⟩
  | cons q l ih =>
    obtain ⟨b, h1, h2, h3⟩ := ih h.2.2
    by_cases c : s ∈ zg_nd hd (hd q) b
    · obtain ⟨b', k1, k2, k3⟩ := zg_suf h2 h3 c
      exact ⟨b', List.Sublist.cons _ (k1.trans h1), k2, k3⟩
    · exact ⟨q :: b, List.Sublist.cons_cons _ h1, ⟨h.1, h.2.1, h2⟩, List.nodup_cons.mpr ⟨c, h3⟩⟩
theorem zg_sum_sub {f : Nat → Nat} {a b : List Nat} (h : List.Sublist b a) : zg_sum f b ≤ zg_sum f a := by
  induction h with
  | slnil => exact Nat.le_refl _
  | cons x _ ih => show _ ≤ f x + _; omega
  | cons_cons x _ ih => show f x + _ ≤ f x + _; omega
theorem zg_sum_sub_eq {f : Nat → Nat} {a b : List Nat} (h : List.Sublist b a) (hf : ∀ r, r ∈ a → 0 < f r) (he : zg_sum f a ≤ zg_sum f b) : b = a := by
  induction h with
  | slnil => rfl
  | cons x hs ih =>
    have h1 := zg_sum_sub (f := f) hs
    have h2 := hf x (List.mem_cons_self ..)
    have h3 : f x + zg_sum f _ ≤ _ := he
    omega
  | cons_cons x hs ih =>
    have h3 : f x + zg_sum f _ ≤ f x + zg_sum f _ := he
    rw [ih (fun r hr => hf r (List.mem_cons_of_mem _ hr)) (by omega)]
theorem zg_nd_len {ok : Nat → Prop} {tl hd : Nat → Nat} {n s t : Nat} {a : List Nat} (hn : ∀ r, ok r → hd r < n) (hs : s < n) (h : zg_wk ok tl hd s a t) (hd' : (zg_nd hd s a).Nodup) : a.length + 1 ≤ n := by
  have h1 : zg_nd hd s a ⊆ List.range n := by
    intro x hx
    rw [List.mem_range]
    unfold zg_nd at hx
    rcases List.mem_cons.mp hx with rfl | hx
    · exact hs
    · obtain ⟨r, hr, rfl⟩ := List.mem_map.mp hx
      exact hn r (zg_wk_ok h r hr)
  have h2 := List.Nodup.length_le_of_subset hd' h1
  rw [List.length_range] at h2
  simpa [zg_nd] using h2
theorem zg_map_nodup {hd : Nat → Nat} {a : List Nat} (h : (a.map hd).Nodup) : a.Nodup := by
  induction a with
  | nil => exact List.nodup_nil
  | cons q l ih =>
    have h' := List.nodup_cons.mp h
    exact List.nodup_cons.mpr ⟨fun hq => h'.1 (List.mem_map_of_mem hq), ih h'.2⟩
theorem zg_sum_le {f : Nat → Nat} {c : Nat} {a : List Nat} (h : ∀ r, r ∈ a → f r ≤ c) : zg_sum f a ≤ a.length * c := by
  induction a with
  | nil => show 0 ≤ _; omega
  | cons q l ih =>
    have h1 := ih (fun r hr => h r (List.mem_cons_of_mem _ hr))
    have h2 := h q (List.mem_cons_self ..)
    show f q + zg_sum f l ≤ (l.length + 1) * c
    rw [Nat.add_mul]; omega
/-! sets of roads as numbers -/
def zg_bs (p : Nat → Bool) : Nat → Nat
  | 0 => 0
  | k + 1 => zg_bs p k + (if p k then 2 ^ k else 0)
theorem zg_bs_lt (p : Nat → Bool) (k : Nat) : zg_bs p k < 2 ^ k := by
  induction k with
  | zero => exact Nat.lt_of_lt_of_eq (Nat.zero_lt_one) rfl
  | succ k ih =>
    show zg_bs p k + (if p k then 2 ^ k else 0) < 2 ^ (k + 1)
    rw [Nat.pow_succ]
    split <;> omega
theorem zg_bs_cmp {p q : Nat → Bool} {r : Nat} (hp : p r = true) (hq : q r = false) : ∀ d, (∀ i, r < i → i < r + 1 + d → q i = true → p i = true) → zg_bs q (r + 1 + d) < zg_bs p (r + 1 + d) := by
  intro d
  induction d with
  | zero =>
    intro _
    show zg_bs q r + (if q r then 2 ^ r else 0) < zg_bs p r + (if p r then 2 ^ r else 0)
    rw [hp, hq]
    have := zg_bs_lt q r
    simp
    omega
  | succ d ih =>
    intro h
    have h1 := ih (fun i a b c => h i a (by omega) c)
    have h2 := h (r + 1 + d) (by omega) (by omega)
    show zg_bs q (r + 1 + d) + (if q (r + 1 + d) then 2 ^ (r + 1 + d) else 0) < zg_bs p (r + 1 + d) + (if p (r + 1 + d) then 2 ^ (r + 1 + d) else 0)
    cases hq' : q (r + 1 + d) with
    | false => simp; omega
    | true => rw [h2 hq']; simp; omega
theorem zg_bs_congr {p q : Nat → Bool} {k : Nat} (h : ∀ i, i < k → p i = q i) : zg_bs p k = zg_bs q k := by
  induction k with
  | zero => rfl
  | succ k ih =>
    show zg_bs p k + (if p k then 2 ^ k else 0) = zg_bs q k + (if q k then 2 ^ k else 0)
    rw [ih (fun i hi => h i (by omega)), h k (by omega)]
theorem zg_bs_ins {p : Nat → Bool} {r k : Nat} (hr : r < k) (hp : p r = false) : zg_bs (fun i => decide (i = r) || p i) k = 2 ^ r + zg_bs p k := by
  induction k with
  | zero => omega
  | succ k ih =>
    show zg_bs (fun i => decide (i = r) || p i) k + (if decide (k = r) || p k then 2 ^ k else 0) = 2 ^ r + (zg_bs p k + (if p k then 2 ^ k else 0))
    by_cases c : k = r
    · subst c
      rw [zg_bs_congr (q := p) (fun i hi => by simp; omega), hp]
      simp
      omega
    · rw [ih (by omega)]
      simp [c]
      omega
theorem zg_bits {k : Nat} {a : List Nat} (hn : a.Nodup) (hk : ∀ r, r ∈ a → r < k) : zg_sum (fun r => 2 ^ r) a = zg_bs (fun i => decide (i ∈ a)) k := by
  induction a with
  | nil =>
    show 0 = _
    have : ∀ k, zg_bs (fun i => decide (i ∈ ([] : List Nat))) k = 0 := by
      intro k
      induction k with
      | zero => rfl
      | succ k ih =>
        show zg_bs (fun i => decide (i ∈ ([] : List Nat))) k + (if decide (k ∈ ([] : List Nat)) then 2 ^ k else 0) = 0
        rw [ih]; simp
    exact (this k).symm
  | cons q l ih =>
    have h' := List.nodup_cons.mp hn
    show 2 ^ q + zg_sum (fun r => 2 ^ r) l = _
    rw [ih h'.2 (fun r hr => hk r (List.mem_cons_of_mem _ hr)), ← zg_bs_ins (hk q (List.mem_cons_self ..)) (by simp [h'.1])]
    exact zg_bs_congr (fun i _ => by simp [List.mem_cons])
theorem zg_sum_w {ln : Nat → Nat} {a : List Nat} (h : ∀ r, r ∈ a → 0 < ln r) : zg_sum (zg_w ln) a = zg_sum ln a * 2 ^ 48 + zg_sum (fun r => 2 ^ r) a := by
  induction a with
  | nil => simp [zg_sum]
  | cons q l ih =>
    show zg_w ln q + zg_sum (zg_w ln) l = (ln q + zg_sum ln l) * 2 ^ 48 + (2 ^ q + zg_sum (fun r => 2 ^ r) l)
    rw [ih (fun r hr => h r (List.mem_cons_of_mem _ hr)), zg_w_of (h q (List.mem_cons_self ..)), Nat.add_mul]
    omega
end
section
/-! the hierarchy: node paths, the invariant's parts, what it gives -/
def zg_pw (W : Nat → Nat) : Nat → List Nat → Nat
  | _, [] => 0
  | u, x :: l => W (u * 16 + x) + zg_pw W x l
def zg_pe : Nat → List Nat → Nat
  | u, [] => u
  | _, x :: l => zg_pe x l
def zg_Wit (n : Nat) (W : Nat → Nat) (P : Nat → Prop) (u v c : Nat) : Prop :=
  ∃ l, (∀ x, x ∈ l → x < n ∧ P x) ∧ zg_pe u l = v ∧ zg_pw W u l ≤ c
theorem zg_pe_app (u : Nat) (a b : List Nat) : zg_pe u (a ++ b) = zg_pe (zg_pe u a) b := by
  induction a generalizing u with
  | nil => rfl
  | cons x l ih => exact ih x
theorem zg_pw_app (W : Nat → Nat) (u : Nat) (a b : List Nat) : zg_pw W u (a ++ b) = zg_pw W u a + zg_pw W (zg_pe u a) b := by
  induction a generalizing u with
  | nil => show zg_pw W u b = 0 + zg_pw W u b; omega
  | cons x l ih =>
    show W (u * 16 + x) + zg_pw W x (l ++ b) = W (u * 16 + x) + zg_pw W x l + zg_pw W (zg_pe x l) b
    rw [ih]; omega
theorem zg_Wit_le {n : Nat} {W : Nat → Nat} {P : Nat → Prop} {u v c c' : Nat} (h : zg_Wit n W P u v c) (hc : c ≤ c') : zg_Wit n W P u v c' := by
  obtain ⟨l, h1, h2, h3⟩ := h
  exact ⟨l, h1, h2, by omega⟩
theorem zg_Wit_one {n : Nat} {W : Nat → Nat} {P : Nat → Prop} {u v c : Nat} (hv : v < n) (hP : P v) (hc : W (u * 16 + v) ≤ c) : zg_Wit n W P u v c := by
  refine ⟨[v], fun x hx => ?_, rfl, ?_⟩
  · rw [List.mem_singleton] at hx
    subst hx
    exact ⟨hv, hP⟩
  · show W (u * 16 + v) + 0 ≤ c
    omega
theorem zg_Wit_snoc {n : Nat} {W : Nat → Nat} {P : Nat → Prop} {u v x c c' : Nat} (h : zg_Wit n W P u v c) (hx : x < n) (hP : P x) (hc : c + W (v * 16 + x) ≤ c') : zg_Wit n W P u x c' := by
  obtain ⟨l, h1, h2, h3⟩ := h
  refine ⟨l ++ [x], fun y hy => ?_, ?_, ?_⟩
  · rcases List.mem_append.mp hy with hy | hy
    · exact h1 y hy
    · rw [List.mem_singleton] at hy
      subst hy
      exact ⟨hx, hP⟩
  · rw [zg_pe_app]; rfl
  · rw [zg_pw_app, h2]
    show _ + (W (v * 16 + x) + 0) ≤ c'
    omega
theorem zg_pw_mono {n : Nat} {W W' : Nat → Nat} (hW : ∀ u v, u < n → v < n → W' (u * 16 + v) ≤ W (u * 16 + v)) {u : Nat} {l : List Nat} (hu : u < n) (hl : ∀ x, x ∈ l → x < n) : zg_pw W' u l ≤ zg_pw W u l := by
  induction l generalizing u with
  | nil => exact Nat.le_refl _
  | cons x l ih =>
    have hx := hl x (List.mem_cons_self ..)
    have h1 := ih hx (fun y hy => hl y (List.mem_cons_of_mem _ hy))
    have h2 := hW u x hu hx
    show W' (u * 16 + x) + zg_pw W' x l ≤ W (u * 16 + x) + zg_pw W x l
    omega
theorem zg_Wit_mono {n : Nat} {W W' : Nat → Nat} {P P' : Nat → Prop} {u v c : Nat} (hu : u < n) (hW : ∀ u v, u < n → v < n → W' (u * 16 + v) ≤ W (u * 16 + v)) (hP : ∀ x, x < n → P x → P' x) (h : zg_Wit n W P u v c) : zg_Wit n W' P' u v c := by
  obtain ⟨l, h1, h2, h3⟩ := h
  exact ⟨l, fun x hx => ⟨(h1 x hx).1, hP x (h1 x hx).1 (h1 x hx).2⟩, h2, Nat.le_trans (zg_pw_mono hW hu (fun x hx => (h1 x hx).1)) h3⟩
theorem zg_Wit_app {n : Nat} {W : Nat → Nat} {P : Nat → Prop} {u v x a b c : Nat} (h : zg_Wit n W P u x a) (h' : zg_Wit n W P x v b) (hc : a + b ≤ c) : zg_Wit n W P u v c := by
  obtain ⟨l, h1, h2, h3⟩ := h
  obtain ⟨l', k1, k2, k3⟩ := h'
  refine ⟨l ++ l', fun y hy => ?_, ?_, ?_⟩
  · rcases List.mem_append.mp hy with hy | hy
    · exact h1 y hy
    · exact k1 y hy
  · rw [zg_pe_app, h2, k2]
  · rw [zg_pw_app, h2]; omega
theorem zg_Wit_nil {n : Nat} {W : Nat → Nat} {P : Nat → Prop} (u c : Nat) : zg_Wit n W P u u c := ⟨[], (fun x hx => absurd hx (by simp)), rfl, Nat.zero_le _⟩
/-- node m out of a path whose nodes rank m or above -/
theorem zg_red {n k : Nat} {rk W : Nat → Nat} (hinj : ∀ x y, x < n → y < n → rk x = rk y → x = y)
    (hD : ∀ m u v, m < n → u < n → v < n → rk m = k → k < rk u → k < rk v → u ≠ v → zg_Wit n W (fun x => k < rk x) u v (zg_p (W (u * 16 + m)) (W (m * 16 + v)))) :
    ∀ (N : Nat) (l : List Nat) (u : Nat), l.length ≤ N → u < n → k < rk u → (∀ x, x ∈ l → x < n ∧ k ≤ rk x) → k < rk (zg_pe u l) →
      zg_Wit n W (fun x => k < rk x) u (zg_pe u l) (zg_pw W u l) := by
  intro N
  induction N with
  | zero =>
    intro l u hl hu hk _ _
    cases l with
    | nil => exact zg_Wit_nil _ _
    | cons x l => simp at hl
  | succ N ih =>
    intro l u hl hu hk ha he
    cases l with
    | nil => exact zg_Wit_nil _ _
    | cons x l1 =>
      have hx := ha x (List.mem_cons_self ..)
      have hl1 : l1.length ≤ N := by simp at hl; exact hl
      have ha1 : ∀ y, y ∈ l1 → y < n ∧ k ≤ rk y := fun y hy => ha y (List.mem_cons_of_mem _ hy)
      by_cases hxk : k < rk x
      · exact zg_Wit_app (zg_Wit_one (c := W (u * 16 + x)) hx.1 hxk (Nat.le_refl _)) (ih l1 x hl1 hx.1 hxk ha1 he) (Nat.le_refl _)
      · have hxe : rk x = k := by omega
        cases l1 with
        | nil => exact absurd he (by show ¬ k < rk x; omega)
        | cons y l2 =>
          have hy := ha1 y (List.mem_cons_self ..)
          have hl2 : l2.length + 1 ≤ N := by simp at hl1; exact hl1
          have ha2 : ∀ z, z ∈ l2 → z < n ∧ k ≤ rk z := fun z hz => ha1 z (List.mem_cons_of_mem _ hz)
          by_cases hyk : k < rk y
          · by_cases huy : u = y
            · subst huy
              refine zg_Wit_le (ih l2 u (by omega) hu hk ha2 he) ?_
              show zg_pw W u l2 ≤ W (u * 16 + x) + (W (x * 16 + u) + zg_pw W u l2)
              omega
            · have h1 := hD x u y hx.1 hu hy.1 hxe hk hyk huy
              refine zg_Wit_app h1 (ih l2 y (by omega) hy.1 hyk ha2 he) ?_
              have h2 := zg_p_le2 (W (u * 16 + x)) (W (x * 16 + y))
              show _ ≤ W (u * 16 + x) + (W (x * 16 + y) + zg_pw W y l2)
              omega
          · have hye : y = x := hinj y x hy.1 hx.1 (by omega)
            subst hye
            refine zg_Wit_le (ih (y :: l2) u (by simpa using hl2) hu hk (fun z hz => ha1 z hz) he) ?_
            show W (u * 16 + y) + zg_pw W y l2 ≤ W (u * 16 + y) + (W (y * 16 + y) + zg_pw W y l2)
            omega
section
variable {n : Nat} {rk W : Nat → Nat} {D : Nat → Nat → Nat}
theorem zg_all (hinj : ∀ x y, x < n → y < n → rk x = rk y → x = y)
    (hD : ∀ m u v, m < n → u < n → v < n → rk m < rk u → rk m < rk v → u ≠ v → zg_Wit n W (fun x => rk m < rk x) u v (zg_p (W (u * 16 + m)) (W (m * 16 + v))))
    (h0 : ∀ u v, u < n → v < n → D u v < zg_U → zg_Wit n W (fun _ => True) u v (D u v)) :
    ∀ k u v, u < n → v < n → k ≤ rk u → k ≤ rk v → D u v < zg_U → zg_Wit n W (fun x => k ≤ rk x) u v (D u v) := by
  intro k
  induction k with
  | zero =>
    intro u v hu hv _ _ h
    exact zg_Wit_mono hu (fun _ _ _ _ => Nat.le_refl _) (fun _ _ _ => Nat.zero_le _) (h0 u v hu hv h)
  | succ k ih =>
    intro u v hu hv h1 h2 h
    obtain ⟨l, k1, k2, k3⟩ := ih u v hu hv (by omega) (by omega) h
    have hr := zg_red (k := k) hinj (fun m u v hm hu hv hmk hku hkv huv => by
      have := hD m u v hm hu hv (by omega) (by omega) huv
      rw [hmk] at this; exact this) l.length l u (Nat.le_refl _) hu h1 k1 (by rw [k2]; exact h2)
    rw [k2] at hr
    exact zg_Wit_le hr k3
theorem zg_sound (hs : ∀ u, D u u = 0) (ht : ∀ a b c, D a c ≤ D a b + D b c) (hW : ∀ u v, u < n → v < n → D u v ≤ W (u * 16 + v)) {u : Nat} {l : List Nat} (hu : u < n) (hl : ∀ x, x ∈ l → x < n) : D u (zg_pe u l) ≤ zg_pw W u l := by
  induction l generalizing u with
  | nil => rw [show zg_pe u [] = u from rfl, hs]; exact Nat.zero_le _
  | cons x l ih =>
    have hx := hl x (List.mem_cons_self ..)
    have h1 := ih hx (fun y hy => hl y (List.mem_cons_of_mem _ hy))
    have h2 := hW u x hu hx
    have h3 := ht u x (zg_pe x l)
    show D u (zg_pe x l) ≤ W (u * 16 + x) + zg_pw W x l
    omega
/-- the lower end of a least walk has an arc up on it -/
theorem zg_up (hs : ∀ u, D u u = 0) (ht : ∀ a b c, D a c ≤ D a b + D b c) (hW : ∀ u v, u < n → v < n → D u v ≤ W (u * 16 + v)) (hinj : ∀ x y, x < n → y < n → rk x = rk y → x = y)
    {s : Nat} (hsn : s < n) : ∀ l : List Nat, (∀ x, x ∈ l → x < n ∧ rk s ≤ rk x) → zg_pe s l ≠ s →
    ∃ b, b < n ∧ rk s < rk b ∧ W (s * 16 + b) + D b (zg_pe s l) ≤ zg_pw W s l := by
  intro l
  induction l with
  | nil => intro _ h; exact absurd rfl h
  | cons x l ih =>
    intro ha he
    have hx := ha x (List.mem_cons_self ..)
    have ha1 : ∀ y, y ∈ l → y < n ∧ rk s ≤ rk y := fun y hy => ha y (List.mem_cons_of_mem _ hy)
    by_cases c : x = s
    · subst c
      obtain ⟨b, h1, h2, h3⟩ := ih ha1 he
      refine ⟨b, h1, h2, ?_⟩
      show W (x * 16 + b) + D b (zg_pe x l) ≤ W (x * 16 + x) + zg_pw W x l
      omega
    · refine ⟨x, hx.1, ?_, ?_⟩
      · have : rk s ≠ rk x := fun e => c (hinj s x hsn hx.1 e).symm
        omega
      · have := zg_sound hs ht hW hx.1 (fun y hy => (ha1 y hy).1)
        show W (s * 16 + x) + D x (zg_pe x l) ≤ W (s * 16 + x) + zg_pw W x l
        omega
theorem zg_dn (hs : ∀ u, D u u = 0) (ht : ∀ a b c, D a c ≤ D a b + D b c) (hW : ∀ u v, u < n → v < n → D u v ≤ W (u * 16 + v)) (hinj : ∀ x y, x < n → y < n → rk x = rk y → x = y)
    {t : Nat} (htn : t < n) : ∀ (l : List Nat) (u : Nat), u < n → rk t ≤ rk u → (∀ x, x ∈ l → x < n ∧ rk t ≤ rk x) → zg_pe u l = t → u ≠ t →
    ∃ b, b < n ∧ rk t < rk b ∧ D u b + W (b * 16 + t) ≤ zg_pw W u l := by
  intro l
  induction l with
  | nil => intro u _ _ _ h h'; exact absurd h h'
  | cons x l ih =>
    intro u hu hru ha he hne
    have hx := ha x (List.mem_cons_self ..)
    have ha1 : ∀ y, y ∈ l → y < n ∧ rk t ≤ rk y := fun y hy => ha y (List.mem_cons_of_mem _ hy)
    by_cases c : x = t
    · subst c
      refine ⟨u, hu, ?_, ?_⟩
      · have : rk x ≠ rk u := fun e => hne (hinj x u htn hu e).symm
        omega
      · rw [hs]
        show 0 + W (u * 16 + x) ≤ W (u * 16 + x) + zg_pw W x l
        omega
    · obtain ⟨b, h1, h2, h3⟩ := ih x hx.1 hx.2 ha1 he c
      refine ⟨b, h1, h2, ?_⟩
      have h4 := ht u x b
      have h5 := hW u x hu hx.1
      show D u b + W (b * 16 + t) ≤ W (u * 16 + x) + zg_pw W x l
      omega
/-- both ways in one -/
theorem zg_ud (hs : ∀ u, D u u = 0) (ht : ∀ a b c, D a c ≤ D a b + D b c) (hW : ∀ u v, u < n → v < n → D u v ≤ W (u * 16 + v)) (hinj : ∀ x y, x < n → y < n → rk x = rk y → x = y)
    (hD : ∀ m u v, m < n → u < n → v < n → rk m < rk u → rk m < rk v → u ≠ v → zg_Wit n W (fun x => rk m < rk x) u v (zg_p (W (u * 16 + m)) (W (m * 16 + v))))
    (h0 : ∀ u v, u < n → v < n → D u v < zg_U → zg_Wit n W (fun _ => True) u v (D u v))
    {s t : Nat} (hsn : s < n) (htn : t < n) (hst : s ≠ t) (hd : D s t < zg_U) :
    (∃ b, b < n ∧ rk s < rk b ∧ W (s * 16 + b) + D b t = D s t) ∨ (∃ b, b < n ∧ rk t < rk b ∧ D s b + W (b * 16 + t) = D s t) := by
  have hne : rk s ≠ rk t := fun e => hst (hinj s t hsn htn e)
  by_cases c : rk s < rk t
  · left
    obtain ⟨l, k1, k2, k3⟩ := zg_all hinj hD h0 (rk s) s t hsn htn (Nat.le_refl _) (by omega) hd
    obtain ⟨b, h1, h2, h3⟩ := zg_up hs ht hW hinj hsn l k1 (by rw [k2]; exact fun e => hst e.symm)
    rw [k2] at h3
    have h4 := ht s b t
    have h5 := hW s b hsn h1
    exact ⟨b, h1, h2, by omega⟩
  · right
    obtain ⟨l, k1, k2, k3⟩ := zg_all hinj hD h0 (rk t) s t hsn htn (by omega) (Nat.le_refl _) hd
    obtain ⟨b, h1, h2, h3⟩ := zg_dn hs ht hW hinj htn l s hsn (by omega) k1 k2 hst
    have h4 := ht s b t
    have h5 := hW b t h1 htn
    exact ⟨b, h1, h2, by omega⟩
end
/-! the invariant's parts -/
def zg_K (kp : Nat → Int32) (u m v : Nat) : Prop := ¬ (kp (u * 16 + v) &&& ((1 : Int32) <<< (nI m &&& 31))) = 0
def zg_A (R : Nat) (tl hd ln W : Nat → Nat) : Prop := ∀ r, r < R → W (tl r * 16 + hd r) ≤ zg_w ln r
def zg_B1 (n : Nat) (rk : Nat → Nat) (kp : Nat → Int32) : Prop := ∀ u m v, u < n → m < n → v < n → zg_K kp u m v → rk m < rk u ∧ rk m < rk v ∧ u ≠ v
def zg_B2 (n : Nat) (rk W : Nat → Nat) (kp : Nat → Int32) (q : Nat) : Prop := ∀ u m v, u < n → m < n → v < n → zg_K kp u m v → rk m < q → W (u * 16 + v) ≤ zg_p (W (u * 16 + m)) (W (m * 16 + v))
def zg_C1 (n R : Nat) (tl hd ln W : Nat → Nat) (va kp : Nat → Int32) (u v : Nat) : Prop := W (u * 16 + v) < zg_U →
  (∃ r, r < R ∧ va (u * 16 + v) = nI r ∧ tl r = u ∧ hd r = v ∧ W (u * 16 + v) = zg_w ln r) ∨
  (∃ m, m < n ∧ va (u * 16 + v) = -1 - nI m ∧ zg_K kp u m v ∧ zg_p (W (u * 16 + m)) (W (m * 16 + v)) ≤ W (u * 16 + v))
def zg_C (n R : Nat) (tl hd ln W : Nat → Nat) (va kp : Nat → Int32) : Prop := ∀ u v, u < n → v < n → zg_C1 n R tl hd ln W va kp u v
def zg_D (n : Nat) (rk W : Nat → Nat) (q : Nat) : Prop := ∀ m u v, m < n → u < n → v < n → rk m < q → rk m < rk u → rk m < rk v → u ≠ v → zg_Wit n W (fun x => rk m < rk x) u v (zg_p (W (u * 16 + m)) (W (m * 16 + v)))
def zg_P (n : Nat) (W : Nat → Nat) : Prop := ∀ u v, u < n → v < n → 0 < W (u * 16 + v)
/-- expansion of an arc into roads -/
def zg_Exp (n R : Nat) (tl hd : Nat → Nat) (va : Nat → Int32) : Nat → Nat → Nat → List Nat → Prop
  | 0, _, _, _ => False
  | k + 1, u, v, l => (∃ r, r < R ∧ va (u * 16 + v) = nI r ∧ tl r = u ∧ hd r = v ∧ l = [r]) ∨
    (∃ m l1 l2, m < n ∧ va (u * 16 + v) = -1 - nI m ∧ zg_Exp n R tl hd va k u m l1 ∧ zg_Exp n R tl hd va k m v l2 ∧ l = l1 ++ l2)
theorem zg_Exp_len {n R : Nat} {tl hd : Nat → Nat} {va : Nat → Int32} : ∀ {k u v : Nat} {l : List Nat}, zg_Exp n R tl hd va k u v l → 1 ≤ l.length := by
  intro k
  induction k with
  | zero => intro u v l h; exact absurd h (by simp [zg_Exp])
  | succ k ih =>
    intro u v l h
    rcases h with ⟨r, _, _, _, _, rfl⟩ | ⟨m, l1, l2, _, _, h1, _, rfl⟩
    · simp
    · have := ih h1
      simp; omega
def zg_ok (R : Nat) (ln : Nat → Nat) (r : Nat) : Prop := r < R ∧ 0 < ln r
section
variable {n R : Nat} {tl hd ln rk W : Nat → Nat} {va kp : Nat → Int32}
theorem zg_expand {q : Nat} (hB1 : zg_B1 n rk kp) (hB2 : zg_B2 n rk W kp q) (hC : zg_C n R tl hd ln W va kp) (hq : ∀ x, x < n → rk x < q) :
    ∀ k u v, u < n → v < n → (rk u < k ∨ rk v < k) → W (u * 16 + v) < zg_U →
      ∃ l, zg_Exp n R tl hd va k u v l ∧ zg_wk (zg_ok R ln) tl hd u l v ∧ zg_sum (zg_w ln) l = W (u * 16 + v) := by
  intro k
  induction k with
  | zero => intro u v _ _ h; omega
  | succ k ih =>
    intro u v hu hv hr hw
    rcases hC u v hu hv hw with ⟨r, h1, h2, h3, h4, h5⟩ | ⟨m, h1, h2, h3, h4⟩
    · refine ⟨[r], Or.inl ⟨r, h1, h2, h3, h4, rfl⟩, ⟨⟨h1, (zg_w_lt (by omega)).1⟩, h3, h4⟩, ?_⟩
      show zg_w ln r + 0 = _
      omega
    · have h5 := hB1 u m v hu h1 hv h3
      have h6 := hB2 u m v hu h1 hv h3 (hq m h1)
      have h7 := zg_p_lt (a := W (u * 16 + m)) (b := W (m * 16 + v)) (by omega)
      obtain ⟨l1, a1, a2, a3⟩ := ih u m hu h1 (by omega) (by omega)
      obtain ⟨l2, b1, b2, b3⟩ := ih m v h1 hv (by omega) (by omega)
      refine ⟨l1 ++ l2, Or.inr ⟨m, l1, l2, h1, h2, a1, b1, rfl⟩, zg_wk_app a2 b2, ?_⟩
      rw [zg_sum_app]; omega
/-- distances by weight -/
noncomputable def zg_dw (R : Nat) (tl hd ln : Nat → Nat) (s t : Nat) : Nat := zg_d (zg_ok R ln) tl hd (zg_w ln) s t
theorem zg_dW {q : Nat} (hB1 : zg_B1 n rk kp) (hB2 : zg_B2 n rk W kp q) (hC : zg_C n R tl hd ln W va kp) (hq : ∀ x, x < n → rk x < q) (u v : Nat) (hu : u < n) (hv : v < n) : zg_dw R tl hd ln u v ≤ W (u * 16 + v) := by
  by_cases c : W (u * 16 + v) < zg_U
  · obtain ⟨l, _, h2, h3⟩ := zg_expand hB1 hB2 hC hq q u v hu hv (Or.inl (hq u hu)) c
    rw [← h3]
    exact zg_d_le h2
  · have : zg_dw R tl hd ln u v ≤ zg_U := zg_d_U u v
    omega
theorem zg_wkW (hA : zg_A R tl hd ln W) (hn : ∀ r, r < R → tl r < n ∧ hd r < n) : ∀ (l : List Nat) (s t : Nat), zg_wk (zg_ok R ln) tl hd s l t → zg_Wit n W (fun _ => True) s t (zg_sum (zg_w ln) l) := by
  intro l
  induction l with
  | nil => intro s t h; cases h; exact zg_Wit_nil _ _
  | cons r l ih =>
    intro s t h
    obtain ⟨h1, h2, h3⟩ := h
    have h4 := hA r h1.1
    rw [h2] at h4
    refine zg_Wit_app (zg_Wit_one (c := zg_w ln r) (hn r h1.1).2 trivial h4) (ih (hd r) t h3) ?_
    exact Nat.le_refl _
theorem zg_h0 (hA : zg_A R tl hd ln W) (hn : ∀ r, r < R → tl r < n ∧ hd r < n) (u v : Nat) (h : zg_dw R tl hd ln u v < zg_U) : zg_Wit n W (fun _ => True) u v (zg_dw R tl hd ln u v) := by
  obtain ⟨l, h1, h2⟩ := zg_d_w (ok := zg_ok R ln) (tl := tl) (hd := hd) (f := zg_w ln) (s := u) (t := v) h
  have := zg_wkW hA hn l u v h1
  rw [h2] at this
  exact this
end
end
section
/-! what bypass does, arc by arc, and that it keeps the invariant -/
theorem zg_bt1 : ∀ j, j < 32 → bt 1 j = decide (j = 0) := by decide
theorem zg_one (y : Int32) {m : Nat} (hm : m < 32) : y &&& ((1 : Int32) <<< (nI m &&& 31)) = 0 ↔ bt y m = false := by
  constructor
  · intro h
    have h1 : bt (y &&& ((1 : Int32) <<< (nI m &&& 31))) m = bt 0 m := by rw [h]
    rw [b_and, b_shl m hm 1 hm, b_0] at h1
    simpa [zg_bt1 0 (by omega)] using h1
  · intro h
    refine b_ext (fun i hi => ?_)
    rw [b_and, b_shl m hm 1 hi, b_0, zg_bt1 (i - m) (by omega)]
    by_cases c : i = m
    · subst c; rw [h]; rfl
    · by_cases c2 : m ≤ i
      · rw [show decide (i - m = 0) = false from decide_eq_false (by omega)]; simp
      · rw [show decide (m ≤ i) = false from decide_eq_false c2]; simp
theorem zg_K_bt {kp : Nat → Int32} {u m v : Nat} (hm : m < 32) : zg_K kp u m v ↔ bt (kp (u * 16 + v)) m = true := by
  unfold zg_K
  rw [zg_one _ hm]
  cases bt (kp (u * 16 + v)) m <;> simp
theorem zg_or_bt (y : Int32) {m i : Nat} (hm : m < 32) (hi : i < 32) : bt (y ||| ((1 : Int32) <<< (nI m &&& 31))) i = (bt y i || decide (i = m)) := by
  rw [b_or, b_shl m hm 1 hi, zg_bt1 (i - m) (by omega)]
  by_cases c : i = m
  · subst c; simp
  · by_cases c2 : m ≤ i
    · rw [show decide (i - m = 0) = false from decide_eq_false (by omega), decide_eq_false c]; simp
    · rw [show decide (m ≤ i) = false from decide_eq_false c2, decide_eq_false c]; simp
def zg_kset (kp : Nat → Int32) (a m : Nat) : Nat → Int32 := upd kp a (kp a ||| ((1 : Int32) <<< (nI m &&& 31)))
theorem zg_K_set {kp : Nat → Int32} {u v mid u' m v' : Nat} (hv : v < 16) (hv' : v' < 16) (hm : m < 16) (hmid : mid < 16) : zg_K (zg_kset kp (u * 16 + v) mid) u' m v' ↔ zg_K kp u' m v' ∨ (u' = u ∧ v' = v ∧ m = mid) := by
  rw [zg_K_bt (by omega), zg_K_bt (by omega)]
  unfold zg_kset
  by_cases c : u' * 16 + v' = u * 16 + v
  · have h1 : u' = u := by omega
    have h2 : v' = v := by omega
    subst h1 h2
    rw [pk_us, zg_or_bt _ (by omega) (by omega)]
    simp
  · rw [pk_un c]
    constructor
    · exact Or.inl
    · rintro (h | ⟨rfl, rfl, _⟩)
      · exact h
      · exact absurd rfl c
def zg_u (f : Nat → Nat) (k x : Nat) : Nat → Nat := fun j => if j = k then x else f j
theorem zg_us {f : Nat → Nat} {k x : Nat} : zg_u f k x k = x := if_pos rfl
theorem zg_un {f : Nat → Nat} {k j x : Nat} (h : j ≠ k) : zg_u f k x j = f j := if_neg h
def zg_By (n : Nat) (ab : Nat → Prop) (mid : Nat) (dn : Nat → Nat → Prop) (W : Nat → Nat) (va kp : Nat → Int32) (W' : Nat → Nat) (va' kp' : Nat → Int32) : Prop :=
  (∀ u v, u < n → v < n → ¬ (dn u v ∧ ab u ∧ ab v ∧ u ≠ v) → W' (u * 16 + v) = W (u * 16 + v) ∧ va' (u * 16 + v) = va (u * 16 + v) ∧ kp' (u * 16 + v) = kp (u * 16 + v)) ∧
  (∀ u v, u < n → v < n → W' (u * 16 + v) ≤ W (u * 16 + v)) ∧
  (∀ u m v, u < n → m < n → v < n → (zg_K kp u m v → zg_K kp' u m v) ∧ (zg_K kp' u m v → zg_K kp u m v ∨ (m = mid ∧ ab u ∧ ab v ∧ u ≠ v))) ∧
  (∀ u v, u < n → v < n → dn u v → ab u → ab v → u ≠ v → (zg_K kp' u mid v → W' (u * 16 + v) ≤ zg_p (W (u * 16 + mid)) (W (mid * 16 + v))) ∧ zg_Wit n W' ab u v (zg_p (W (u * 16 + mid)) (W (mid * 16 + v)))) ∧
  (∀ u v, u < n → v < n → (W' (u * 16 + v) = W (u * 16 + v) ∧ va' (u * 16 + v) = va (u * 16 + v)) ∨
    (W' (u * 16 + v) = zg_p (W (u * 16 + mid)) (W (mid * 16 + v)) ∧ va' (u * 16 + v) = -1 - nI mid ∧ zg_K kp' u mid v ∧ ab u ∧ ab v ∧ u ≠ v))
section
variable {n mid : Nat} {ab : Nat → Prop} {dn : Nat → Nat → Prop} {W W' : Nat → Nat} {va kp va' kp' : Nat → Int32}
theorem zg_By_0 : zg_By n ab mid (fun _ _ => False) W va kp W va kp :=
  ⟨fun _ _ _ _ _ => ⟨rfl, rfl, rfl⟩, fun _ _ _ _ => Nat.le_refl _, fun _ _ _ _ _ _ => ⟨id, Or.inl⟩, fun _ _ _ _ h => h.elim, fun _ _ _ _ => Or.inl ⟨rfl, rfl⟩⟩
theorem zg_By_congr {dn' : Nat → Nat → Prop} (h : zg_By n ab mid dn W va kp W' va' kp') (hd : ∀ a b, a < n → b < n → (dn a b ↔ dn' a b)) : zg_By n ab mid dn' W va kp W' va' kp' :=
  ⟨fun u v hu hv hn => h.1 u v hu hv (fun c => hn ⟨(hd u v hu hv).mp c.1, c.2⟩), h.2.1, h.2.2.1, fun u v hu hv hn => h.2.2.2.1 u v hu hv ((hd u v hu hv).mpr hn), h.2.2.2.2⟩
theorem zg_By_m1 (h : zg_By n ab mid dn W va kp W' va' kp') (hmid : mid < n) (hab : ¬ ab mid) {u : Nat} (hu : u < n) : W' (u * 16 + mid) = W (u * 16 + mid) := (h.1 u mid hu hmid (fun c => hab c.2.2.1)).1
theorem zg_By_m2 (h : zg_By n ab mid dn W va kp W' va' kp') (hmid : mid < n) (hab : ¬ ab mid) {u : Nat} (hu : u < n) : W' (mid * 16 + u) = W (mid * 16 + u) := (h.1 mid u hmid hu (fun c => hab c.2.1)).1
theorem zg_By_skip (h : zg_By n ab mid dn W va kp W' va' kp') {u v : Nat} (hv : v < n)
    (hs : ab u → ab v → u ≠ v → W' (u * 16 + v) ≤ zg_p (W (u * 16 + mid)) (W (mid * 16 + v)) ∨ (¬ zg_K kp' u mid v ∧ zg_Wit n W' ab u v (zg_p (W (u * 16 + mid)) (W (mid * 16 + v))))) :
    zg_By n ab mid (fun a b => dn a b ∨ (a = u ∧ b = v)) W va kp W' va' kp' := by
  refine ⟨fun a b ha hb hn => h.1 a b ha hb (fun c => hn ⟨Or.inl c.1, c.2⟩), h.2.1, h.2.2.1, fun a b ha hb hd k1 k2 k3 => ?_, h.2.2.2.2⟩
  rcases hd with hd | ⟨rfl, rfl⟩
  · exact h.2.2.2.1 a b ha hb hd k1 k2 k3
  · rcases hs k1 k2 k3 with c | ⟨c1, c2⟩
    · exact ⟨fun _ => c, zg_Wit_one hv k2 c⟩
    · exact ⟨fun k => absurd k c1, c2⟩
theorem zg_By_add (h : zg_By n ab mid dn W va kp W' va' kp') (hn16 : n ≤ 16) (hmid : mid < n) {u v : Nat} (hv : v < n) (hau : ab u) (hav : ab v) (huv : u ≠ v)
    (hs : zg_p (W (u * 16 + mid)) (W (mid * 16 + v)) ≤ W' (u * 16 + v)) :
    zg_By n ab mid (fun a b => dn a b ∨ (a = u ∧ b = v)) W va kp (zg_u W' (u * 16 + v) (zg_p (W (u * 16 + mid)) (W (mid * 16 + v)))) (upd va' (u * 16 + v) (-1 - nI mid)) (zg_kset kp' (u * 16 + v) mid) := by
  have hmono : ∀ a b, a < n → b < n → zg_u W' (u * 16 + v) (zg_p (W (u * 16 + mid)) (W (mid * 16 + v))) (a * 16 + b) ≤ W' (a * 16 + b) := by
    intro a b ha hb
    by_cases c : a * 16 + b = u * 16 + v
    · rw [c, zg_us]; exact hs
    · rw [zg_un c]; exact Nat.le_refl _
  have hne : ∀ a b, b < n → ¬ (a = u ∧ b = v) → a * 16 + b ≠ u * 16 + v := by
    intro a b hb c e
    exact c ⟨by omega, by omega⟩
  refine ⟨fun a b ha hb hd => ?_, fun a b ha hb => Nat.le_trans (hmono a b ha hb) (h.2.1 a b ha hb), fun a m b ha hm hb => ?_, fun a b ha hb hd k1 k2 k3 => ?_, fun a b ha hb => ?_⟩
  · have c : ¬ (a = u ∧ b = v) := by
      rintro ⟨rfl, rfl⟩
      exact hd ⟨Or.inr ⟨rfl, rfl⟩, hau, hav, huv⟩
    have e := hne a b hb c
    rw [zg_un e, pk_un e]
    unfold zg_kset
    rw [pk_un e]
    exact h.1 a b ha hb (fun c => hd ⟨Or.inl c.1, c.2⟩)
  · rw [zg_K_set (by omega) (by omega) (by omega) (by omega)]
    refine ⟨fun k => Or.inl ((h.2.2.1 a m b ha hm hb).1 k), fun k => ?_⟩
    rcases k with k | ⟨rfl, rfl, rfl⟩
    · exact (h.2.2.1 a m b ha hm hb).2 k
    · exact Or.inr ⟨rfl, hau, hav, huv⟩
  · by_cases c : a = u ∧ b = v
    · obtain ⟨rfl, rfl⟩ := c
      rw [zg_us]
      refine ⟨fun _ => Nat.le_refl _, zg_Wit_one hb k2 ?_⟩
      rw [zg_us]; exact Nat.le_refl _
    · have e := hne a b hb c
      have hd' : dn a b := hd.resolve_right c
      have h4 := h.2.2.2.1 a b ha hb hd' k1 k2 k3
      rw [zg_un e]
      refine ⟨fun k => h4.1 ?_, zg_Wit_mono ha hmono (fun _ _ p => p) h4.2⟩
      rw [zg_K_set (by omega) (by omega) (by omega) (by omega)] at k
      rcases k with k | ⟨rfl, rfl, _⟩
      · exact k
      · exact absurd ⟨rfl, rfl⟩ c
  · by_cases c : a = u ∧ b = v
    · obtain ⟨rfl, rfl⟩ := c
      right
      rw [zg_us, pk_us]
      exact ⟨rfl, rfl, (zg_K_set (by omega) (by omega) (by omega) (by omega)).mpr (Or.inr ⟨rfl, rfl, rfl⟩), hau, hav, huv⟩
    · have e := hne a b hb c
      rw [zg_un e, pk_un e]
      rcases h.2.2.2.2 a b ha hb with h5 | ⟨h5, h6, h7, h8⟩
      · exact Or.inl h5
      · exact Or.inr ⟨h5, h6, (zg_K_set (by omega) (by omega) (by omega) (by omega)).mpr (Or.inl h7), h8⟩
end
def zg_I (n R : Nat) (tl hd ln rk W : Nat → Nat) (va kp : Nat → Int32) (q : Nat) : Prop :=
  zg_A R tl hd ln W ∧ zg_B1 n rk kp ∧ zg_B2 n rk W kp q ∧ zg_C n R tl hd ln W va kp ∧ zg_D n rk W q ∧ zg_P n W
theorem zg_stp {n R q mid : Nat} {tl hd ln rk rk' W W' : Nat → Nat} {va kp va' kp' : Nat → Int32}
    (hI : zg_I n R tl hd ln rk W va kp q) (hn : ∀ r, r < R → tl r < n ∧ hd r < n) (hmid : mid < n)
    (hB : zg_By n (fun x => x ≠ mid ∧ rk mid ≤ rk x) mid (fun _ _ => True) W va kp W' va' kp')
    (h1 : ∀ x, x < n → x ≠ mid → rk' x = rk x) (h2 : rk' mid = q) (h3 : q ≤ rk mid) (h4 : ∀ m, m < n → rk m < rk mid → rk m < q) (h5 : ∀ x, x < n → x ≠ mid → rk x ≠ q) :
    zg_I n R tl hd ln rk' W' va' kp' (q + 1) := by
  obtain ⟨hA, hB1, hB2, hC, hD, hP⟩ := hI
  have hab : ∀ x, x < n → ((x ≠ mid ∧ rk mid ≤ rk x) ↔ q < rk' x) := by
    intro x hx
    by_cases c : x = mid
    · subst c; rw [h2]; constructor
      · intro h; exact absurd rfl h.1
      · intro h; omega
    · rw [h1 x hx c]; constructor
      · intro h
        have := h5 x hx c
        omega
      · intro h
        refine ⟨c, ?_⟩
        have := h4 x hx
        omega
  have hlow : ∀ m, m < n → m ≠ mid → rk' m < q + 1 → rk m < q := by
    intro m hm c h
    rw [h1 m hm c] at h
    have := h5 m hm c
    omega
  have hm1 : ∀ m u, m < n → u < n → rk m < q → W' (u * 16 + m) = W (u * 16 + m) ∧ W' (m * 16 + u) = W (m * 16 + u) := by
    intro m u hm hu h
    have hn' : ¬ (m ≠ mid ∧ rk mid ≤ rk m) := by omega
    exact ⟨(hB.1 u m hu hm (fun c => hn' c.2.2.1)).1, (hB.1 m u hm hu (fun c => hn' c.2.1)).1⟩
  have hnm : ¬ (mid ≠ mid ∧ rk mid ≤ rk mid) := fun c => c.1 rfl
  have hmd : ∀ u, u < n → W' (u * 16 + mid) = W (u * 16 + mid) ∧ W' (mid * 16 + u) = W (mid * 16 + u) := fun u hu => ⟨zg_By_m1 hB hmid hnm hu, zg_By_m2 hB hmid hnm hu⟩
  have hB1' : zg_B1 n rk' kp' := by
    intro u m v hu hm hv k
    rcases (hB.2.2.1 u m v hu hm hv).2 k with k | ⟨rfl, k1, k2, k3⟩
    · obtain ⟨b1, b2, b3⟩ := hB1 u m v hu hm hv k
      refine ⟨?_, ?_, b3⟩
      · by_cases c : u = mid
        · subst c
          have c2 : m ≠ u := fun e => by subst e; omega
          rw [h2, h1 m hm c2]; exact h4 m hm b1
        · rw [h1 u hu c]
          by_cases c2 : m = mid
          · subst c2; omega
          · rw [h1 m hm c2]; exact b1
      · by_cases c : v = mid
        · subst c
          have c2 : m ≠ v := fun e => by subst e; omega
          rw [h2, h1 m hm c2]; exact h4 m hm b2
        · rw [h1 v hv c]
          by_cases c2 : m = mid
          · subst c2; omega
          · rw [h1 m hm c2]; exact b2
    · rw [h2]
      exact ⟨(hab u hu).mp k1, (hab v hv).mp k2, k3⟩
  refine ⟨fun r hr => Nat.le_trans (hB.2.1 _ _ (hn r hr).1 (hn r hr).2) (hA r hr), hB1', ?_, ?_, ?_, ?_⟩
  · intro u m v hu hm hv k hq
    by_cases c : m = mid
    · subst c
      obtain ⟨b1, b2, b3⟩ := hB1' u m v hu hm hv k
      rw [h2] at b1 b2
      rw [(hmd u hu).1, (hmd v hv).2]
      exact (hB.2.2.2.1 u v hu hv trivial ((hab u hu).mpr b1) ((hab v hv).mpr b2) b3).1 k
    · have hl := hlow m hm c hq
      rw [(hm1 m u hm hu hl).1, (hm1 m v hm hv hl).2]
      refine Nat.le_trans (hB.2.1 u v hu hv) (hB2 u m v hu hm hv ?_ hl)
      exact ((hB.2.2.1 u m v hu hm hv).2 k).resolve_right (fun e => c e.1)
  · intro u v hu hv hw
    rcases hB.2.2.2.2 u v hu hv with ⟨e1, e2⟩ | ⟨e1, e2, e3, _⟩
    · rw [e1] at hw
      rcases hC u v hu hv hw with ⟨r, r1, r2, r3, r4, r5⟩ | ⟨m, r1, r2, r3, r4⟩
      · exact Or.inl ⟨r, r1, by rw [e2]; exact r2, r3, r4, by rw [e1]; exact r5⟩
      · refine Or.inr ⟨m, r1, by rw [e2]; exact r2, (hB.2.2.1 u m v hu r1 hv).1 r3, ?_⟩
        rw [e1]
        exact Nat.le_trans (zg_p_mono (hB.2.1 u m hu r1) (hB.2.1 m v r1 hv)) r4
    · refine Or.inr ⟨mid, hmid, e2, e3, ?_⟩
      rw [e1, (hmd u hu).1, (hmd v hv).2]
      exact Nat.le_refl _
  · intro m u v hm hu hv hq hu' hv' huv
    by_cases c : m = mid
    · subst c
      rw [h2] at hu' hv'
      rw [(hmd u hu).1, (hmd v hv).2]
      refine zg_Wit_mono hu (fun _ _ _ _ => Nat.le_refl _) (fun x hx p => ?_) (hB.2.2.2.1 u v hu hv trivial ((hab u hu).mpr hu') ((hab v hv).mpr hv') huv).2
      rw [h2]
      exact (hab x hx).mp p
    · have hl := hlow m hm c hq
      have hrk : ∀ x, x < n → (rk m < rk x ↔ rk' m < rk' x) := by
        intro x hx
        rw [h1 m hm c]
        by_cases c2 : x = mid
        · subst c2; rw [h2]; constructor
          · intro _; exact hl
          · intro _; omega
        · rw [h1 x hx c2]
      rw [(hm1 m u hm hu hl).1, (hm1 m v hm hv hl).2]
      exact zg_Wit_mono hu hB.2.1 (fun x hx p => (hrk x hx).mp p) (hD m u v hm hu hv hl ((hrk u hu).mpr hu') ((hrk v hv).mpr hv') huv)
  · intro u v hu hv
    rcases hB.2.2.2.2 u v hu hv with ⟨e1, _⟩ | ⟨e1, _⟩
    · rw [e1]; exact hP u v hu hv
    · rw [e1]; exact zg_p_pos (hP u mid hu hmid)
end
section
/-! recompute, refresh: exact arcs -/
def zg_Ex (n R : Nat) (tl hd ln W : Nat → Nat) (va kp : Nat → Int32) (u v : Nat) : Prop :=
  (∀ r, r < R → tl r = u → hd r = v → W (u * 16 + v) ≤ zg_w ln r) ∧
  (∀ m, m < n → zg_K kp u m v → W (u * 16 + v) ≤ zg_p (W (u * 16 + m)) (W (m * 16 + v))) ∧
  zg_C1 n R tl hd ln W va kp u v ∧ 0 < W (u * 16 + v)
def zg_Rc (tl hd ln W0 : Nat → Nat) (va0 kp : Nat → Int32) (u v jr jm : Nat) (W : Nat → Nat) (va : Nat → Int32) : Prop :=
  (∀ i, i ≠ u * 16 + v → W i = W0 i ∧ va i = va0 i) ∧ W (u * 16 + v) ≤ zg_U ∧ 0 < W (u * 16 + v) ∧
  (∀ r, r < jr → tl r = u → hd r = v → W (u * 16 + v) ≤ zg_w ln r) ∧
  (∀ m, m < jm → zg_K kp u m v → W (u * 16 + v) ≤ zg_p (W0 (u * 16 + m)) (W0 (m * 16 + v))) ∧
  (W (u * 16 + v) < zg_U → (∃ r, r < jr ∧ va (u * 16 + v) = nI r ∧ tl r = u ∧ hd r = v ∧ W (u * 16 + v) = zg_w ln r) ∨
    (∃ m, m < jm ∧ va (u * 16 + v) = -1 - nI m ∧ zg_K kp u m v ∧ zg_p (W0 (u * 16 + m)) (W0 (m * 16 + v)) ≤ W (u * 16 + v)))
def zg_Im (W : Nat → Nat) (va : Nat → Int32) (a s : Nat) (p : Int32) (W' : Nat → Nat) (va' : Nat → Int32) : Prop :=
  (W a ≤ s ∧ W' = W ∧ va' = va) ∨ (s < W a ∧ W' = zg_u W a s ∧ va' = upd va a p)
section
variable {n R : Nat} {tl hd ln W0 W : Nat → Nat} {va0 kp va : Nat → Int32} {u v jr jm : Nat}
theorem zg_Rc_0 : zg_Rc tl hd ln W0 va0 kp u v 0 0 (zg_u W0 (u * 16 + v) zg_U) va0 := by
  refine ⟨fun i hi => ⟨zg_un hi, rfl⟩, ?_, ?_, fun r hr => by omega, fun m hm => by omega, fun h => ?_⟩
  · rw [zg_us]; exact Nat.le_refl _
  · rw [zg_us]; exact zg_U_pos
  · rw [zg_us] at h; omega
theorem zg_Rc_rs (h : zg_Rc tl hd ln W0 va0 kp u v jr 0 W va) (hn : ¬ (tl jr = u ∧ hd jr = v)) : zg_Rc tl hd ln W0 va0 kp u v (jr + 1) 0 W va := by
  obtain ⟨h1, h2, h3, h4, h5, h6⟩ := h
  refine ⟨h1, h2, h3, fun r hr a b => ?_, h5, fun hw => ?_⟩
  · by_cases c : r = jr
    · subst c; exact absurd ⟨a, b⟩ hn
    · exact h4 r (by omega) a b
  · rcases h6 hw with ⟨r, k1, k2⟩ | k
    · exact Or.inl ⟨r, by omega, k2⟩
    · exact Or.inr k
theorem zg_Rc_ri {W' : Nat → Nat} {va' : Nat → Int32} (h : zg_Rc tl hd ln W0 va0 kp u v jr 0 W va) (ht : tl jr = u) (hh : hd jr = v) (hi : zg_Im W va (u * 16 + v) (zg_w ln jr) (nI jr) W' va') : zg_Rc tl hd ln W0 va0 kp u v (jr + 1) 0 W' va' := by
  obtain ⟨h1, h2, h3, h4, h5, h6⟩ := h
  rcases hi with ⟨e1, rfl, rfl⟩ | ⟨e1, rfl, rfl⟩
  · refine ⟨h1, h2, h3, fun r hr a b => ?_, h5, fun hw => ?_⟩
    · by_cases c : r = jr
      · subst c; exact e1
      · exact h4 r (by omega) a b
    · rcases h6 hw with ⟨r, k1, k2⟩ | k
      · exact Or.inl ⟨r, by omega, k2⟩
      · exact Or.inr k
  · refine ⟨fun i hi => ⟨by rw [zg_un hi]; exact (h1 i hi).1, by rw [pk_un hi]; exact (h1 i hi).2⟩, ?_, ?_, fun r hr a b => ?_, fun m hm => by omega, fun hw => ?_⟩
    · rw [zg_us]; omega
    · rw [zg_us]; exact zg_w_pos _ _
    · rw [zg_us]
      by_cases c : r = jr
      · subst c; exact Nat.le_refl _
      · exact Nat.le_trans (by omega) (h4 r (by omega) a b)
    · rw [zg_us, pk_us]
      exact Or.inl ⟨jr, by omega, rfl, ht, hh, rfl⟩
theorem zg_Rc_ms (h : zg_Rc tl hd ln W0 va0 kp u v jr jm W va) (hn : ¬ zg_K kp u jm v) : zg_Rc tl hd ln W0 va0 kp u v jr (jm + 1) W va := by
  obtain ⟨h1, h2, h3, h4, h5, h6⟩ := h
  refine ⟨h1, h2, h3, h4, fun m hm a => ?_, fun hw => ?_⟩
  · by_cases c : m = jm
    · subst c; exact absurd a hn
    · exact h5 m (by omega) a
  · rcases h6 hw with k | ⟨m, k1, k2⟩
    · exact Or.inl k
    · exact Or.inr ⟨m, by omega, k2⟩
theorem zg_Rc_mi {W' : Nat → Nat} {va' : Nat → Int32} (h : zg_Rc tl hd ln W0 va0 kp u v jr jm W va) (hK : zg_K kp u jm v) (hp : 0 < W0 (u * 16 + jm)) (hi : zg_Im W va (u * 16 + v) (zg_p (W0 (u * 16 + jm)) (W0 (jm * 16 + v))) (-1 - nI jm) W' va') : zg_Rc tl hd ln W0 va0 kp u v jr (jm + 1) W' va' := by
  obtain ⟨h1, h2, h3, h4, h5, h6⟩ := h
  rcases hi with ⟨e1, rfl, rfl⟩ | ⟨e1, rfl, rfl⟩
  · refine ⟨h1, h2, h3, h4, fun m hm a => ?_, fun hw => ?_⟩
    · by_cases c : m = jm
      · subst c; exact e1
      · exact h5 m (by omega) a
    · rcases h6 hw with k | ⟨m, k1, k2⟩
      · exact Or.inl k
      · exact Or.inr ⟨m, by omega, k2⟩
  · refine ⟨fun i hi => ⟨by rw [zg_un hi]; exact (h1 i hi).1, by rw [pk_un hi]; exact (h1 i hi).2⟩, ?_, ?_, fun r hr a b => ?_, fun m hm a => ?_, fun hw => ?_⟩
    · rw [zg_us]; omega
    · rw [zg_us]; exact zg_p_pos hp
    · rw [zg_us]
      exact Nat.le_trans (by omega) (h4 r hr a b)
    · rw [zg_us]
      by_cases c : m = jm
      · subst c; exact Nat.le_refl _
      · exact Nat.le_trans (by omega) (h5 m (by omega) a)
    · rw [zg_us, pk_us]
      exact Or.inr ⟨jm, by omega, rfl, hK, Nat.le_refl _⟩
theorem zg_Rc_ex {rk : Nat → Nat} (hB1 : zg_B1 n rk kp) (hu : u < n) (hv : v < n) (hn : n ≤ 16) (h : zg_Rc tl hd ln W0 va0 kp u v R n W va) : zg_Ex n R tl hd ln W va kp u v := by
  obtain ⟨h1, h2, h3, h4, h5, h6⟩ := h
  have hk : ∀ m, m < n → zg_K kp u m v → W (u * 16 + m) = W0 (u * 16 + m) ∧ W (m * 16 + v) = W0 (m * 16 + v) := by
    intro m hm k
    have := hB1 u m v hu hm hv k
    have e1 : m ≠ v := fun e => by subst e; omega
    have e2 : m ≠ u := fun e => by subst e; omega
    exact ⟨(h1 _ (by omega)).1, (h1 _ (by omega)).1⟩
  refine ⟨h4, fun m hm k => ?_, fun hw => ?_, h3⟩
  · rw [(hk m hm k).1, (hk m hm k).2]; exact h5 m hm k
  · rcases h6 hw with ⟨r, k⟩ | ⟨m, k1, k2, k3, k4⟩
    · exact Or.inl ⟨r, k⟩
    · refine Or.inr ⟨m, k1, k2, k3, ?_⟩
      rw [(hk m k1 k3).1, (hk m k1 k3).2]; exact k4
end
def zg_Dep (rk : Nat → Nat) (kp : Nat → Int32) (a b x y : Nat) : Prop := (rk b < rk a ∧ x = a ∧ zg_K kp a b y) ∨ (¬ rk b < rk a ∧ y = b ∧ zg_K kp x a b)
def zg_Mk (n : Nat) (rk : Nat → Nat) (kp : Nat → Int32) (a b : Nat) (pe pe' : Nat → Int32) : Prop := ∀ x y, x < n → y < n → (pe' (x * 16 + y) = 0 ↔ (pe (x * 16 + y) = 0 ∧ ¬ zg_Dep rk kp a b x y))
/-- what refresh does -/
def zg_Rs (n R : Nat) (tl hd ln rk W : Nat → Nat) (va kp pe : Nat → Int32) (a b : Nat) (W' : Nat → Nat) (va' pe' : Nat → Int32) : Prop :=
  (pe (a * 16 + b) = 0 ∧ W' = W ∧ va' = va ∧ pe' = pe) ∨
  (¬ pe (a * 16 + b) = 0 ∧ zg_Rc tl hd ln W va kp a b R n W' va' ∧
    ((W' (a * 16 + b) = W (a * 16 + b) ∧ pe' = upd pe (a * 16 + b) 0) ∨ zg_Mk n rk kp a b (upd pe (a * 16 + b) 0) pe'))
def zg_RF (n R : Nat) (tl hd ln rk W0 W : Nat → Nat) (va kp pe : Nat → Int32) (low : Nat) (un : Nat → Nat → Prop) (sh : Prop) : Prop :=
  (∀ x y, x < n → y < n → pe (x * 16 + y) = 0 → zg_Ex n R tl hd ln W va kp x y) ∧
  (∀ x y, x < n → y < n → ¬ pe (x * 16 + y) = 0 → low < rk x ∧ low < rk y ∧ x ≠ y ∧ un x y) ∧
  (∀ x y, x < n → y < n → (rk x < low ∨ rk y < low) → W (x * 16 + y) = W0 (x * 16 + y)) ∧
  (sh → ∀ x y, x < n → y < n → W (x * 16 + y) ≤ W0 (x * 16 + y)) ∧
  (∀ x y, x < n → y < n → 0 < W (x * 16 + y))
section
variable {n R : Nat} {tl hd ln ln0 rk W0 W W' : Nat → Nat} {va0 va va' kp pe pe' : Nat → Int32} {low : Nat} {un un' : Nat → Nat → Prop} {sh : Prop}
theorem zg_RF_un (h : zg_RF n R tl hd ln rk W0 W va kp pe low un sh) (hu : ∀ x y, x < n → y < n → x ≠ y → un x y → un' x y) : zg_RF n R tl hd ln rk W0 W va kp pe low un' sh :=
  ⟨h.1, fun x y hx hy hp => ⟨(h.2.1 x y hx hy hp).1, (h.2.1 x y hx hy hp).2.1, (h.2.1 x y hx hy hp).2.2.1, hu x y hx hy (h.2.1 x y hx hy hp).2.2.1 (h.2.1 x y hx hy hp).2.2.2⟩, h.2.2⟩
/-- an arc changes by itself: the others stay exact, but for its dependents -/
theorem zg_Ex_keep (hn : n ≤ 16) {a b x y : Nat} (hB1 : zg_B1 n rk kp) (ha : a < n) (hb : b < n) (hx : x < n) (hy : y < n) (hne : ¬ (x = a ∧ y = b)) (hW : ∀ i, i ≠ a * 16 + b → W' i = W i ∧ va' i = va i)
    (hd' : W' (a * 16 + b) = W (a * 16 + b) ∨ ¬ zg_Dep rk kp a b x y) (h : zg_Ex n R tl hd ln W va kp x y) : zg_Ex n R tl hd ln W' va' kp x y := by
  have e0 : x * 16 + y ≠ a * 16 + b := fun e => hne ⟨by omega, by omega⟩
  have e1 := (hW _ e0).1
  have e2 := (hW _ e0).2
  have hk : ∀ m, m < n → zg_K kp x m y → W' (x * 16 + m) = W (x * 16 + m) ∧ W' (m * 16 + y) = W (m * 16 + y) := by
    intro m hm k
    have hb1 := hB1 x m y hx hm hy k
    rcases hd' with hd' | hd'
    · have hall : ∀ i, W' i = W i := by
        intro i
        by_cases c : i = a * 16 + b
        · rw [c]; exact hd'
        · exact (hW i c).1
      exact ⟨hall _, hall _⟩
    · constructor
      · by_cases c : x * 16 + m = a * 16 + b
        · have c1 : x = a := by omega
          have c2 : m = b := by omega
          subst c1 c2
          exact absurd (Or.inl ⟨hb1.1, rfl, k⟩) hd'
        · exact (hW _ c).1
      · by_cases c : m * 16 + y = a * 16 + b
        · have c1 : m = a := by omega
          have c2 : y = b := by omega
          subst c1 c2
          exact absurd (Or.inr ⟨by omega, rfl, k⟩) hd'
        · exact (hW _ c).1
  obtain ⟨h1, h2, h3, h4⟩ := h
  refine ⟨fun r hr c1 c2 => by rw [e1]; exact h1 r hr c1 c2, fun m hm k => ?_, fun hw => ?_, by rw [e1]; exact h4⟩
  · rw [e1, (hk m hm k).1, (hk m hm k).2]; exact h2 m hm k
  · rw [e1] at hw
    rw [e1, e2]
    rcases h3 hw with k | ⟨m, k1, k2, k3, k4⟩
    · exact Or.inl k
    · refine Or.inr ⟨m, k1, k2, k3, ?_⟩
      rw [(hk m k1 k3).1, (hk m k1 k3).2]; exact k4
theorem zg_RF_step (hn : n ≤ 16) {a b r u0 v0 : Nat} (h : zg_RF n R tl hd ln rk W0 W va kp pe low un sh) (hB1 : zg_B1 n rk kp) (ha : a < n) (hb : b < n)
    (hs : zg_Rs n R tl hd ln rk W va kp pe a b W' va' pe') (hlr : low ≤ r) (hra : r ≤ rk a) (hrb : r ≤ rk b)
    (h0 : zg_C n R tl hd ln0 W0 va0 kp) (hl0 : rk u0 = low ∨ rk v0 = low) (hln : ∀ q, q < R → ¬ (tl q = u0 ∧ hd q = v0) → ln q = ln0 q)
    (hu1 : ∀ x y, x < n → y < n → un x y → ¬ (x = a ∧ y = b) → un' x y) (hu2 : ∀ x y, x < n → y < n → r < rk x → r < rk y → un' x y) :
    zg_RF n R tl hd ln rk W0 W' va' kp pe' low un' sh := by
  obtain ⟨h1, h2, h3, h4, h5⟩ := h
  rcases hs with ⟨e1, rfl, rfl, rfl⟩ | ⟨e1, hr, hm⟩
  · refine ⟨h1, fun x y hx hy hp => ?_, h3, h4, h5⟩
    obtain ⟨k1, k2, k3, k4⟩ := h2 x y hx hy hp
    refine ⟨k1, k2, k3, hu1 x y hx hy k4 ?_⟩
    rintro ⟨rfl, rfl⟩
    exact hp e1
  · have hex := zg_Rc_ex hB1 ha hb hn hr
    have hlow := h2 a b ha hb e1
    have hne0 : ∀ x y, y < n → ¬ (x = a ∧ y = b) → x * 16 + y ≠ a * 16 + b := fun x y hy c e => c ⟨by omega, by omega⟩
    have hp0 : ∀ x y, x < n → y < n → pe' (x * 16 + y) = 0 → ¬ (x = a ∧ y = b) → pe (x * 16 + y) = 0 ∧ (W' (a * 16 + b) = W (a * 16 + b) ∨ ¬ zg_Dep rk kp a b x y) := by
      intro x y hx hy hp c
      have e := hne0 x y hy c
      rcases hm with ⟨m1, rfl⟩ | hm
      · rw [pk_un e] at hp
        exact ⟨hp, Or.inl m1⟩
      · have := (hm x y hx hy).mp hp
        rw [pk_un e] at this
        exact ⟨this.1, Or.inr this.2⟩
    refine ⟨fun x y hx hy hp => ?_, fun x y hx hy hp => ?_, fun x y hx hy hp => ?_, fun hsh x y hx hy => ?_, fun x y hx hy => ?_⟩
    · by_cases c : x = a ∧ y = b
      · obtain ⟨rfl, rfl⟩ := c; exact hex
      · obtain ⟨k1, k2⟩ := hp0 x y hx hy hp c
        exact zg_Ex_keep hn hB1 ha hb hx hy c hr.1 k2 (h1 x y hx hy k1)
    · have hc : ¬ pe (x * 16 + y) = 0 ∧ ¬ (x = a ∧ y = b) ∨ zg_Dep rk kp a b x y := by
        rcases hm with ⟨m1, rfl⟩ | hm
        · left
          by_cases c : x = a ∧ y = b
          · obtain ⟨rfl, rfl⟩ := c
            rw [pk_us] at hp; exact absurd rfl hp
          · rw [pk_un (hne0 x y hy c)] at hp
            exact ⟨hp, c⟩
        · by_cases hd' : zg_Dep rk kp a b x y
          · exact Or.inr hd'
          · left
            by_cases c : x = a ∧ y = b
            · obtain ⟨rfl, rfl⟩ := c
              exact absurd ((hm x y hx hy).mpr ⟨pk_us, hd'⟩) hp
            · refine ⟨fun z => hp ((hm x y hx hy).mpr ⟨?_, hd'⟩), c⟩
              rw [pk_un (hne0 x y hy c)]; exact z
      rcases hc with ⟨c1, c2⟩ | c
      · obtain ⟨k1, k2, k3, k4⟩ := h2 x y hx hy c1
        exact ⟨k1, k2, k3, hu1 x y hx hy k4 c2⟩
      · rcases c with ⟨c1, rfl, c2⟩ | ⟨c1, rfl, c2⟩
        · have k := hB1 x b y hx hb hy c2
          exact ⟨by omega, by omega, k.2.2, hu2 x y hx hy (by omega) (by omega)⟩
        · have k := hB1 x a y hx ha hy c2
          exact ⟨by omega, by omega, k.2.2, hu2 x y hx hy (by omega) (by omega)⟩
    · have c : ¬ (x = a ∧ y = b) := by rintro ⟨rfl, rfl⟩; omega
      rw [(hr.1 _ (hne0 x y hy c)).1]
      exact h3 x y hx hy hp
    · by_cases c : x = a ∧ y = b
      · obtain ⟨rfl, rfl⟩ := c
        by_cases hw : W0 (x * 16 + y) < zg_U
        · rcases h0 x y hx hy hw with ⟨q, q1, _, q3, q4, q5⟩ | ⟨m, m1, _, m3, m4⟩
          · have hl := hln q q1 (by rintro ⟨z1, z2⟩; subst z1 z2; rw [q3, q4] at hl0; omega)
            have := hex.1 q q1 q3 q4
            unfold zg_w at this q5
            rw [hl] at this
            omega
          · have k1 := hex.2.1 m m1 m3
            have k2 := hB1 x m y hx m1 hy m3
            have e1 : m ≠ y := fun e => by subst e; omega
            have e2 : m ≠ x := fun e => by subst e; omega
            rw [(hr.1 (x * 16 + m) (by omega)).1, (hr.1 (m * 16 + y) (by omega)).1] at k1
            exact Nat.le_trans k1 (Nat.le_trans (zg_p_mono (h4 hsh x m hx m1) (h4 hsh m y m1 hy)) m4)
        · have := hr.2.1
          omega
      · rw [(hr.1 _ (hne0 x y hy c)).1]
        exact h4 hsh x y hx hy
    · by_cases c : x = a ∧ y = b
      · obtain ⟨rfl, rfl⟩ := c; exact hr.2.2.1
      · rw [(hr.1 _ (hne0 x y hy c)).1]; exact h5 x y hx hy
/-- the start: the changed road's arc made exact, its dependents marked -/
theorem zg_RF_0 (hn : n ≤ 16) {u0 v0 : Nat} (hI : zg_I n R tl hd ln0 rk W0 va0 kp n) (hrk : ∀ x, x < n → rk x < n) (hu : u0 < n) (hv : v0 < n) (hnd : ∀ r, r < R → tl r < n ∧ hd r < n)
    (hln : ∀ q, q < R → ¬ (tl q = u0 ∧ hd q = v0) → ln q = ln0 q) (hpe : ∀ x y, x < n → y < n → pe (x * 16 + y) = 0)
    (hr : zg_Rc tl hd ln W0 va0 kp u0 v0 R n W va) (hm : zg_Mk n rk kp u0 v0 pe pe') (hl : low = if rk u0 < rk v0 then rk u0 else rk v0) (hsh : sh → W (u0 * 16 + v0) ≤ W0 (u0 * 16 + v0)) :
    zg_RF n R tl hd ln rk W0 W va kp pe' low (fun x y => low < rk x ∧ low < rk y) sh := by
  obtain ⟨hA, hB1, hB2, hC, hD, hP⟩ := hI
  have hex := zg_Rc_ex hB1 hu hv hn hr
  have hne0 : ∀ x y, y < n → ¬ (x = u0 ∧ y = v0) → x * 16 + y ≠ u0 * 16 + v0 := fun x y hy c e => c ⟨by omega, by omega⟩
  have hlu : low ≤ rk u0 ∧ low ≤ rk v0 := by rw [hl]; split <;> omega
  have hold : ∀ x y, x < n → y < n → ¬ (x = u0 ∧ y = v0) → zg_Ex n R tl hd ln W0 va0 kp x y := by
    intro x y hx hy c
    have hw : ∀ r, r < R → tl r = x → hd r = y → zg_w ln r = zg_w ln0 r := by
      intro r hr a b
      unfold zg_w
      rw [hln r hr (by rw [a, b]; exact c)]
    refine ⟨fun r hr a b => ?_, fun m hm k => hB2 x m y hx hm hy k (hrk m hm), fun hw' => ?_, hP x y hx hy⟩
    · rw [hw r hr a b]
      have := hA r hr
      rw [a, b] at this; exact this
    · rcases hC x y hx hy hw' with ⟨r, k1, k2, k3, k4, k5⟩ | k
      · exact Or.inl ⟨r, k1, k2, k3, k4, by rw [hw r k1 k3 k4]; exact k5⟩
      · exact Or.inr k
  refine ⟨fun x y hx hy hp => ?_, fun x y hx hy hp => ?_, fun x y hx hy hp => ?_, fun h x y hx hy => ?_, fun x y hx hy => ?_⟩
  · by_cases c : x = u0 ∧ y = v0
    · obtain ⟨rfl, rfl⟩ := c; exact hex
    · exact zg_Ex_keep hn hB1 hu hv hx hy c hr.1 (Or.inr ((hm x y hx hy).mp hp).2) (hold x y hx hy c)
  · have hd' : zg_Dep rk kp u0 v0 x y := Classical.byContradiction (fun c => hp ((hm x y hx hy).mpr ⟨hpe x y hx hy, c⟩))
    rcases hd' with ⟨c1, rfl, c2⟩ | ⟨c1, rfl, c2⟩
    · have k := hB1 x v0 y hx hv hy c2
      exact ⟨by omega, by omega, k.2.2, by omega, by omega⟩
    · have k := hB1 x u0 y hx hu hy c2
      exact ⟨by omega, by omega, k.2.2, by omega, by omega⟩
  · have c : ¬ (x = u0 ∧ y = v0) := by rintro ⟨rfl, rfl⟩; omega
    exact (hr.1 _ (hne0 x y hy c)).1
  · by_cases c : x = u0 ∧ y = v0
    · obtain ⟨rfl, rfl⟩ := c; exact hsh h
    · rw [(hr.1 _ (hne0 x y hy c)).1]; exact Nat.le_refl _
  · by_cases c : x = u0 ∧ y = v0
    · obtain ⟨rfl, rfl⟩ := c; exact hr.2.2.1
    · rw [(hr.1 _ (hne0 x y hy c)).1]; exact hP x y hx hy
/-- no change of weight: all is as it was -/
theorem zg_RF_same (hn : n ≤ 16) {u0 v0 : Nat} (hI : zg_I n R tl hd ln0 rk W0 va0 kp n) (hrk : ∀ x, x < n → rk x < n) (hu : u0 < n) (hv : v0 < n) (hnd : ∀ r, r < R → tl r < n ∧ hd r < n)
    (hln : ∀ q, q < R → ¬ (tl q = u0 ∧ hd q = v0) → ln q = ln0 q)
    (hr : zg_Rc tl hd ln W0 va0 kp u0 v0 R n W va) (he : W (u0 * 16 + v0) = W0 (u0 * 16 + v0)) :
    zg_I n R tl hd ln rk W va kp n := by
  obtain ⟨hA, hB1, hB2, hC, hD, hP⟩ := hI
  have hex := zg_Rc_ex hB1 hu hv hn hr
  have hW : ∀ i, W i = W0 i := by
    intro i
    by_cases c : i = u0 * 16 + v0
    · rw [c]; exact he
    · exact (hr.1 i c).1
  have hWe : W = W0 := funext hW
  have hne0 : ∀ x y, y < n → ¬ (x = u0 ∧ y = v0) → x * 16 + y ≠ u0 * 16 + v0 := fun x y hy c e => c ⟨by omega, by omega⟩
  subst hWe
  refine ⟨fun r hr' => ?_, hB1, hB2, fun x y hx hy hw => ?_, hD, hP⟩
  · by_cases c : tl r = u0 ∧ hd r = v0
    · rw [c.1, c.2]; exact hex.1 r hr' c.1 c.2
    · unfold zg_w; rw [hln r hr' c]; exact hA r hr'
  · by_cases c : x = u0 ∧ y = v0
    · obtain ⟨rfl, rfl⟩ := c; exact hex.2.2.1 hw
    · rw [(hr.1 _ (hne0 x y hy c)).2]
      rcases hC x y hx hy hw with ⟨r, k1, k2, k3, k4, k5⟩ | k
      · refine Or.inl ⟨r, k1, k2, k3, k4, ?_⟩
        unfold zg_w at k5 ⊢
        rw [hln r k1 (by rw [k3, k4]; exact c)]; exact k5
      · exact Or.inr k
/-- the end of refreshFrom: every arc exact -/
theorem zg_RF_end {q : Nat} (h : zg_RF n R tl hd ln rk W0 W va kp pe low un sh) (hB1 : zg_B1 n rk kp) (hnd : ∀ r, r < R → tl r < n ∧ hd r < n) (hun : ∀ x y, x < n → y < n → x ≠ y → ¬ un x y)
    (hq : q = 0 ∨ (sh ∧ q ≤ low)) (hD0 : zg_D n rk W0 n) (hqn : q ≤ n) : (∀ x y, x < n → y < n → pe (x * 16 + y) = 0) ∧ zg_I n R tl hd ln rk W va kp q := by
  obtain ⟨h1, h2, h3, h4, h5⟩ := h
  have hpe : ∀ x y, x < n → y < n → pe (x * 16 + y) = 0 := by
    intro x y hx hy
    refine Classical.byContradiction (fun c => ?_)
    have := h2 x y hx hy c
    exact hun x y hx hy this.2.2.1 this.2.2.2
  refine ⟨hpe, fun r hr => ?_, hB1, fun u m v hu hm hv k _ => (h1 u v hu hv (hpe u v hu hv)).2.1 m hm k, fun u v hu hv => (h1 u v hu hv (hpe u v hu hv)).2.2.1, ?_, h5⟩
  · exact (h1 _ _ (hnd r hr).1 (hnd r hr).2 (hpe _ _ (hnd r hr).1 (hnd r hr).2)).1 r hr rfl rfl
  · rcases hq with rfl | ⟨hs, hq⟩
    · intro m u v _ _ _ hm; omega
    · intro m u v hm hu hv hmq hmu hmv huv
      rw [h3 u m hu hm (Or.inr (by omega)), h3 m v hm hv (Or.inl (by omega))]
      exact zg_Wit_mono hu (h4 hs) (fun _ _ p => p) (hD0 m u v hm hu hv (by omega) hmu hmv huv)
end
end
section
/-! the two searches: invariant and end -/
def zg_src (s t b : Nat) : Nat := if b = 0 then s else t
def zg_ds (D : Nat → Nat → Nat) (s t b x : Nat) : Nat := if b = 0 then D s x else D x t
def zg_sw (W : Nat → Nat) (b x y : Nat) : Nat := if b = 0 then W (x * 16 + y) else W (y * 16 + x)
def zg_M (n : Nat) (rk W : Nat → Nat) (D : Nat → Nat → Nat) (s t : Nat) (L pa : Nat → Nat) (se : Nat → Int32) (B m : Nat) : Prop :=
  (∀ b x, (b = 0 ∨ b = 16) → x < n → zg_ds D s t b x ≤ L (b + x) ∧ L (b + x) ≤ zg_U) ∧
  (L s = 0 ∧ L (16 + t) = 0) ∧
  (∀ b x, (b = 0 ∨ b = 16) → x < n → L (b + x) < zg_U → x = zg_src s t b ∨ (pa (b + x) < n ∧ rk (pa (b + x)) < rk x ∧ L (b + x) = L (b + pa (b + x)) + zg_sw W b (pa (b + x)) x ∧ ¬ se (b + pa (b + x)) = 0)) ∧
  (∀ b x y, (b = 0 ∨ b = 16) → x < n → y < n → ¬ se (b + x) = 0 → se (b + y) = 0 → L (b + x) ≤ L (b + y)) ∧
  (∀ b x y, (b = 0 ∨ b = 16) → x < n → y < n → ¬ se (b + x) = 0 → L (b + x) = zg_ds D s t b x → rk x < rk y → L (b + y) ≤ zg_p (L (b + x)) (zg_sw W b x y)) ∧
  (D s t ≤ B ∧ B ≤ zg_U ∧ ∀ x, x < n → ¬ se x = 0 → ¬ se (16 + x) = 0 → B ≤ zg_p (L x) (L (16 + x))) ∧
  (m < n ∧ (B < zg_U → zg_p (L m) (L (16 + m)) ≤ B))
/-- what relaxUp does from slot b + x -/
def zg_Rx (n : Nat) (rk W : Nat → Nat) (b x : Nat) (L pa L' pa' : Nat → Nat) : Prop :=
  (∀ y, y < n → (rk x < rk y ∧ zg_p (L (b + x)) (zg_sw W b x y) < L (b + y) ∧ L' (b + y) = zg_p (L (b + x)) (zg_sw W b x y) ∧ pa' (b + y) = x) ∨
    ((rk x < rk y → L (b + y) ≤ zg_p (L (b + x)) (zg_sw W b x y)) ∧ L' (b + y) = L (b + y) ∧ pa' (b + y) = pa (b + y))) ∧
  (∀ j, (∀ y, y < n → j ≠ b + y) → L' j = L j ∧ pa' j = pa j)
section
variable {n : Nat} {rk W L pa L' pa' : Nat → Nat} {D : Nat → Nat → Nat} {s t B m : Nat} {se : Nat → Int32}
theorem zg_ds_tri (ht : ∀ a b c, D a c ≤ D a b + D b c) (hW : ∀ u v, u < n → v < n → D u v ≤ W (u * 16 + v)) {b x y : Nat} (hx : x < n) (hy : y < n) : zg_ds D s t b y ≤ zg_ds D s t b x + zg_sw W b x y := by
  unfold zg_ds zg_sw
  by_cases c : b = 0
  · rw [if_pos c, if_pos c, if_pos c]
    have h1 := ht s x y
    have h2 := hW x y hx hy
    omega
  · rw [if_neg c, if_neg c, if_neg c]
    have h1 := ht y x t
    have h2 := hW y x hy hx
    omega
theorem zg_ds_U (hU : ∀ a b, D a b ≤ zg_U) (b x : Nat) : zg_ds D s t b x ≤ zg_U := by
  unfold zg_ds; split <;> exact hU _ _
/-- settle slot b + x, the best of both sides brought up to date -/
theorem zg_M_settle (ht : ∀ a b c, D a c ≤ D a b + D b c) (hU : ∀ a b, D a b ≤ zg_U) (hn : n ≤ 16) (h : zg_M n rk W D s t L pa se B m) {b x : Nat} (hb : b = 0 ∨ b = 16) (hx : x < n)
    (hse : se (b + x) = 0) (hmin : ∀ y, y < n → se (b + y) = 0 → L (b + x) ≤ L (b + y)) {one : Int32} (h1 : ¬ one = 0)
    (hM5 : L (b + x) = zg_ds D s t b x → ∀ y, y < n → rk x < rk y → L (b + y) ≤ zg_p (L (b + x)) (zg_sw W b x y)) {B' m' : Nat}
    (hB : (B ≤ zg_p (L x) (L (16 + x)) ∧ B' = B ∧ m' = m) ∨ (zg_p (L x) (L (16 + x)) < B ∧ B' = zg_p (L x) (L (16 + x)) ∧ m' = x)) :
    zg_M n rk W D s t L pa (upd se (b + x) one) B' m' := by
  obtain ⟨M1, M2, M3, M4, M5, ⟨M6a, M6b, M6c⟩, M7a, M7b⟩ := h
  have hse' : ∀ j, ¬ se j = 0 → ¬ upd se (b + x) one j = 0 := by
    intro j hj
    by_cases c : j = b + x
    · rw [c, pk_us]; exact h1
    · rw [pk_un c]; exact hj
  have hse2 : ∀ j, j ≠ b + x → upd se (b + x) one j = se j := fun j hj => pk_un hj
  have hxx : ∀ c z, (c = 0 ∨ c = 16) → z < n → c + z = b + x → c = b ∧ z = x := by
    intro c z hc hz e
    omega
  have hBB : B' ≤ B := by rcases hB with ⟨_, e, _⟩ | ⟨e1, e, _⟩ <;> omega
  have hDx : D s t ≤ zg_p (L x) (L (16 + x)) := by
    have a1 := (M1 0 x (Or.inl rfl) hx).1
    have a2 := (M1 16 x (Or.inr rfl) hx).1
    have a3 := ht s x t
    refine zg_p_ge ?_ (hU s t)
    have e1 : zg_ds D s t 0 x = D s x := rfl
    have e2 : zg_ds D s t 16 x = D x t := rfl
    rw [Nat.zero_add] at a1
    omega
  refine ⟨M1, M2, fun c z hc hz hl => ?_, fun c z y hc hz hy k1 k2 => ?_, fun c z y hc hz hy k1 k2 k3 => ?_, ⟨?_, by omega, fun z hz k1 k2 => ?_⟩, ?_⟩
  · rcases M3 c z hc hz hl with e | ⟨e1, e2, e3, e4⟩
    · exact Or.inl e
    · exact Or.inr ⟨e1, e2, e3, hse' _ e4⟩
  · have hy2 : c + y ≠ b + x := by
      intro e
      rw [e, pk_us] at k2; exact h1 k2
    rw [hse2 _ hy2] at k2
    by_cases e : c + z = b + x
    · obtain ⟨rfl, rfl⟩ := hxx c z hc hz e
      exact hmin y hy k2
    · rw [hse2 _ e] at k1
      exact M4 c z y hc hz hy k1 k2
  · by_cases e : c + z = b + x
    · obtain ⟨rfl, rfl⟩ := hxx c z hc hz e
      exact hM5 k2 y hy k3
    · rw [hse2 _ e] at k1
      exact M5 c z y hc hz hy k1 k2 k3
  · rcases hB with ⟨_, e, _⟩ | ⟨_, e, _⟩ <;> rw [e] <;> assumption
  · by_cases e : z = x
    · subst e
      rcases hB with ⟨e1, e2, _⟩ | ⟨e1, e2, _⟩ <;> omega
    · have e1 : z ≠ b + x := by omega
      have e2 : 16 + z ≠ b + x := by omega
      rw [hse2 _ e1] at k1
      rw [hse2 _ e2] at k2
      exact Nat.le_trans hBB (M6c z hz k1 k2)
  · rcases hB with ⟨_, e1, e2⟩ | ⟨_, e1, e2⟩
    · rw [e1, e2]; exact ⟨M7a, M7b⟩
    · rw [e1, e2]; exact ⟨hx, fun _ => Nat.le_refl _⟩
/-- relaxing from a slot before it is marked as relaxed: M5 at x comes out of it -/
theorem zg_M_relax (ht : ∀ a b c, D a c ≤ D a b + D b c) (hU : ∀ a b, D a b ≤ zg_U) (hW : ∀ u v, u < n → v < n → D u v ≤ W (u * 16 + v)) (hn : n ≤ 16) (hs : s < n) (htn : t < n) (h : zg_M n rk W D s t L pa se B m) {b x : Nat} (hb : b = 0 ∨ b = 16) (hx : x < n)
    (hse : se (b + x) = 0) (hmin : ∀ y, y < n → se (b + y) = 0 → L (b + x) ≤ L (b + y)) {one : Int32} (h1 : ¬ one = 0)
    (hr : zg_Rx n rk W b x L pa L' pa') {B' m' : Nat}
    (hB : (B ≤ zg_p (L x) (L (16 + x)) ∧ B' = B ∧ m' = m) ∨ (zg_p (L x) (L (16 + x)) < B ∧ B' = zg_p (L x) (L (16 + x)) ∧ m' = x)) :
    zg_M n rk W D s t L' pa' (upd se (b + x) one) B' m' := by
  obtain ⟨M1, M2, M3, M4, M5, ⟨M6a, M6b, M6c⟩, M7a, M7b⟩ := h
  obtain ⟨hr1, hr2⟩ := hr
  have hLU := (M1 b x hb hx).2
  have hge : ∀ y, L (b + x) ≤ zg_p (L (b + x)) (zg_sw W b x y) := fun y => zg_p_ge (by omega) hLU
  have hse' : ∀ j, ¬ se j = 0 → ¬ upd se (b + x) one j = 0 := by
    intro j hj
    by_cases c : j = b + x
    · rw [c, pk_us]; exact h1
    · rw [pk_un c]; exact hj
  have hse2 : ∀ j, j ≠ b + x → upd se (b + x) one j = se j := fun j hj => pk_un hj
  have hxx : ∀ c z, (c = 0 ∨ c = 16) → z < n → c + z = b + x → c = b ∧ z = x := by
    intro c z hc hz e
    omega
  -- the other side
  have hoth : ∀ c z, (c = 0 ∨ c = 16) → z < n → c ≠ b → L' (c + z) = L (c + z) ∧ pa' (c + z) = pa (c + z) := by
    intro c z hc hz hne
    exact hr2 _ (fun y hy => by omega)
  -- settled labels stay (x's too)
  have hset : ∀ c z, (c = 0 ∨ c = 16) → z < n → (¬ se (c + z) = 0 ∨ c + z = b + x) → L' (c + z) = L (c + z) := by
    intro c z hc hz hq
    by_cases e : c = b
    · subst e
      rcases hr1 z hz with ⟨k1, k2, k3, k4⟩ | ⟨k1, k2, k3⟩
      · have hzx : L (c + z) ≤ L (c + x) := by
          rcases hq with hq | hq
          · exact M4 c z x hc hz hx hq hse
          · rw [hq]; exact Nat.le_refl _
        have := hge z
        omega
      · exact k2
    · exact (hoth c z hc hz e).1
  have hle : ∀ c z, (c = 0 ∨ c = 16) → z < n → L' (c + z) ≤ L (c + z) := by
    intro c z hc hz
    by_cases e : c = b
    · subst e
      rcases hr1 z hz with ⟨k1, k2, k3, k4⟩ | ⟨k1, k2, k3⟩ <;> omega
    · rw [(hoth c z hc hz e).1]; exact Nat.le_refl _
  have hLx : L' (b + x) = L (b + x) := hset b x hb hx (Or.inr rfl)
  have hBB : B' ≤ B := by rcases hB with ⟨_, e, _⟩ | ⟨e1, e, _⟩ <;> omega
  have hDx : D s t ≤ zg_p (L x) (L (16 + x)) := by
    have a1 := (M1 0 x (Or.inl rfl) hx).1
    have a2 := (M1 16 x (Or.inr rfl) hx).1
    have a3 := ht s x t
    refine zg_p_ge ?_ (hU s t)
    have e1 : zg_ds D s t 0 x = D s x := rfl
    have e2 : zg_ds D s t 16 x = D x t := rfl
    rw [Nat.zero_add] at a1
    omega
  refine ⟨fun c z hc hz => ?_, ?_, fun c z hc hz hl => ?_, fun c z y hc hz hy k1 k2 => ?_, fun c z y hc hz hy k1 k2 k3 => ?_, ⟨?_, by omega, fun z hz k1 k2 => ?_⟩, ?_⟩
  · refine ⟨?_, Nat.le_trans (hle c z hc hz) (M1 c z hc hz).2⟩
    by_cases e : c = b
    · subst e
      rcases hr1 z hz with ⟨k1, k2, k3, k4⟩ | ⟨k1, k2, k3⟩
      · rw [k3]
        refine zg_p_ge ?_ (zg_ds_U hU c z)
        have a1 := zg_ds_tri (s := s) (t := t) (b := c) ht hW hx hz
        have a2 := (M1 c x hc hx).1
        omega
      · rw [k2]; exact (M1 c z hc hz).1
    · rw [(hoth c z hc hz e).1]; exact (M1 c z hc hz).1
  · have a1 := hle 0 s (Or.inl rfl) hs
    have a2 := hle 16 t (Or.inr rfl) htn
    rw [Nat.zero_add] at a1
    omega
  · by_cases e : c = b
    · subst e
      rcases hr1 z hz with ⟨k1, k2, k3, k4⟩ | ⟨k1, k2, k3⟩
      · right
        rw [k4, hLx]
        refine ⟨hx, k1, ?_, by rw [pk_us]; exact h1⟩
        rw [k3]
        exact zg_p_lt (by rw [← k3]; exact hl)
      · rw [k2] at hl
        rcases M3 c z hc hz hl with q | ⟨q1, q2, q3, q4⟩
        · exact Or.inl q
        · right
          rw [k3, hset c (pa (c + z)) hc q1 (Or.inl q4), k2]
          exact ⟨q1, q2, q3, hse' _ q4⟩
    · obtain ⟨o1, o2⟩ := hoth c z hc hz e
      rw [o1] at hl
      rcases M3 c z hc hz hl with q | ⟨q1, q2, q3, q4⟩
      · exact Or.inl q
      · right
        rw [o2, (hoth c (pa (c + z)) hc q1 e).1, o1]
        exact ⟨q1, q2, q3, hse' _ q4⟩
  · have hy2 : c + y ≠ b + x := by
      intro e
      rw [e, pk_us] at k2; exact h1 k2
    rw [hse2 _ hy2] at k2
    by_cases e : c = b
    · subst e
      have hzx : L (c + z) ≤ L (c + x) ∧ L' (c + z) = L (c + z) ∧ L (c + z) ≤ L (c + y) := by
        by_cases e : c + z = c + x
        · have e' : z = x := by omega
          subst e'
          exact ⟨Nat.le_refl _, hset c z hc hz (Or.inr rfl), hmin y hy k2⟩
        · rw [hse2 _ e] at k1
          exact ⟨M4 c z x hc hz hx k1 hse, hset c z hc hz (Or.inl k1), M4 c z y hc hz hy k1 k2⟩
      have := hge y
      rcases hr1 y hy with ⟨q1, q2, q3, q4⟩ | ⟨q1, q2, q3⟩ <;> omega
    · have e' : c + z ≠ b + x := fun q => e (hxx c z hc hz q).1
      rw [hse2 _ e'] at k1
      rw [(hoth c z hc hz e).1, (hoth c y hc hy e).1]
      exact M4 c z y hc hz hy k1 k2
  · by_cases e : c + z = b + x
    · obtain ⟨rfl, rfl⟩ := hxx c z hc hz e
      rw [hLx]
      rcases hr1 y hy with ⟨q1, q2, q3, q4⟩ | ⟨q1, q2, q3⟩
      · rw [q3]; exact Nat.le_refl _
      · rw [q2]; exact q1 k3
    · rw [hse2 _ e] at k1
      have hz' := hset c z hc hz (Or.inl k1)
      rw [hz'] at k2 ⊢
      exact Nat.le_trans (hle c y hc hy) (M5 c z y hc hz hy k1 k2 k3)
  · rcases hB with ⟨_, e, _⟩ | ⟨_, e, _⟩ <;> rw [e] <;> assumption
  · by_cases e : z = x
    · subst e
      have hboth : L' z = L z ∧ L' (16 + z) = L (16 + z) := by
        have q1 : ¬ se (0 + z) = 0 ∨ 0 + z = b + z := by
          by_cases w : z = b + z
          · right; omega
          · left; rw [Nat.zero_add]; rw [hse2 _ w] at k1; exact k1
        have q2 : ¬ se (16 + z) = 0 ∨ 16 + z = b + z := by
          by_cases w : 16 + z = b + z
          · right; omega
          · left; rw [hse2 _ w] at k2; exact k2
        have a1 := hset 0 z (Or.inl rfl) hz q1
        rw [Nat.zero_add] at a1
        exact ⟨a1, hset 16 z (Or.inr rfl) hz q2⟩
      rw [hboth.1, hboth.2]
      rcases hB with ⟨e1, e2, _⟩ | ⟨e1, e2, _⟩ <;> omega
    · have e1 : z ≠ b + x := by omega
      have e2 : 16 + z ≠ b + x := by omega
      rw [hse2 _ e1] at k1
      rw [hse2 _ e2] at k2
      have a1 := hset 0 z (Or.inl rfl) hz (Or.inl (by rw [Nat.zero_add]; exact k1))
      rw [Nat.zero_add] at a1
      rw [a1, hset 16 z (Or.inr rfl) hz (Or.inl k2)]
      exact Nat.le_trans hBB (M6c z hz k1 k2)
  · have hle0 : ∀ z, z < n → L' z ≤ L z := by
      intro z hz
      have := hle 0 z (Or.inl rfl) hz
      rw [Nat.zero_add] at this; exact this
    rcases hB with ⟨_, e1, e2⟩ | ⟨_, e1, e2⟩
    · rw [e1, e2]
      exact ⟨M7a, fun q => Nat.le_trans (zg_p_mono (hle0 m M7a) (hle 16 m (Or.inr rfl) M7a)) (M7b q)⟩
    · rw [e1, e2]
      exact ⟨hx, fun _ => zg_p_mono (hle0 x hx) (hle 16 x (Or.inr rfl) hx)⟩
/-- the end: nothing unsettled lies below the best -/
theorem zg_M_end (hU : ∀ a b, D a b ≤ zg_U) (ht : ∀ a b c, D a c ≤ D a b + D b c) (hself : ∀ a, D a a = 0) (hW : ∀ u v, u < n → v < n → D u v ≤ W (u * 16 + v))
    (hud : ∀ a b, a < n → b < n → a ≠ b → D a b < zg_U → (∃ c, c < n ∧ rk a < rk c ∧ W (a * 16 + c) + D c b = D a b) ∨ (∃ c, c < n ∧ rk b < rk c ∧ D a c + W (c * 16 + b) = D a b))
    (hrk : ∀ x, x < n → rk x < 16) (hs : s < n) (htn : t < n) (h : zg_M n rk W D s t L pa se B m)
    (he : ∀ b x, (b = 0 ∨ b = 16) → x < n → se (b + x) = 0 → B ≤ L (b + x)) : B = D s t := by
  obtain ⟨M1, M2, M3, M4, M5, ⟨M6a, M6b, M6c⟩, M7a, M7b⟩ := h
  refine Classical.byContradiction (fun hne => ?_)
  have hlt : D s t < B := by omega
  have key : ∀ N a b, 32 ≤ N + rk a + rk b → a < n → b < n → ¬ se a = 0 → ¬ se (16 + b) = 0 → L a = D s a → L (16 + b) = D b t → D s a + D a b + D b t = D s t → False := by
    intro N
    induction N with
    | zero =>
      intro a b hN ha hb
      have := hrk a ha
      have := hrk b hb
      omega
    | succ N ih =>
      intro a b hN ha hb sa sb la lb hd
      by_cases c : a = b
      · subst c
        have h1 := M6c a ha sa sb
        have h2 := zg_p_le2 (L a) (L (16 + a))
        rw [hself] at hd
        omega
      · have hab : D a b < zg_U := by omega
        rcases hud a b ha hb c hab with ⟨x, hx, hr, hx2⟩ | ⟨x, hx, hr, hx2⟩
        · have a1 := M5 0 a x (Or.inl rfl) ha hx (by rw [Nat.zero_add]; exact sa) (by rw [Nat.zero_add]; exact la) hr
          rw [Nat.zero_add, Nat.zero_add] at a1
          have a2 := zg_p_le2 (L a) (zg_sw W 0 a x)
          have a3 : zg_sw W 0 a x = W (a * 16 + x) := rfl
          have a4 := (M1 0 x (Or.inl rfl) hx).1
          have a5 : zg_ds D s t 0 x = D s x := rfl
          rw [Nat.zero_add] at a4
          have a6 := ht s x t
          have a7 := ht x b t
          have a8 := ht s a x
          have a9 := hW a x ha hx
          refine ih x b (by omega) hx hb ?_ sb (by omega) lb (by omega)
          intro z
          have := he 0 x (Or.inl rfl) hx (by rw [Nat.zero_add]; exact z)
          rw [Nat.zero_add] at this
          omega
        · have a1 := M5 16 b x (Or.inr rfl) hb hx sb lb hr
          have a2 := zg_p_le2 (L (16 + b)) (zg_sw W 16 b x)
          have a3 : zg_sw W 16 b x = W (x * 16 + b) := rfl
          have a4 := (M1 16 x (Or.inr rfl) hx).1
          have a5 : zg_ds D s t 16 x = D x t := rfl
          have a6 := ht s x t
          have a7 := ht s a x
          have a8 := ht x b t
          have a9 := hW x b hx hb
          refine ih a x (by omega) ha hx sa ?_ la (by omega) (by omega)
          intro z
          have := he 16 x (Or.inr rfl) hx z
          omega
  have s1 : ¬ se s = 0 := by
    intro z
    have := he 0 s (Or.inl rfl) hs (by rw [Nat.zero_add]; exact z)
    rw [Nat.zero_add] at this
    omega
  have s2 : ¬ se (16 + t) = 0 := by
    intro z
    have := he 16 t (Or.inr rfl) htn z
    omega
  exact key 32 s t (by omega) hs htn s1 s2 (by rw [hself]; exact M2.1) (by rw [hself]; exact M2.2) (by rw [hself, hself]; omega)
theorem zg_M_stall (ht : ∀ a b c, D a c ≤ D a b + D b c) (hU : ∀ a b, D a b ≤ zg_U) (hW : ∀ u v, u < n → v < n → D u v ≤ W (u * 16 + v)) (h : zg_M n rk W D s t L pa se B m) {b x y : Nat} (hb : b = 0 ∨ b = 16) (hx : x < n) (hy : y < n)
    (hc : zg_p (L (b + y)) (zg_sw W b y x) < L (b + x)) : L (b + x) ≠ zg_ds D s t b x := by
  have a1 := (h.1 b y hb hy).1
  have a2 := zg_ds_tri (s := s) (t := t) (b := b) ht hW hy hx
  have a3 : zg_ds D s t b x ≤ zg_p (L (b + y)) (zg_sw W b y x) := zg_p_ge (by omega) (zg_ds_U hU b x)
  omega
theorem zg_M_0 (hU : ∀ a b, D a b ≤ zg_U) (hself : ∀ a, D a a = 0) (hs : s < n) (hL : ∀ b x, (b = 0 ∨ b = 16) → x < n → x ≠ zg_src s t b → L (b + x) = zg_U) (hLs : L s = 0) (hLt : L (16 + t) = 0) (hse : ∀ b x, (b = 0 ∨ b = 16) → x < n → se (b + x) = 0) :
    zg_M n rk W D s t L pa se zg_U s := by
  have hsrc : ∀ b, (b = 0 ∨ b = 16) → L (b + zg_src s t b) = 0 ∧ zg_ds D s t b (zg_src s t b) = 0 := by
    intro b hb
    rcases hb with rfl | rfl
    · refine ⟨?_, hself s⟩
      show L (0 + s) = 0
      rw [Nat.zero_add]; exact hLs
    · exact ⟨hLt, hself t⟩
  refine ⟨fun b x hb hx => ?_, ⟨hLs, hLt⟩, fun b x hb hx hl => ?_, fun b x y hb hx hy k => absurd (hse b x hb hx) k, fun b x y hb hx hy k => absurd (hse b x hb hx) k, ⟨hU s t, Nat.le_refl _, fun x hx k => ?_⟩, hs, fun q => by omega⟩
  · by_cases c : x = zg_src s t b
    · rw [c, (hsrc b hb).1, (hsrc b hb).2]; exact ⟨Nat.le_refl _, Nat.zero_le _⟩
    · rw [hL b x hb hx c]
      exact ⟨zg_ds_U hU b x, Nat.le_refl _⟩
  · refine Or.inl (Classical.byContradiction (fun c => ?_))
    rw [hL b x hb hx c] at hl
    omega
  · have := hse 0 x (Or.inl rfl) hx
    rw [Nat.zero_add] at this
    exact absurd this k
end
end
section
/-! ints: arrays of naturals, indices, comparisons; the small methods of X -/
def zi_N (f : Nat → Nat) : Nat → Int32 := fun i => nI (f i)
def zi_L (f : Nat → Nat) : Nat → Int64 := fun i => lN (f i)
theorem zi_ix (a b : Nat) : nI a * 16 + nI b = nI (a * 16 + b) := by
  rw [show (16 : Int32) = nI 16 from rfl, pk_mul, nI_add]
theorem zi_ixc {a b : Nat} (ha : a < 16) (hb : b < 16) : (nI a * 16 + nI b).toNatClampNeg = a * 16 + b := by
  rw [zi_ix, nI_clamp (by omega)]
theorem zi_in {a b : Nat} (ha : a < 16) (hb : b < 16) : vp_in (nI a * 16 + nI b) 256 := by
  rw [zi_ix]; exact vp_in_nI (by omega) (by omega)
theorem zi_U : (4218184000985890816 : Int64) = lN zg_U := by decide
theorem zi_W {W : Nat → Nat} {a b : Nat} (ha : a < 16) (hb : b < 16) : zi_L W (nI a * 16 + nI b).toNatClampNeg = lN (W (a * 16 + b)) := by
  rw [zi_ixc ha hb]; rfl
theorem zi_Lc {L : Nat → Nat} {x : Int32} (a : Nat) (hx : x = nI a) (ha : a < 2 ^ 31) : zi_L L x.toNatClampNeg = lN (L a) := by
  rw [hx, nI_clamp ha]; rfl
theorem zi_Nc {f : Nat → Nat} {x : Int32} (a : Nat) (hx : x = nI a) (ha : a < 2 ^ 31) : zi_N f x.toNatClampNeg = nI (f a) := by
  rw [hx, nI_clamp ha]; rfl
theorem zi_lt63 {a : Nat} (h : a ≤ zg_U) : a < 2 ^ 63 := by have := zg_U_63; omega
theorem zi_le {x y : Int64} {a b : Nat} (hx : x = lN a) (hy : y = lN b) (ha : a ≤ zg_U) (hb : b ≤ zg_U) : x ≤ y ↔ a ≤ b := by
  subst hx hy; exact pk_lLE (zi_lt63 ha) (zi_lt63 hb)
theorem zi_lt {x y : Int64} {a b : Nat} (hx : x = lN a) (hy : y = lN b) (ha : a ≤ zg_U) (hb : b ≤ zg_U) : x < y ↔ a < b := by
  subst hx hy; exact pk_lLT (zi_lt63 ha) (zi_lt63 hb)
theorem zi_eq {x y : Int64} {a b : Nat} (hx : x = lN a) (hy : y = lN b) (ha : a ≤ zg_U) (hb : b ≤ zg_U) : x = y ↔ a = b := by
  subst hx hy; exact pk_lEQ (zi_lt63 ha) (zi_lt63 hb)
theorem zi_uL {W : Nat → Nat} {x : Int32} {y : Int64} {a s : Nat} (hx : x.toNatClampNeg = a) (hy : y = lN s) : vp_updL (zi_L W) x.toNatClampNeg y = zi_L (zg_u W a s) := by
  subst hy; rw [hx]
  funext j
  show (if j = a then lN s else lN (W j)) = lN (if j = a then s else W j)
  split <;> rfl
theorem zi_uN {f : Nat → Nat} {x y : Int32} {a s : Nat} (hx : x.toNatClampNeg = a) (hy : y = nI s) : upd (zi_N f) x.toNatClampNeg y = zi_N (zg_u f a s) := by
  subst hy; rw [hx]
  funext j
  show (if j = a then nI s else nI (f j)) = nI (if j = a then s else f j)
  split <;> rfl
theorem zi_uI {f : Nat → Int32} {x y z : Int32} {a : Nat} (hx : x.toNatClampNeg = a) (hy : y = z) : upd f x.toNatClampNeg y = upd f a z := by
  subst hy; rw [hx]
theorem zi_b0 : vp_nar .boolean 0 = 0 := rfl
theorem zi_b1 : vp_nar .boolean 1 = 1 := rfl
theorem zi_p1 (a : Nat) : nI a + 1 = nI (a + 1) := nI_1 a
theorem zi_uUle {W : Nat → Nat} {a s : Nat} (h : ∀ i, W i ≤ zg_U) (hs : s ≤ zg_U) : ∀ i, zg_u W a s i ≤ zg_U := by
  intro i
  by_cases c : i = a
  · rw [c, zg_us]; exact hs
  · rw [zg_un c]; exact h i
section
variable {n R : Nat} {tl hd ln rk od W L pa sk : Nat → Nat} {va kp pe se pr rr : Nat → Int32} {fu : Int64} {fk fw fl fb me dp rs rc : Int32}
theorem zx_plus {post : Int64 → Prop} {p0 p1 : Int64} {a b : Nat} (e0 : p0 = lN a) (e1 : p1 = lN b) (ha : a ≤ zg_U) (hb : b ≤ zg_U) (h : post (lN (zg_p a b))) : wpX_plus post (fu, fk, fw, (nI n), fl, (nI R), fb, me, dp, rs, rc, (zi_N tl), (zi_N hd), (zi_N ln), (zi_N rk), (zi_N od), pr, (zi_L W), va, kp, pe, (zi_L L), se, (zi_N pa), (zi_N sk), rr) p0 p1 := by
  subst e0 e1
  intro x ex
  rw [lN_add] at ex
  subst ex
  have h63 := zg_U_63
  refine ek_if (d := zg_U ≤ a + b) ?_ (fun c => ?_) (fun c => ?_)
  · rw [zi_U]; exact pk_lLE (by omega) (by omega)
  · have e : zg_p a b = zg_U := by unfold zg_p; rw [if_neg (by omega)]
    rw [e] at h; rw [zi_U]; exact h
  · have e : zg_p a b = a + b := zg_p_of (by omega)
    rw [e] at h; exact h
theorem zx_roadWeight {post : Int64 → Prop} {p : Int32} {r : Nat} (ep : p = nI r) (hr : r < 48) (hl : ln r ≤ 999) (h : post (lN (zg_w ln r))) : wpX_roadWeight post (fu, fk, fw, (nI n), fl, (nI R), fb, me, dp, rs, rc, (zi_N tl), (zi_N hd), (zi_N ln), (zi_N rk), (zi_N od), pr, (zi_L W), va, kp, pe, (zi_L L), se, (zi_N pa), (zi_N sk), rr) p := by
  subst ep
  have ec : zi_N ln (nI r).toNatClampNeg = nI (ln r) := zi_Nc r rfl (by omega)
  refine ⟨vp_in_nI hr (by omega), ek_if (d := ln r = 0) ?_ (fun c => ?_) (fun c => ⟨vp_in_nI hr (by omega), ?_⟩)⟩
  · rw [ec]; exact nI_eq (b := 0) (by omega) (by omega)
  · have e : zg_w ln r = zg_U := if_pos c
    rw [e] at h; rw [zi_U]; exact h
  · have e : zg_w ln r = ln r * 2 ^ 48 + 2 ^ r := if_neg c
    rw [ec, nI_l (by omega), show (48 : Int32) = nI 48 from rfl, wb_shl _ (by omega), show (1 : Int64) = lN 1 from rfl, wb_shl _ (by omega), lN_add, Nat.one_mul, ← e]
    exact h
theorem zx_improve {post : SX → Prop} {p0 p2 : Int32} {p1 : Int64} {a s : Nat} (e0 : p0 = nI a) (e1 : p1 = lN s) (ha : a < 256) (hs : s ≤ zg_U) (hW : ∀ i, W i ≤ zg_U)
    (h : ∀ W' va', (∀ i, W' i ≤ zg_U) → zg_Im W va a s p2 W' va' → post (fu, fk, fw, (nI n), fl, (nI R), fb, me, dp, rs, rc, (zi_N tl), (zi_N hd), (zi_N ln), (zi_N rk), (zi_N od), pr, (zi_L W'), va', kp, pe, (zi_L L), se, (zi_N pa), (zi_N sk), rr)) : wpX_improve post (fu, fk, fw, (nI n), fl, (nI R), fb, me, dp, rs, rc, (zi_N tl), (zi_N hd), (zi_N ln), (zi_N rk), (zi_N od), pr, (zi_L W), va, kp, pe, (zi_L L), se, (zi_N pa), (zi_N sk), rr) p0 p1 p2 := by
  subst e0 e1
  have ec : (nI a).toNatClampNeg = a := nI_clamp (by omega)
  refine ⟨vp_in_nI ha (by omega), ek_if (zi_le (zi_Lc a rfl (by omega)) rfl (hW a) hs) (fun c => h W va hW (Or.inl ⟨c, rfl, rfl⟩)) (fun c => ⟨vp_in_nI ha (by omega), nm_r (zi_uL ec rfl) ⟨vp_in_nI ha (by omega), nm_r (zi_uI ec rfl) ?_⟩⟩)⟩
  exact h _ _ (zi_uUle hW hs) (Or.inr ⟨by omega, rfl, rfl⟩)
theorem zx_isAbove {post : Int32 → Prop} {x m : Nat} (hx : x < n) (hm : m < n) (hn : n ≤ 16) (hr : ∀ i, i < n → rk i ≤ 16) (h1 : x ≠ m → rk m ≤ rk x → post 1) (h0 : ¬ (x ≠ m ∧ rk m ≤ rk x) → post 0) : wpX_isAbove post (fu, fk, fw, (nI n), fl, (nI R), fb, me, dp, rs, rc, (zi_N tl), (zi_N hd), (zi_N ln), (zi_N rk), (zi_N od), pr, (zi_L W), va, kp, pe, (zi_L L), se, (zi_N pa), (zi_N sk), rr) (nI x) (nI m) := by
  have r1 := hr x hx
  have r2 := hr m hm
  refine ek_if (nI_eq (by omega) (by omega)) (fun c => h0 (fun d => d.1 c)) (fun c => ⟨vp_in_nI (by omega) (by omega), vp_in_nI (by omega) (by omega), ek_if (d := rk x < rk m) ?_ (fun d => h0 (by omega)) (fun d => h1 c (by omega))⟩)
  rw [zi_Nc x rfl (by omega), zi_Nc m rfl (by omega)]
  exact nI_ltI (by omega) (by omega)
theorem zx_isKept {post : Int32 → Prop} {u m v : Nat} (hu : u < 16) (hv : v < 16) (h1 : zg_K kp u m v → post 1) (h0 : ¬ zg_K kp u m v → post 0) : wpX_isKept post (fu, fk, fw, (nI n), fl, (nI R), fb, me, dp, rs, rc, (zi_N tl), (zi_N hd), (zi_N ln), (zi_N rk), (zi_N od), pr, (zi_L W), va, kp, pe, (zi_L L), se, (zi_N pa), (zi_N sk), rr) (nI u) (nI m) (nI v) := by
  refine ⟨zi_in hu hv, ?_⟩
  rw [zi_ixc hu hv]
  exact br_c (fun c => h0 (fun k => k c)) (fun c => h1 c)
theorem zx_stepWeight {post : Int64 → Prop} {p : Int32} {b x y : Nat} (ep : p = nI b) (hb : b = 0 ∨ b = 16) (hx : x < 16) (hy : y < 16) (h : post (lN (zg_sw W b x y))) : wpX_stepWeight post (fu, fk, fw, (nI n), fl, (nI R), fb, me, dp, rs, rc, (zi_N tl), (zi_N hd), (zi_N ln), (zi_N rk), (zi_N od), pr, (zi_L W), va, kp, pe, (zi_L L), se, (zi_N pa), (zi_N sk), rr) p (nI x) (nI y) := by
  subst ep
  refine ek_if (d := b = 0) (nI_eq (b := 0) (by omega) (by omega)) (fun c => ⟨zi_in hx hy, ?_⟩) (fun c => ⟨zi_in hy hx, ?_⟩)
  · rw [zi_W hx hy]
    have e : zg_sw W b x y = W (x * 16 + y) := if_pos c
    rw [e] at h; exact h
  · rw [zi_W hy hx]
    have e : zg_sw W b x y = W (y * 16 + x) := if_neg c
    rw [e] at h; exact h
/-- startSide -/
theorem zx_startSide_2 {post : SX → Prop} {b st : Nat} (hn : n ≤ 16) (hb : b = 0 ∨ b = 16) (hst : st < n)
    (h : ∀ L' se', (∀ i, L' i ≤ zg_U) → (∀ x, x < n → x ≠ st → L' (b + x) = zg_U) → L' (b + st) = 0 → (∀ x, x < n → se' (b + x) = 0) → (∀ j, (∀ x, x < n → j ≠ b + x) → L' j = L j ∧ se' j = se j) → post (fu, fk, fw, (nI n), fl, (nI R), fb, me, dp, rs, rc, (zi_N tl), (zi_N hd), (zi_N ln), (zi_N rk), (zi_N od), pr, (zi_L W), va, kp, pe, (zi_L L'), se', (zi_N pa), (zi_N sk), rr)) :
    ∀ (d i : Nat) (L1 : Nat → Nat) (se1 : Nat → Int32), i + d = n → (∀ j, L1 j ≤ zg_U) → (∀ x, x < i → L1 (b + x) = zg_U ∧ se1 (b + x) = 0) → (∀ j, (∀ x, x < n → j ≠ b + x) → L1 j = L j ∧ se1 j = se j) →
      wX_startSide_2 post (nI b) (nI st) fu fk fw (nI n) fl (nI R) fb me dp rs rc (d + 1) (nI i) (zi_N tl) (zi_N hd) (zi_N ln) (zi_N rk) (zi_N od) pr (zi_L W) va kp pe (zi_L L1) se1 (zi_N pa) (zi_N sk) rr := by
  intro d
  induction d with
  | zero =>
    intro i L1 se1 hi hU h1 h2
    have e : nI b + nI st = nI (b + st) := nI_add _ _
    have hi' : i = n := by omega
    subst hi'
    refine br_t (nI_le (by omega) (by omega)) ⟨?_, nm_r (zi_uL (a := b + st) (s := 0) ?_ rfl) ?_⟩
    · rw [e]; exact vp_in_nI (by omega) (by omega)
    · rw [e]; exact nI_clamp (by omega)
    · refine h _ _ (zi_uUle hU (Nat.zero_le _)) (fun x hx hne => ?_) zg_us (fun x hx => (h1 x (by omega)).2) (fun j hj => ?_)
      · rw [zg_un (by omega)]; exact (h1 x hx).1
      · rw [zg_un (hj st hst)]; exact h2 j hj
  | succ d ih =>
    intro i L1 se1 hi hU h1 h2
    have e : nI b + nI i = nI (b + i) := nI_add _ _
    have ec : (nI b + nI i).toNatClampNeg = b + i := by rw [e]; exact nI_clamp (by omega)
    have hin : vp_in (nI b + nI i) 32 := by rw [e]; exact vp_in_nI (by omega) (by omega)
    refine br_f (nI_ge (by omega) (by omega)) ⟨hin, nm_r (zi_uL (s := zg_U) ec zi_U) ⟨hin, nm_r (zi_uI ec zi_b0) (nm_r (nI_1 i) ?_)⟩⟩
    refine ih (i + 1) _ _ (by omega) (zi_uUle hU (Nat.le_refl _)) (fun x hx => ?_) (fun j hj => ?_)
    · by_cases c : x = i
      · subst c; rw [zg_us, pk_us]; exact ⟨rfl, rfl⟩
      · rw [zg_un (by omega), pk_un (by omega)]; exact h1 x (by omega)
    · have := hj i (by omega)
      rw [zg_un this, pk_un this]; exact h2 j hj
theorem zx_startSide {post : SX → Prop} {p : Int32} {b st : Nat} (ep : p = nI b) (hn : n ≤ 16) (hb : b = 0 ∨ b = 16) (hst : st < n) (hL : ∀ i, L i ≤ zg_U)
    (h : ∀ L' se', (∀ i, L' i ≤ zg_U) → (∀ x, x < n → x ≠ st → L' (b + x) = zg_U) → L' (b + st) = 0 → (∀ x, x < n → se' (b + x) = 0) → (∀ j, (∀ x, x < n → j ≠ b + x) → L' j = L j ∧ se' j = se j) → post (fu, fk, fw, (nI n), fl, (nI R), fb, me, dp, rs, rc, (zi_N tl), (zi_N hd), (zi_N ln), (zi_N rk), (zi_N od), pr, (zi_L W), va, kp, pe, (zi_L L'), se', (zi_N pa), (zi_N sk), rr)) :
    wpX_startSide post (fu, fk, fw, (nI n), fl, (nI R), fb, me, dp, rs, rc, (zi_N tl), (zi_N hd), (zi_N ln), (zi_N rk), (zi_N od), pr, (zi_L W), va, kp, pe, (zi_L L), se, (zi_N pa), (zi_N sk), rr) p (nI st) := by
  subst ep
  exact ⟨n + 1, zx_startSide_2 hn hb hst h n 0 L se (by omega) hL (fun x hx => by omega) (fun j _ => ⟨rfl, rfl⟩)⟩
/-- nearest -/
def zx_Nr (n : Nat) (L : Nat → Nat) (se : Nat → Int32) (b : Nat) (r : Int32) (i : Nat) (c : Nat) : Prop :=
  (r = -1 ∧ c = zg_U ∧ ∀ y, y < i → se (b + y) = 0 → zg_U ≤ L (b + y)) ∨
  (∃ x, x < i ∧ x < n ∧ r = nI (b + x) ∧ c = L (b + x) ∧ se (b + x) = 0 ∧ L (b + x) < zg_U ∧ ∀ y, y < i → se (b + y) = 0 → L (b + x) ≤ L (b + y))
theorem zx_nearest_9 {post : Int32 → Prop} {b : Nat} (hn : n ≤ 16) (hb : b = 0 ∨ b = 16) (hL : ∀ i, L i ≤ zg_U) (h : ∀ r c, zx_Nr n L se b r n c → post r) :
    ∀ (d i : Nat) (r : Int32) (c : Nat), i + d = n → zx_Nr n L se b r i c → wX_nearest_9 post (nI b) fu fk fw (nI n) fl (nI R) fb me dp rs rc (zi_N tl) (zi_N hd) (zi_N ln) (zi_N rk) (zi_N od) pr (zi_L W) va kp pe (zi_L L) se (zi_N pa) (zi_N sk) rr (d + 1) r (lN c) (nI i) := by
  intro d
  induction d with
  | zero =>
    intro i r c hi hr
    have hi' : i = n := by omega
    subst hi'
    exact br_t (nI_le (by omega) (by omega)) (h r c hr)
  | succ d ih =>
    intro i r c hi hr
    have e : nI b + nI i = nI (b + i) := nI_add _ _
    have ec : (nI b + nI i).toNatClampNeg = b + i := by rw [e]; exact nI_clamp (by omega)
    have hin : vp_in (nI b + nI i) 32 := by rw [e]; exact vp_in_nI (by omega) (by omega)
    have hcU : c ≤ zg_U := by
      rcases hr with ⟨_, h2, _⟩ | ⟨x, _, _, _, h2, _⟩
      · omega
      · rw [h2]; exact hL _
    refine br_f (nI_ge (by omega) (by omega)) ⟨hin, ek_if (d := se (b + i) = 0) (by rw [ec]) (fun k => ⟨hin, ek_if (d := c ≤ L (b + i)) (zi_le rfl (by rw [ec]; rfl) hcU (hL _)) (fun k2 => nm_r (nI_1 i) ?_) (fun k2 => nm_r e ⟨vp_in_nI (by omega) (by omega), nm_r (zi_Lc (b + i) rfl (by omega)) (nm_r (nI_1 i) ?_)⟩)⟩) (fun k => nm_r (nI_1 i) ?_)⟩
    · refine ih (i + 1) r c (by omega) ?_
      rcases hr with ⟨h1, h2, h3⟩ | ⟨x, h1, h2, h3, h4, h5, h6, h7⟩
      · refine Or.inl ⟨h1, h2, fun y hy hs => ?_⟩
        by_cases q : y = i
        · subst q; omega
        · exact h3 y (by omega) hs
      · refine Or.inr ⟨x, by omega, h2, h3, h4, h5, h6, fun y hy hs => ?_⟩
        by_cases q : y = i
        · subst q; omega
        · exact h7 y (by omega) hs
    · refine ih (i + 1) _ _ (by omega) (Or.inr ⟨i, by omega, by omega, rfl, rfl, k, by omega, fun y hy hs => ?_⟩)
      by_cases q : y = i
      · subst q; exact Nat.le_refl _
      · rcases hr with ⟨h1, h2, h3⟩ | ⟨x, h1, h2, h3, h4, h5, h6, h7⟩
        · have := h3 y (by omega) hs; omega
        · have := h7 y (by omega) hs; omega
    · refine ih (i + 1) r c (by omega) ?_
      rcases hr with ⟨h1, h2, h3⟩ | ⟨x, h1, h2, h3, h4, h5, h6, h7⟩
      · refine Or.inl ⟨h1, h2, fun y hy hs => ?_⟩
        by_cases q : y = i
        · subst q; exact absurd hs k
        · exact h3 y (by omega) hs
      · refine Or.inr ⟨x, by omega, h2, h3, h4, h5, h6, fun y hy hs => ?_⟩
        by_cases q : y = i
        · subst q; exact absurd hs k
        · exact h7 y (by omega) hs
theorem zx_nearest {post : Int32 → Prop} {p : Int32} {b : Nat} (ep : p = nI b) (hn : n ≤ 16) (hb : b = 0 ∨ b = 16) (hL : ∀ i, L i ≤ zg_U)
    (h0 : (∀ y, y < n → se (b + y) = 0 → zg_U ≤ L (b + y)) → post (-1))
    (h1 : ∀ x, x < n → se (b + x) = 0 → L (b + x) < zg_U → (∀ y, y < n → se (b + y) = 0 → L (b + x) ≤ L (b + y)) → post (nI (b + x))) : wpX_nearest post (fu, fk, fw, (nI n), fl, (nI R), fb, me, dp, rs, rc, (zi_N tl), (zi_N hd), (zi_N ln), (zi_N rk), (zi_N od), pr, (zi_L W), va, kp, pe, (zi_L L), se, (zi_N pa), (zi_N sk), rr) p := by
  subst ep
  refine ⟨n + 1, ?_⟩
  rw [zi_U]
  refine zx_nearest_9 hn hb hL (fun r c hr => ?_) n 0 (-1) zg_U (by omega) (Or.inl ⟨rfl, rfl, fun y hy => by omega⟩)
  rcases hr with ⟨rfl, _, k3⟩ | ⟨x, _, k2, rfl, _, k5, k6, k7⟩
  · exact h0 k3
  · exact h1 x k2 k5 k6 k7
end
end
section
/-! witness search and bypass -/
def zx_WS (n : Nat) (W : Nat → Nat) (ab : Nat → Prop) (u : Nat) (L : Nat → Nat) : Prop := ∀ v, v < n → L v < zg_U → zg_Wit n W ab u v (L v)
section
variable {n R : Nat} {tl hd ln rk od W L pa sk : Nat → Nat} {va kp pe se pr rr : Nat → Int32} {fu : Int64} {fk fw fl fb me dp rs rc : Int32}
theorem zx_relaxAbove_2 {post : SX → Prop} {u mid nd : Nat} (hn : n ≤ 16) (hr : ∀ i, i < n → rk i ≤ 16) (hW : ∀ i, W i ≤ zg_U) (hmid : mid < n) (hnd : nd < n)
    (h : ∀ L', (∀ i, L' i ≤ zg_U) → zx_WS n W (fun x => x ≠ mid ∧ rk mid ≤ rk x) u L' → post (fu, fk, fw, (nI n), fl, (nI R), fb, me, dp, rs, rc, (zi_N tl), (zi_N hd), (zi_N ln), (zi_N rk), (zi_N od), pr, (zi_L W), va, kp, pe, (zi_L L'), se, (zi_N pa), (zi_N sk), rr)) :
    ∀ (d i : Nat) (L1 : Nat → Nat), i + d = n → (∀ j, L1 j ≤ zg_U) → zx_WS n W (fun x => x ≠ mid ∧ rk mid ≤ rk x) u L1 →
      wX_relaxAbove_2 post (nI nd) (nI mid) fu fk fw (nI n) fl (nI R) fb me dp rs rc (d + 1) (nI i) (zi_N tl) (zi_N hd) (zi_N ln) (zi_N rk) (zi_N od) pr (zi_L W) va kp pe (zi_L L1) se (zi_N pa) (zi_N sk) rr := by
  intro d
  induction d with
  | zero =>
    intro i L1 hi hU hs
    have hi' : i = n := by omega
    subst hi'
    exact br_t (nI_le (by omega) (by omega)) (h L1 hU hs)
  | succ d ih =>
    intro i L1 hi hU hs
    have hin : i < n := by omega
    refine br_f (nI_ge (by omega) (by omega)) ⟨vp_in_nI (by omega) (by omega), zi_in (by omega) (by omega), zx_plus (zi_Lc nd rfl (by omega)) (zi_W (by omega) (by omega)) (hU _) (hW _) ?_⟩
    refine zx_isAbove hin hmid hn hr (fun c1 c2 => ?_) (fun c => ?_)
    · refine br_f (by decide) ⟨vp_in_nI (by omega) (by omega), ek_if (zi_le (zi_Lc i rfl (by omega)) rfl (hU _) (zg_p_le _ _)) (fun _ => nm_r (nI_1 i) (ih (i + 1) L1 (by omega) hU hs)) (fun c => ⟨vp_in_nI (by omega) (by omega), nm_r (zi_uL (nI_clamp (by omega)) rfl) (nm_r (nI_1 i) ?_)⟩)⟩
      refine ih (i + 1) _ (by omega) (zi_uUle hU (zg_p_le _ _)) (fun v hv hl => ?_)
      by_cases q : v = i
      · subst q
        rw [zg_us] at hl ⊢
        have e := zg_p_lt hl
        refine zg_Wit_snoc (hs nd hnd (by omega)) hin ⟨c1, c2⟩ ?_
        omega
      · rw [zg_un q] at hl ⊢
        exact hs v hv hl
    · exact br_t rfl (nm_r (nI_1 i) (ih (i + 1) L1 (by omega) hU hs))
theorem zx_searchWitness_9 {post : SX → Prop} {u mid : Nat} {bd : Nat} (hn : n ≤ 16) (hr : ∀ i, i < n → rk i ≤ 16) (hW : ∀ i, W i ≤ zg_U) (hbd : bd ≤ zg_U) (hmid : mid < n)
    (h : ∀ L' se', (∀ i, L' i ≤ zg_U) → zx_WS n W (fun x => x ≠ mid ∧ rk mid ≤ rk x) u L' → post (fu, fk, fw, (nI n), fl, (nI R), fb, me, dp, rs, rc, (zi_N tl), (zi_N hd), (zi_N ln), (zi_N rk), (zi_N od), pr, (zi_L W), va, kp, pe, (zi_L L'), se', (zi_N pa), (zi_N sk), rr)) :
    ∀ (d i : Nat) (L1 : Nat → Nat) (se1 : Nat → Int32), i + d = 8 → (∀ j, L1 j ≤ zg_U) → zx_WS n W (fun x => x ≠ mid ∧ rk mid ≤ rk x) u L1 →
      wX_searchWitness_9 post (nI mid) (lN bd) (d + 1) (nI i) fu fk fw (nI n) fl (nI R) fb me dp rs rc (zi_N tl) (zi_N hd) (zi_N ln) (zi_N rk) (zi_N od) pr (zi_L W) va kp pe (zi_L L1) se1 (zi_N pa) (zi_N sk) rr := by
  intro d
  induction d with
  | zero =>
    intro i L1 se1 hi hU hs
    have hi' : i = 8 := by omega
    subst hi'
    exact br_t (nI_le (a := 8) (b := 8) (by omega) (by omega)) (h L1 se1 hU hs)
  | succ d ih =>
    intro i L1 se1 hi hU hs
    refine br_f (nI_ge (b := 8) (by omega) (by omega)) (zx_nearest (b := 0) rfl hn (Or.inl rfl) hU (fun _ => br_t (by decide) (h L1 se1 hU hs)) (fun x hx k1 k2 k3 => br_f (nI_pos (by omega)) ⟨vp_in_nI (by omega) (by omega), ?_⟩))
    refine ek_if (zi_lt (zi_Lc (0 + x) rfl (by omega)) rfl (hU _) hbd) (fun c => ⟨vp_in_nI (by omega) (by omega), nm_r (zi_uI (nI_clamp (by omega)) zi_b1) ⟨n + 1, ?_⟩⟩) (fun c => h L1 se1 hU hs)
    rw [Nat.zero_add] at *
    refine zx_relaxAbove_2 (u := u) hn hr hW hmid hx (fun L' hU' hs' => nm_r (nI_1 i) (ih (i + 1) L' _ (by omega) hU' hs')) n 0 L1 (by omega) hU hs
theorem zx_searchWitness {post : SX → Prop} {u mid : Nat} {bd : Nat} (hn : n ≤ 16) (hr : ∀ i, i < n → rk i ≤ 16) (hW : ∀ i, W i ≤ zg_U) (hL : ∀ i, L i ≤ zg_U) (hbd : bd ≤ zg_U) (hmid : mid < n) (hu : u < n)
    (h : ∀ L' se', (∀ i, L' i ≤ zg_U) → zx_WS n W (fun x => x ≠ mid ∧ rk mid ≤ rk x) u L' → post (fu, fk, fw, (nI n), fl, (nI R), fb, me, dp, rs, rc, (zi_N tl), (zi_N hd), (zi_N ln), (zi_N rk), (zi_N od), pr, (zi_L W), va, kp, pe, (zi_L L'), se', (zi_N pa), (zi_N sk), rr)) :
    wpX_searchWitness post (fu, fk, fw, (nI n), fl, (nI R), fb, me, dp, rs, rc, (zi_N tl), (zi_N hd), (zi_N ln), (zi_N rk), (zi_N od), pr, (zi_L W), va, kp, pe, (zi_L L), se, (zi_N pa), (zi_N sk), rr) (nI u) (nI mid) (lN bd) := by
  refine zx_startSide (b := 0) rfl hn (Or.inl rfl) hu hL (fun L' se' k1 k2 k3 k4 k5 => ⟨9, ?_⟩)
  refine zx_searchWitness_9 (u := u) hn hr hW hbd hmid h 8 0 L' se' rfl k1 (fun v hv hl => ?_)
  by_cases c : v = u
  · subst c; exact zg_Wit_nil _ _
  · have := k2 v hv c
    rw [Nat.zero_add] at this
    omega
theorem zx_witnessBound_5 {post : Int64 → Prop} {u mid : Nat} (hn : n ≤ 16) (hr : ∀ i, i < n → rk i ≤ 16) (hW : ∀ i, W i ≤ zg_U) (hP : zg_P n W) (hmid : mid < n) (hu : u < n)
    (h : ∀ bd, bd ≤ zg_U → (bd = 0 → ∀ v, v < n → v ≠ u → v ≠ mid → rk mid ≤ rk v → ¬ zg_K kp u mid v → W (u * 16 + v) ≤ zg_p (W (u * 16 + mid)) (W (mid * 16 + v))) → post (lN bd)) :
    ∀ (d i bd : Nat), i + d = n → bd ≤ zg_U → (bd = 0 → ∀ v, v < i → v ≠ u → v ≠ mid → rk mid ≤ rk v → ¬ zg_K kp u mid v → W (u * 16 + v) ≤ zg_p (W (u * 16 + mid)) (W (mid * 16 + v))) →
      wX_witnessBound_5 post (nI u) (nI mid) fu fk fw (nI n) fl (nI R) fb me dp rs rc (zi_N tl) (zi_N hd) (zi_N ln) (zi_N rk) (zi_N od) pr (zi_L W) va kp pe (zi_L L) se (zi_N pa) (zi_N sk) rr (d + 1) (lN bd) (nI i) := by
  intro d
  induction d with
  | zero =>
    intro i bd hi hb hz
    have hi' : i = n := by omega
    subst hi'
    exact br_t (nI_le (by omega) (by omega)) (h bd hb hz)
  | succ d ih =>
    intro i bd hi hb hz
    have hin : i < n := by omega
    have go : (bd = 0 → i ≠ u → i ≠ mid → rk mid ≤ rk i → ¬ zg_K kp u mid i → W (u * 16 + i) ≤ zg_p (W (u * 16 + mid)) (W (mid * 16 + i))) → wX_witnessBound_5 post (nI u) (nI mid) fu fk fw (nI n) fl (nI R) fb me dp rs rc (zi_N tl) (zi_N hd) (zi_N ln) (zi_N rk) (zi_N od) pr (zi_L W) va kp pe (zi_L L) se (zi_N pa) (zi_N sk) rr (d + 1) (lN bd) (nI (i + 1)) := by
      intro hq
      refine ih (i + 1) bd (by omega) hb (fun e v hv => ?_)
      by_cases c : v = i
      · subst c; exact hq e
      · exact hz e v (by omega)
    refine br_f (nI_ge (by omega) (by omega)) (ek_if (nI_eq (by omega) (by omega)) (fun c => nm_r (nI_1 i) (go (fun _ c' => absurd c c'))) (fun c => zx_isAbove hin hmid hn hr (fun c1 c2 => br_f (by decide) (zx_isKept (by omega) (by omega) (fun k => br_f (by decide) (nm_r (nI_1 i) (go (fun _ _ _ _ k' => absurd k k')))) (fun k => br_t rfl ⟨zi_in (by omega) (by omega), zi_in (by omega) (by omega), zx_plus (zi_W (by omega) (by omega)) (zi_W (by omega) (by omega)) (hW _) (hW _) ⟨zi_in (by omega) (by omega), ?_⟩⟩))) (fun k => br_t rfl (nm_r (nI_1 i) (go (fun _ _ k1 k2 => absurd ⟨k1, k2⟩ k))))))
    refine ek_if (zi_le (zi_W (by omega) (by omega)) rfl (hW _) (zg_p_le _ _)) (fun k2 => nm_r (nI_1 i) (go (fun _ _ _ _ _ => k2))) (fun k2 => ek_if (zi_le rfl rfl (zg_p_le _ _) hb) (fun k3 => nm_r (nI_1 i) (go (fun e => ?_))) (fun k3 => nm_r (nI_1 i) (ih (i + 1) _ (by omega) (zg_p_le _ _) (fun e => ?_))))
    · have := zg_p_pos (b := W (mid * 16 + i)) (hP u mid hu hmid)
      omega
    · have := zg_p_pos (b := W (mid * 16 + i)) (hP u mid hu hmid)
      omega
/-- one turn of bypassFrom's loop -/
theorem zx_bf_it {post : Int32 → SX → Prop} {u mid v N : Nat} {ad x6 : Int32} (hn : n ≤ 16) (hr : ∀ i, i < n → rk i ≤ 16) (hW : ∀ i, W i ≤ zg_U) (hL : ∀ i, L i ≤ zg_U) (hu : u < n) (hmid : mid < n) (hv : v < n)
    (h0 : (v ≠ u → v ≠ mid → rk mid ≤ rk v → W (u * 16 + v) ≤ zg_p (W (u * 16 + mid)) (W (mid * 16 + v)) ∨ (zg_p (W (u * 16 + mid)) (W (mid * 16 + v)) < W (u * 16 + v) ∧ ¬ zg_K kp u mid v ∧ L v ≤ zg_p (W (u * 16 + mid)) (W (mid * 16 + v)))) → wX_bypassFrom_29 post (nI u) (nI mid) ad N x6 (nI (v + 1)) fu fk fw (nI n) fl (nI R) fb me dp rs rc (zi_N tl) (zi_N hd) (zi_N ln) (zi_N rk) (zi_N od) pr (zi_L W) va kp pe (zi_L L) se (zi_N pa) (zi_N sk) rr)
    (h1 : ad = 0 → wX_bypassFrom_29 post (nI u) (nI mid) ad N (x6 + 1) (nI (v + 1)) fu fk fw (nI n) fl (nI R) fb me dp rs rc (zi_N tl) (zi_N hd) (zi_N ln) (zi_N rk) (zi_N od) pr (zi_L W) va kp pe (zi_L L) se (zi_N pa) (zi_N sk) rr)
    (h2 : ¬ ad = 0 → v ≠ u → v ≠ mid → rk mid ≤ rk v → zg_p (W (u * 16 + mid)) (W (mid * 16 + v)) < W (u * 16 + v) →
      wX_bypassFrom_29 post (nI u) (nI mid) ad N (x6 + 1) (nI (v + 1)) fu fk fw (nI n) fl (nI R) fb me dp rs rc (zi_N tl) (zi_N hd) (zi_N ln) (zi_N rk) (zi_N od) pr (zi_L (zg_u W (u * 16 + v) (zg_p (W (u * 16 + mid)) (W (mid * 16 + v))))) (upd va (u * 16 + v) (-1 - nI mid)) (zg_kset kp (u * 16 + v) mid) pe (zi_L L) se (zi_N pa) (zi_N sk) rr) :
    wX_bypassFrom_29 post (nI u) (nI mid) ad (N + 1) x6 (nI v) fu fk fw (nI n) fl (nI R) fb me dp rs rc (zi_N tl) (zi_N hd) (zi_N ln) (zi_N rk) (zi_N od) pr (zi_L W) va kp pe (zi_L L) se (zi_N pa) (zi_N sk) rr := by
  have tk : v ≠ u → v ≠ mid → rk mid ≤ rk v → zg_p (W (u * 16 + mid)) (W (mid * 16 + v)) < W (u * 16 + v) → wX_bypassFrom_137 post (wX_bypassFrom_29 post (nI u) (nI mid) ad N) (nI u) (nI mid) ad x6 (nI v) (lN (zg_p (W (u * 16 + mid)) (W (mid * 16 + v)))) fu fk fw (nI n) fl (nI R) fb me dp rs rc (zi_N tl) (zi_N hd) (zi_N ln) (zi_N rk) (zi_N od) pr (zi_L W) va kp pe (zi_L L) se (zi_N pa) (zi_N sk) rr := by
    intro c1 c2 c3 c4
    refine nm_e (br_c (fun c => nm_r (nI_1 v) (h1 c)) (fun c => ⟨zi_in (by omega) (by omega), zi_in (by omega) (by omega), nm_r (e' := zg_kset kp (u * 16 + v) mid) ?_ ?_⟩))
    · rw [zi_ixc (by omega) (by omega)]; rfl
    · refine zx_improve (zi_ix u v) rfl (by omega) (zg_p_le _ _) hW (fun W' va' k1 k2 => nm_r (nI_1 v) ?_)
      rcases k2 with ⟨k, _⟩ | ⟨_, rfl, rfl⟩
      · omega
      · exact h2 c c1 c2 c3 c4
  have sk' : (v ≠ u → v ≠ mid → rk mid ≤ rk v → W (u * 16 + v) ≤ zg_p (W (u * 16 + mid)) (W (mid * 16 + v)) ∨ (zg_p (W (u * 16 + mid)) (W (mid * 16 + v)) < W (u * 16 + v) ∧ ¬ zg_K kp u mid v ∧ L v ≤ zg_p (W (u * 16 + mid)) (W (mid * 16 + v)))) → wX_bypassFrom_105 post (wX_bypassFrom_29 post (nI u) (nI mid) ad N) (nI u) (nI mid) ad x6 (nI v) (lN (zg_p (W (u * 16 + mid)) (W (mid * 16 + v)))) fu fk fw (nI n) fl (nI R) fb me dp rs rc (zi_N tl) (zi_N hd) (zi_N ln) (zi_N rk) (zi_N od) pr (zi_L W) va kp pe (zi_L L) se (zi_N pa) (zi_N sk) rr :=
    fun q => br_t rfl (nm_r (nI_1 v) (h0 q))
  refine br_f (nI_ge (by omega) (by omega)) ⟨zi_in (by omega) (by omega), zi_in (by omega) (by omega), zx_plus (zi_W (by omega) (by omega)) (zi_W (by omega) (by omega)) (hW _) (hW _) ?_⟩
  refine ek_if (nI_eq (by omega) (by omega)) (fun c => sk' (fun k => absurd c k)) (fun c => zx_isAbove hv hmid hn hr (fun c1 c2 => br_f (by decide) ⟨zi_in (by omega) (by omega), ?_⟩) (fun k => br_t rfl (sk' (fun _ k1 k2 => absurd ⟨k1, k2⟩ k))))
  refine ek_if (zi_le (zi_W (by omega) (by omega)) rfl (hW _) (zg_p_le _ _)) (fun k => sk' (fun _ _ _ => Or.inl k)) (fun k => br_f (by decide) (zx_isKept (by omega) (by omega) (fun k2 => br_f (by decide) (tk c c1 c2 (by omega))) (fun k2 => br_t rfl ⟨vp_in_nI (by omega) (by omega), ?_⟩)))
  exact ek_if (zi_le (zi_Lc v rfl (by omega)) rfl (hL _) (zg_p_le _ _)) (fun k3 => nm_r (nI_1 v) (h0 (fun _ _ _ => Or.inr ⟨by omega, k2, k3⟩))) (fun k3 => tk c c1 c2 (by omega))
/-- bypassFrom without adding -/
theorem zx_bf0 {post : Int32 → SX → Prop} {u mid : Nat} (hn : n ≤ 16) (hr : ∀ i, i < n → rk i ≤ 16) (hW : ∀ i, W i ≤ zg_U) (hL : ∀ i, L i ≤ zg_U) (hu : u < n) (hmid : mid < n) (h : ∀ r, post r (fu, fk, fw, (nI n), fl, (nI R), fb, me, dp, rs, rc, (zi_N tl), (zi_N hd), (zi_N ln), (zi_N rk), (zi_N od), pr, (zi_L W), va, kp, pe, (zi_L L), se, (zi_N pa), (zi_N sk), rr)) :
    ∀ (d v : Nat) (x6 : Int32), v + d = n → wX_bypassFrom_29 post (nI u) (nI mid) 0 (d + 1) x6 (nI v) fu fk fw (nI n) fl (nI R) fb me dp rs rc (zi_N tl) (zi_N hd) (zi_N ln) (zi_N rk) (zi_N od) pr (zi_L W) va kp pe (zi_L L) se (zi_N pa) (zi_N sk) rr := by
  intro d
  induction d with
  | zero =>
    intro v x6 hi
    have hi' : v = n := by omega
    subst hi'
    exact br_t (nI_le (by omega) (by omega)) (h _)
  | succ d ih =>
    intro v x6 hi
    exact zx_bf_it hn hr hW hL hu hmid (by omega) (fun _ => ih (v + 1) _ (by omega)) (fun _ => ih (v + 1) _ (by omega)) (fun c => absurd rfl c)
theorem zx_bypassFrom0 {post : Int32 → SX → Prop} {u mid : Nat} (hn : n ≤ 16) (hr : ∀ i, i < n → rk i ≤ 16) (hW : ∀ i, W i ≤ zg_U) (hL : ∀ i, L i ≤ zg_U) (hP : zg_P n W) (hu : u < n) (hmid : mid < n)
    (h : ∀ r L' se', (∀ i, L' i ≤ zg_U) → post r (fu, fk, fw, (nI n), fl, (nI R), fb, me, dp, rs, rc, (zi_N tl), (zi_N hd), (zi_N ln), (zi_N rk), (zi_N od), pr, (zi_L W), va, kp, pe, (zi_L L'), se', (zi_N pa), (zi_N sk), rr)) : wpX_bypassFrom post (fu, fk, fw, (nI n), fl, (nI R), fb, me, dp, rs, rc, (zi_N tl), (zi_N hd), (zi_N ln), (zi_N rk), (zi_N od), pr, (zi_L W), va, kp, pe, (zi_L L), se, (zi_N pa), (zi_N sk), rr) (nI u) (nI mid) 0 := by
  refine ⟨n + 1, zx_witnessBound_5 hn hr hW hP hmid hu (fun bd hb _ => ?_) n 0 0 (by omega) (Nat.zero_le _) (fun _ v hv => by omega)⟩
  refine br_c (fun _ => ⟨n + 1, zx_bf0 hn hr hW hL hu hmid (fun r => h r L se hL) n 0 0 (by omega)⟩) (fun _ => ?_)
  exact zx_searchWitness hn hr hW hL hb hmid hu (fun L' se' k1 _ => ⟨n + 1, zx_bf0 hn hr hW k1 hu hmid (fun r => h r L' se' k1) n 0 0 (by omega)⟩)
theorem zx_bypass0 {post : Int32 → SX → Prop} {mid : Nat} (hn : n ≤ 16) (hr : ∀ i, i < n → rk i ≤ 16) (hW : ∀ i, W i ≤ zg_U) (hP : zg_P n W) (hmid : mid < n)
    (h : ∀ r L' se', (∀ i, L' i ≤ zg_U) → post r (fu, fk, fw, (nI n), fl, (nI R), fb, me, dp, rs, rc, (zi_N tl), (zi_N hd), (zi_N ln), (zi_N rk), (zi_N od), pr, (zi_L W), va, kp, pe, (zi_L L'), se', (zi_N pa), (zi_N sk), rr)) :
    ∀ (d i : Nat) (x3 : Int32) (L1 : Nat → Nat) (se1 : Nat → Int32), i + d = n → (∀ j, L1 j ≤ zg_U) → wX_bypass_5 post (nI mid) 0 (d + 1) x3 (nI i) fu fk fw (nI n) fl (nI R) fb me dp rs rc (zi_N tl) (zi_N hd) (zi_N ln) (zi_N rk) (zi_N od) pr (zi_L W) va kp pe (zi_L L1) se1 (zi_N pa) (zi_N sk) rr := by
  intro d
  induction d with
  | zero =>
    intro i x3 L1 se1 hi hU
    have hi' : i = n := by omega
    subst hi'
    exact br_t (nI_le (by omega) (by omega)) (h _ _ _ hU)
  | succ d ih =>
    intro i x3 L1 se1 hi hU
    refine br_f (nI_ge (by omega) (by omega)) (zx_isAbove (by omega) hmid hn hr (fun c1 c2 => br_f (by decide) ⟨zi_in (by omega) (by omega), ?_⟩) (fun _ => br_t rfl (nm_r (nI_1 i) (ih (i + 1) _ _ _ (by omega) hU))))
    exact br_c (fun _ => nm_r (nI_1 i) (ih (i + 1) _ _ _ (by omega) hU)) (fun _ => zx_bypassFrom0 hn hr hW hU hP (by omega) hmid (fun r L' se' k => nm_e (nm_r (nI_1 i) (ih (i + 1) _ _ _ (by omega) k))))
end
end
section
/-! bypass with adding; contraction; build -/
theorem zg_By_skipS {n mid : Nat} {ab : Nat → Prop} {dn S : Nat → Nat → Prop} {W W' : Nat → Nat} {va kp va' kp' : Nat → Int32} (h : zg_By n ab mid dn W va kp W' va' kp')
    (hs : ∀ u v, u < n → v < n → S u v → ab u → ab v → u ≠ v → W' (u * 16 + v) ≤ zg_p (W (u * 16 + mid)) (W (mid * 16 + v))) :
    zg_By n ab mid (fun a b => dn a b ∨ S a b) W va kp W' va' kp' := by
  refine ⟨fun a b ha hb hn => h.1 a b ha hb (fun c => hn ⟨Or.inl c.1, c.2⟩), h.2.1, h.2.2.1, fun a b ha hb hd k1 k2 k3 => ?_, h.2.2.2.2⟩
  rcases hd with hd | hd
  · exact h.2.2.2.1 a b ha hb hd k1 k2 k3
  · have c := hs a b ha hb hd k1 k2 k3
    exact ⟨fun _ => c, zg_Wit_one hb k2 c⟩
theorem zg_By_P {n mid : Nat} {ab : Nat → Prop} {dn : Nat → Nat → Prop} {W W' : Nat → Nat} {va kp va' kp' : Nat → Int32} (h : zg_By n ab mid dn W va kp W' va' kp') (hP : zg_P n W) (hmid : mid < n) : zg_P n W' := by
  intro u v hu hv
  rcases h.2.2.2.2 u v hu hv with ⟨e1, _⟩ | ⟨e1, _⟩
  · rw [e1]; exact hP u v hu hv
  · rw [e1]; exact zg_p_pos (hP u mid hu hmid)
def zx_dn (i j : Nat) : Nat → Nat → Prop := fun a b => a < i ∨ (a = i ∧ b < j)
section
variable {n R : Nat} {tl hd ln rk od W L pa sk : Nat → Nat} {va kp pe se pr rr : Nat → Int32} {fu : Int64} {fk fw fl fb me dp rs rc : Int32}
theorem zx_bf1 {post : Int32 → SX → Prop} {u mid : Nat} (hn : n ≤ 16) (hr : ∀ i, i < n → rk i ≤ 16) (hL : ∀ i, L i ≤ zg_U) (hu : u < n) (hmid : mid < n) (hau : u ≠ mid ∧ rk mid ≤ rk u)
    (h : ∀ r W' va' kp', (∀ i, W' i ≤ zg_U) → zg_By n (fun x => x ≠ mid ∧ rk mid ≤ rk x) mid (zx_dn u n) W va kp W' va' kp' → post r (fu, fk, fw, (nI n), fl, (nI R), fb, me, dp, rs, rc, (zi_N tl), (zi_N hd), (zi_N ln), (zi_N rk), (zi_N od), pr, (zi_L W'), va', kp', pe, (zi_L L), se, (zi_N pa), (zi_N sk), rr)) :
    ∀ (d v : Nat) (x6 : Int32) (W1 : Nat → Nat) (va1 kp1 : Nat → Int32), v + d = n → (∀ i, W1 i ≤ zg_U) → zg_By n (fun x => x ≠ mid ∧ rk mid ≤ rk x) mid (zx_dn u v) W va kp W1 va1 kp1 →
      (∀ y, y < n → v ≤ y → y ≠ u → y ≠ mid → rk mid ≤ rk y → ¬ zg_K kp1 u mid y → zg_p (W1 (u * 16 + mid)) (W1 (mid * 16 + y)) < W1 (u * 16 + y) → L y < zg_U → zg_Wit n W1 (fun x => x ≠ mid ∧ rk mid ≤ rk x) u y (L y)) →
      wX_bypassFrom_29 post (nI u) (nI mid) 1 (d + 1) x6 (nI v) fu fk fw (nI n) fl (nI R) fb me dp rs rc (zi_N tl) (zi_N hd) (zi_N ln) (zi_N rk) (zi_N od) pr (zi_L W1) va1 kp1 pe (zi_L L) se (zi_N pa) (zi_N sk) rr := by
  intro d
  induction d with
  | zero =>
    intro v x6 W1 va1 kp1 hi hU hB hG
    have hi' : v = n := by omega
    subst hi'
    exact br_t (nI_le (by omega) (by omega)) (h _ _ _ _ hU hB)
  | succ d ih =>
    intro v x6 W1 va1 kp1 hi hU hB hG
    have hv : v < n := by omega
    have hnm : ¬ (mid ≠ mid ∧ rk mid ≤ rk mid) := fun c => c.1 rfl
    have e1 : W1 (u * 16 + mid) = W (u * 16 + mid) := zg_By_m1 hB hmid hnm hu
    have e2 : ∀ y, y < n → W1 (mid * 16 + y) = W (mid * 16 + y) := fun y hy => zg_By_m2 hB hmid hnm hy
    have hdn : ∀ a b, a < n → b < n → ((zx_dn u v a b ∨ (a = u ∧ b = v)) ↔ zx_dn u (v + 1) a b) := by
      intro a b _ _
      unfold zx_dn
      omega
    refine zx_bf_it hn hr hU hL hu hmid hv (fun c => ?_) (fun c => absurd c (by decide)) (fun _ c1 c2 c3 c4 => ?_)
    · refine ih (v + 1) _ W1 va1 kp1 (by omega) hU (zg_By_congr (zg_By_skip hB hv (fun k1 k2 k3 => ?_)) hdn) (fun y hy hvy => hG y hy (by omega))
      rw [← e1, ← e2 v hv]
      rcases c (fun e => k3 e.symm) k2.1 k2.2 with c | ⟨c0, c1, c2⟩
      · exact Or.inl c
      · exact Or.inr ⟨c1, zg_Wit_le (hG v hv (Nat.le_refl _) (fun e => k3 e.symm) k2.1 k2.2 c1 c0 (by have := hU (u * 16 + v); omega)) c2⟩
    · have hadd := zg_By_congr (zg_By_add hB hn hmid hv hau ⟨c2, c3⟩ (fun e => c1 e.symm) (by rw [← e1, ← e2 v hv]; omega)) hdn
      rw [e1, e2 v hv]
      refine ih (v + 1) _ _ _ _ (by omega) (zi_uUle hU (zg_p_le _ _)) hadd (fun y hy hvy k1 k2 k3 k4 k5 k6 => ?_)
      rw [e1, e2 v hv] at c4
      have ne1 : u * 16 + mid ≠ u * 16 + v := by omega
      have ne2 : mid * 16 + y ≠ u * 16 + v := by have := hau.1; omega
      have ne3 : u * 16 + y ≠ u * 16 + v := by omega
      rw [zg_un ne1, zg_un ne2, zg_un ne3] at k5
      have k4' : ¬ zg_K kp1 u mid y := fun k => k4 ((zg_K_set (by omega) (by omega) (by omega) (by omega)).mpr (Or.inl k))
      refine zg_Wit_mono hu (fun a b ha hb => ?_) (fun _ _ p => p) (hG y hy (by omega) k1 k2 k3 k4' k5 k6)
      by_cases q : a * 16 + b = u * 16 + v
      · rw [q, zg_us]; omega
      · rw [zg_un q]; exact Nat.le_refl _
theorem zx_bypassFrom1 {post : Int32 → SX → Prop} {u mid : Nat} {W1 : Nat → Nat} {va1 kp1 : Nat → Int32} (hn : n ≤ 16) (hr : ∀ i, i < n → rk i ≤ 16) (hW1 : ∀ i, W1 i ≤ zg_U) (hL : ∀ i, L i ≤ zg_U) (hP : zg_P n W) (hu : u < n) (hmid : mid < n) (hau : u ≠ mid ∧ rk mid ≤ rk u)
    (hB : zg_By n (fun x => x ≠ mid ∧ rk mid ≤ rk x) mid (zx_dn u 0) W va kp W1 va1 kp1)
    (h : ∀ r W' va' kp' L' se', (∀ i, W' i ≤ zg_U) → (∀ i, L' i ≤ zg_U) → zg_By n (fun x => x ≠ mid ∧ rk mid ≤ rk x) mid (zx_dn u n) W va kp W' va' kp' → post r (fu, fk, fw, (nI n), fl, (nI R), fb, me, dp, rs, rc, (zi_N tl), (zi_N hd), (zi_N ln), (zi_N rk), (zi_N od), pr, (zi_L W'), va', kp', pe, (zi_L L'), se', (zi_N pa), (zi_N sk), rr)) :
    wpX_bypassFrom post (fu, fk, fw, (nI n), fl, (nI R), fb, me, dp, rs, rc, (zi_N tl), (zi_N hd), (zi_N ln), (zi_N rk), (zi_N od), pr, (zi_L W1), va1, kp1, pe, (zi_L L), se, (zi_N pa), (zi_N sk), rr) (nI u) (nI mid) 1 := by
  have hP1 := zg_By_P hB hP hmid
  refine ⟨n + 1, zx_witnessBound_5 hn hr hW1 hP1 hmid hu (fun bd hb hz => ?_) n 0 0 (by omega) (Nat.zero_le _) (fun _ v hv => by omega)⟩
  refine ek_if (d := bd ≤ 0) (zi_le (b := 0) rfl rfl hb (Nat.zero_le _)) (fun c => ⟨n + 1, ?_⟩) (fun _ => ?_)
  · refine zx_bf1 hn hr hL hu hmid hau (fun r W' va' kp' k1 k2 => h r W' va' kp' L se k1 hL k2) n 0 0 W1 va1 kp1 (by omega) hW1 hB (fun y hy _ k1 k2 k3 k4 k5 _ => ?_)
    have := hz (by omega) y hy k1 k2 k3 k4
    omega
  · refine zx_searchWitness hn hr hW1 hL hb hmid hu (fun L' se' q1 q2 => ⟨n + 1, ?_⟩)
    exact zx_bf1 hn hr q1 hu hmid hau (fun r W' va' kp' k1 k2 => h r W' va' kp' L' se' k1 q1 k2) n 0 0 W1 va1 kp1 (by omega) hW1 hB (fun y hy _ _ _ _ _ _ k6 => q2 y hy k6)
theorem zx_bypass1 {post : Int32 → SX → Prop} {mid : Nat} (hn : n ≤ 16) (hr : ∀ i, i < n → rk i ≤ 16) (hP : zg_P n W) (hmid : mid < n)
    (h : ∀ r W' va' kp' L' se', (∀ i, W' i ≤ zg_U) → (∀ i, L' i ≤ zg_U) → zg_By n (fun x => x ≠ mid ∧ rk mid ≤ rk x) mid (fun _ _ => True) W va kp W' va' kp' → post r (fu, fk, fw, (nI n), fl, (nI R), fb, me, dp, rs, rc, (zi_N tl), (zi_N hd), (zi_N ln), (zi_N rk), (zi_N od), pr, (zi_L W'), va', kp', pe, (zi_L L'), se', (zi_N pa), (zi_N sk), rr)) :
    ∀ (d i : Nat) (x3 : Int32) (W1 : Nat → Nat) (va1 kp1 : Nat → Int32) (L1 : Nat → Nat) (se1 : Nat → Int32), i + d = n → (∀ j, W1 j ≤ zg_U) → (∀ j, L1 j ≤ zg_U) → zg_By n (fun x => x ≠ mid ∧ rk mid ≤ rk x) mid (zx_dn i 0) W va kp W1 va1 kp1 →
      wX_bypass_5 post (nI mid) 1 (d + 1) x3 (nI i) fu fk fw (nI n) fl (nI R) fb me dp rs rc (zi_N tl) (zi_N hd) (zi_N ln) (zi_N rk) (zi_N od) pr (zi_L W1) va1 kp1 pe (zi_L L1) se1 (zi_N pa) (zi_N sk) rr := by
  intro d
  induction d with
  | zero =>
    intro i x3 W1 va1 kp1 L1 se1 hi hU hU2 hB
    have hi' : i = n := by omega
    subst hi'
    refine br_t (nI_le (by omega) (by omega)) (h _ _ _ _ _ _ hU hU2 (zg_By_congr hB (fun a b ha hb => ?_)))
    unfold zx_dn
    exact ⟨fun _ => trivial, fun _ => Or.inl ha⟩
  | succ d ih =>
    intro i x3 W1 va1 kp1 L1 se1 hi hU hU2 hB
    have hdn : ∀ a b, a < n → b < n → ((zx_dn i 0 a b ∨ a = i) ↔ zx_dn (i + 1) 0 a b) := by
      intro a b _ _
      unfold zx_dn
      omega
    have hdn2 : ∀ a b, a < n → b < n → (zx_dn i n a b ↔ zx_dn (i + 1) 0 a b) := by
      intro a b _ _
      unfold zx_dn
      omega
    have hnm : ¬ (mid ≠ mid ∧ rk mid ≤ rk mid) := fun c => c.1 rfl
    refine br_f (nI_ge (by omega) (by omega)) (zx_isAbove (by omega) hmid hn hr (fun c1 c2 => br_f (by decide) ⟨zi_in (by omega) (by omega), ?_⟩) (fun c => br_t rfl (nm_r (nI_1 i) (ih (i + 1) _ _ _ _ _ _ (by omega) hU hU2 (zg_By_congr (zg_By_skipS hB (S := fun a _ => a = i) (fun a b ha hb hs k1 k2 k3 => ?_)) hdn)))))
    · refine ek_if (d := zg_U ≤ W1 (i * 16 + mid)) (zi_le zi_U (zi_W (by omega) (by omega)) (Nat.le_refl _) (hU _)) (fun c => nm_r (nI_1 i) (ih (i + 1) _ _ _ _ _ _ (by omega) hU hU2 (zg_By_congr (zg_By_skipS hB (S := fun a _ => a = i) (fun a b ha hb hs k1 k2 k3 => ?_)) hdn))) (fun _ => ?_)
      · subst hs
        rw [← zg_By_m1 hB hmid hnm ha, zg_p_U c]; exact hU _
      · exact zx_bypassFrom1 hn hr hU hU2 hP (by omega) hmid ⟨c1, c2⟩ hB (fun r W' va' kp' L' se' k1 k2 k3 => nm_e (nm_r (nI_1 i) (ih (i + 1) _ _ _ _ _ _ (by omega) k1 k2 (zg_By_congr k3 hdn2))))
    · subst hs
      exact absurd k1 c
theorem zx_bypass {post : Int32 → SX → Prop} {mid : Nat} (hn : n ≤ 16) (hr : ∀ i, i < n → rk i ≤ 16) (hW : ∀ i, W i ≤ zg_U) (hL : ∀ i, L i ≤ zg_U) (hP : zg_P n W) (hmid : mid < n)
    (h : ∀ r W' va' kp' L' se', (∀ i, W' i ≤ zg_U) → (∀ i, L' i ≤ zg_U) → zg_By n (fun x => x ≠ mid ∧ rk mid ≤ rk x) mid (fun _ _ => True) W va kp W' va' kp' → post r (fu, fk, fw, (nI n), fl, (nI R), fb, me, dp, rs, rc, (zi_N tl), (zi_N hd), (zi_N ln), (zi_N rk), (zi_N od), pr, (zi_L W'), va', kp', pe, (zi_L L'), se', (zi_N pa), (zi_N sk), rr)) :
    wpX_bypass post (fu, fk, fw, (nI n), fl, (nI R), fb, me, dp, rs, rc, (zi_N tl), (zi_N hd), (zi_N ln), (zi_N rk), (zi_N od), pr, (zi_L W), va, kp, pe, (zi_L L), se, (zi_N pa), (zi_N sk), rr) (nI mid) 1 := by
  refine ⟨n + 1, zx_bypass1 hn hr hP hmid h n 0 0 W va kp L se (by omega) hW hL (zg_By_congr zg_By_0 (fun a b _ _ => ⟨fun c => c.elim, fun c => ?_⟩))⟩
  unfold zx_dn at c
  omega
/-- edgeDifference: only labels and marks change -/
theorem zx_edge_9 {post : Int32 → SX → Prop} {mid : Nat} (hn : n ≤ 16) (hr : ∀ i, i < n → rk i ≤ 16) (hmid : mid < n) (h : ∀ r, post r (fu, fk, fw, (nI n), fl, (nI R), fb, me, dp, rs, rc, (zi_N tl), (zi_N hd), (zi_N ln), (zi_N rk), (zi_N od), pr, (zi_L W), va, kp, pe, (zi_L L), se, (zi_N pa), (zi_N sk), rr)) :
    ∀ (d i : Nat) (x2 : Int32), i + d = n → wX_edgeDifference_9 post (nI mid) fu fk fw (nI n) fl (nI R) fb me dp rs rc (zi_N tl) (zi_N hd) (zi_N ln) (zi_N rk) (zi_N od) pr (zi_L W) va kp pe (zi_L L) se (zi_N pa) (zi_N sk) rr (d + 1) x2 (nI i) := by
  intro d
  induction d with
  | zero =>
    intro i x2 hi
    have hi' : i = n := by omega
    subst hi'
    exact br_t (nI_le (by omega) (by omega)) (h _)
  | succ d ih =>
    intro i x2 hi
    have j47 : ∀ x2, wX_edgeDifference_47 post (wX_edgeDifference_9 post (nI mid) fu fk fw (nI n) fl (nI R) fb me dp rs rc (zi_N tl) (zi_N hd) (zi_N ln) (zi_N rk) (zi_N od) pr (zi_L W) va kp pe (zi_L L) se (zi_N pa) (zi_N sk) rr (d + 1)) (nI mid) x2 (nI i) fu fk fw (nI n) fl (nI R) fb me dp rs rc (zi_N tl) (zi_N hd) (zi_N ln) (zi_N rk) (zi_N od) pr (zi_L W) va kp pe (zi_L L) se (zi_N pa) (zi_N sk) rr := fun x2 =>
      ⟨zi_in (by omega) (by omega), br_c (fun _ => nm_r (nI_1 i) (ih (i + 1) _ (by omega))) (fun _ => nm_e (nm_r (nI_1 i) (ih (i + 1) _ (by omega))))⟩
    exact br_f (nI_ge (by omega) (by omega)) (zx_isAbove (by omega) hmid hn hr (fun c1 c2 => br_f (by decide) ⟨zi_in (by omega) (by omega), br_c (fun _ => j47 _) (fun _ => nm_e (j47 _))⟩) (fun _ => br_t rfl (nm_r (nI_1 i) (ih (i + 1) _ (by omega)))))
theorem zx_edge {post : Int32 → SX → Prop} {mid : Nat} (hn : n ≤ 16) (hr : ∀ i, i < n → rk i ≤ 16) (hW : ∀ i, W i ≤ zg_U) (hL : ∀ i, L i ≤ zg_U) (hP : zg_P n W) (hmid : mid < n)
    (h : ∀ r L' se', (∀ i, L' i ≤ zg_U) → post r (fu, fk, fw, (nI n), fl, (nI R), fb, me, dp, rs, rc, (zi_N tl), (zi_N hd), (zi_N ln), (zi_N rk), (zi_N od), pr, (zi_L W), va, kp, pe, (zi_L L'), se', (zi_N pa), (zi_N sk), rr)) : wpX_edgeDifference post (fu, fk, fw, (nI n), fl, (nI R), fb, me, dp, rs, rc, (zi_N tl), (zi_N hd), (zi_N ln), (zi_N rk), (zi_N od), pr, (zi_L W), va, kp, pe, (zi_L L), se, (zi_N pa), (zi_N sk), rr) (nI mid) := by
  refine ⟨n + 1, zx_bypass0 hn hr hW hP hmid (fun r L' se' k => ⟨n + 1, zx_edge_9 hn hr hmid (fun r => h r L' se' k) n 0 _ (by omega)⟩) n 0 0 L se (by omega) hL⟩
theorem zx_least_4 {post : Int32 → Prop} (hn : n ≤ 16) (hr : ∀ i, i < n → rk i ≤ 16) (h : ∀ x, x < n → ((∃ y, y < n ∧ rk y = 16) → rk x = 16) → post (nI x)) :
    ∀ (d i x : Nat), i + d = n → x < i → ((∃ y, y < i ∧ rk y = 16) → rk x = 16) → wX_leastPriority_4 post fu fk fw (nI n) fl (nI R) fb me dp rs rc (zi_N tl) (zi_N hd) (zi_N ln) (zi_N rk) (zi_N od) pr (zi_L W) va kp pe (zi_L L) se (zi_N pa) (zi_N sk) rr (d + 1) (nI x) (nI i) := by
  intro d
  induction d with
  | zero =>
    intro i x hi hx hs
    have hi' : i = n := by omega
    subst hi'
    exact br_t (nI_le (by omega) (by omega)) (h x hx hs)
  | succ d ih =>
    intro i x hi hx hs
    have ri := hr i (by omega)
    have rx := hr x (by omega)
    have vi : vp_in (nI i) 16 := vp_in_nI (by omega) (by omega)
    have vx : vp_in (nI x) 16 := vp_in_nI (by omega) (by omega)
    have new : rk i = 16 → wX_leastPriority_4 post fu fk fw (nI n) fl (nI R) fb me dp rs rc (zi_N tl) (zi_N hd) (zi_N ln) (zi_N rk) (zi_N od) pr (zi_L W) va kp pe (zi_L L) se (zi_N pa) (zi_N sk) rr (d + 1) (nI i) (nI (i + 1)) := fun c => ih (i + 1) i (by omega) (by omega) (fun _ => c)
    have old : (rk i = 16 → rk x = 16) → wX_leastPriority_4 post fu fk fw (nI n) fl (nI R) fb me dp rs rc (zi_N tl) (zi_N hd) (zi_N ln) (zi_N rk) (zi_N od) pr (zi_L W) va kp pe (zi_L L) se (zi_N pa) (zi_N sk) rr (d + 1) (nI x) (nI (i + 1)) := fun c => ih (i + 1) x (by omega) (by omega) (fun ⟨y, hy, hy2⟩ => by
      by_cases q : y = i
      · subst q; exact c hy2
      · exact hs ⟨y, by omega, hy2⟩)
    refine br_f (nI_ge (by omega) (by omega)) ⟨vi, ek_if (d := rk i = 16) ?_ (fun c => br_f (by decide) ⟨vx, ek_if (d := rk x = 16) ?_ (fun c2 => ⟨vi, vx, br_c (fun _ => nm_r (nI_1 i) (old (fun _ => c2))) (fun _ => nm_r (nI_1 i) (new c))⟩) (fun c2 => nm_r (nI_1 i) (new c))⟩) (fun c => br_t rfl (nm_r (nI_1 i) (old (fun c' => absurd c' c))))⟩
    · rw [zi_Nc i rfl (by omega)]; exact nI_eq (b := 16) (by omega) (by omega)
    · rw [zi_Nc x rfl (by omega)]; exact nI_eq (b := 16) (by omega) (by omega)
theorem zx_least {post : Int32 → Prop} (h2 : 2 ≤ n) (hn : n ≤ 16) (hr : ∀ i, i < n → rk i ≤ 16) (h : ∀ x, x < n → ((∃ y, y < n ∧ rk y = 16) → rk x = 16) → post (nI x)) : wpX_leastPriority post (fu, fk, fw, (nI n), fl, (nI R), fb, me, dp, rs, rc, (zi_N tl), (zi_N hd), (zi_N ln), (zi_N rk), (zi_N od), pr, (zi_L W), va, kp, pe, (zi_L L), se, (zi_N pa), (zi_N sk), rr) := by
  refine ⟨n, ?_⟩
  have := zx_least_4 (fu := fu) (fk := fk) (fw := fw) (fl := fl) (fb := fb) (me := me) (dp := dp) (rs := rs) (rc := rc) (R := R) (tl := tl) (hd := hd) (ln := ln) (od := od) (W := W) (L := L) (pa := pa) (sk := sk) (va := va) (kp := kp) (pe := pe) (se := se) (pr := pr) (rr := rr) hn hr h (n - 1) 1 0 (by omega) (by omega) (fun ⟨y, hy, hy2⟩ => by
    have : y = 0 := by omega
    subst this; exact hy2)
  rw [show n - 1 + 1 = n by omega] at this
  exact this
theorem zx_next_7 {post : Int32 → SX → Prop} (h2 : 2 ≤ n) (hn : n ≤ 16) (hr : ∀ i, i < n → rk i ≤ 16) (hW : ∀ i, W i ≤ zg_U) (hP : zg_P n W)
    (h : ∀ x pr' L' se', x < n → ((∃ y, y < n ∧ rk y = 16) → rk x = 16) → (∀ i, L' i ≤ zg_U) → post (nI x) (fu, fk, fw, (nI n), fl, (nI R), fb, me, dp, rs, rc, (zi_N tl), (zi_N hd), (zi_N ln), (zi_N rk), (zi_N od), pr', (zi_L W), va, kp, pe, (zi_L L'), se', (zi_N pa), (zi_N sk), rr)) :
    ∀ (d i x : Nat) (pr1 : Nat → Int32) (L1 : Nat → Nat) (se1 : Nat → Int32), i + d = n → x < n → ((∃ y, y < n ∧ rk y = 16) → rk x = 16) → (∀ i, L1 i ≤ zg_U) →
      wX_nextToContract_7 post (d + 1) (nI x) (nI i) fu fk fw (nI n) fl (nI R) fb me dp rs rc (zi_N tl) (zi_N hd) (zi_N ln) (zi_N rk) (zi_N od) pr1 (zi_L W) va kp pe (zi_L L1) se1 (zi_N pa) (zi_N sk) rr := by
  intro d
  induction d with
  | zero =>
    intro i x pr1 L1 se1 hi hx hs hU
    have hi' : i = n := by omega
    subst hi'
    exact br_t (nI_le (by omega) (by omega)) (h x _ _ _ hx hs hU)
  | succ d ih =>
    intro i x pr1 L1 se1 hi hx hs hU
    refine br_f (nI_ge (by omega) (by omega)) (zx_edge hn hr hW hU hP hx (fun r L' se' k => ⟨vp_in_nI (by omega) (by omega), nm_e (zx_least h2 hn hr (fun y hy hy2 => ?_))⟩))
    exact ek_if (nI_eq (by omega) (by omega)) (fun c => h x _ _ _ hx hs k) (fun _ => nm_r (nI_1 i) (ih (i + 1) y _ _ _ (by omega) hy hy2 k))
theorem zx_next {post : Int32 → SX → Prop} (h2 : 2 ≤ n) (hn : n ≤ 16) (hr : ∀ i, i < n → rk i ≤ 16) (hW : ∀ i, W i ≤ zg_U) (hL : ∀ i, L i ≤ zg_U) (hP : zg_P n W)
    (h : ∀ x pr' L' se', x < n → ((∃ y, y < n ∧ rk y = 16) → rk x = 16) → (∀ i, L' i ≤ zg_U) → post (nI x) (fu, fk, fw, (nI n), fl, (nI R), fb, me, dp, rs, rc, (zi_N tl), (zi_N hd), (zi_N ln), (zi_N rk), (zi_N od), pr', (zi_L W), va, kp, pe, (zi_L L'), se', (zi_N pa), (zi_N sk), rr)) : wpX_nextToContract post (fu, fk, fw, (nI n), fl, (nI R), fb, me, dp, rs, rc, (zi_N tl), (zi_N hd), (zi_N ln), (zi_N rk), (zi_N od), pr, (zi_L W), va, kp, pe, (zi_L L), se, (zi_N pa), (zi_N sk), rr) :=
  zx_least h2 hn hr (fun x hx hs => ⟨n + 1, zx_next_7 h2 hn hr hW hP h n 0 x pr L se (by omega) hx hs hL⟩)
end
/-- ranks while r nodes are contracted -/
def zx_Cn (n : Nat) (rk od : Nat → Nat) (r : Nat) : Prop := (∀ x, x < n → rk x = 16 ∨ (rk x < r ∧ od (rk x) = x)) ∧ (∀ i, i < r → od i < n ∧ rk (od i) = i)
theorem zx_Cn_ex {n r : Nat} {rk od : Nat → Nat} (h : zx_Cn n rk od r) (hr : r < n) : ∃ y, y < n ∧ rk y = 16 := by
  refine Classical.byContradiction (fun c => ?_)
  have h1 : ∀ x, x < n → rk x < r ∧ od (rk x) = x := fun x hx => (h.1 x hx).resolve_left (fun e => c ⟨x, hx, e⟩)
  have h2 : ((List.range n).map rk).Nodup := by
    rw [List.nodup_iff_pairwise_ne, List.pairwise_map]
    refine List.Pairwise.imp_of_mem (fun {a b} ha hb hab e => hab ?_) (List.nodup_iff_pairwise_ne.mp List.nodup_range)
    rw [← (h1 a (List.mem_range.mp ha)).2, ← (h1 b (List.mem_range.mp hb)).2, e]
  have h3 : (List.range n).map rk ⊆ List.range r := by
    intro x hx
    obtain ⟨y, hy, rfl⟩ := List.mem_map.mp hx
    exact List.mem_range.mpr (h1 y (List.mem_range.mp hy)).1
  have h4 := List.Nodup.length_le_of_subset h2 h3
  rw [List.length_map, List.length_range, List.length_range] at h4
  omega
theorem zx_Cn_step {n r mid : Nat} {rk od : Nat → Nat} (h : zx_Cn n rk od r) (hn : n ≤ 16) (hr : r < n) (hm : mid < n) (hm2 : rk mid = 16) : zx_Cn n (zg_u rk mid r) (zg_u od r mid) (r + 1) := by
  refine ⟨fun x hx => ?_, fun i hi => ?_⟩
  · by_cases c : x = mid
    · subst c
      right
      rw [zg_us, zg_us]; exact ⟨by omega, rfl⟩
    · rw [zg_un c]
      rcases h.1 x hx with e | ⟨e1, e2⟩
      · exact Or.inl e
      · exact Or.inr ⟨by omega, by rw [zg_un (by omega)]; exact e2⟩
  · by_cases c : i = r
    · subst c
      rw [zg_us, zg_us]; exact ⟨hm, rfl⟩
    · have k := h.2 i (by omega)
      rw [zg_un c, zg_un (fun e => by rw [e] at k; omega)]
      exact k
def zx_Bt (n R : Nat) (tl hd ln rk od W : Nat → Nat) (va kp pe : Nat → Int32) : Prop :=
  (∀ x, x < n → rk x < n ∧ od (rk x) = x) ∧ (∀ i, i < n → od i < n ∧ rk (od i) = i) ∧ zg_I n R tl hd ln rk W va kp n ∧ (∀ x y, x < n → y < n → pe (x * 16 + y) = 0)
section
variable {n R : Nat} {tl hd ln rk od W L pa sk : Nat → Nat} {va kp pe se pr rr : Nat → Int32} {fu : Int64} {fk fw fl fb me dp rs rc : Int32}
theorem zx_contract_29 {post : SX → Prop} (h2 : 2 ≤ n) (hn : n ≤ 16) (hnd : ∀ r, r < R → tl r < n ∧ hd r < n) (hpe : ∀ x y, x < n → y < n → pe (x * 16 + y) = 0)
    (h : ∀ rk' od' pr' W' va' kp' L' se', (∀ i, W' i ≤ zg_U) → (∀ i, L' i ≤ zg_U) → zx_Bt n R tl hd ln rk' od' W' va' kp' pe → post (fu, fk, fw, (nI n), fl, (nI R), fb, me, dp, rs, rc, (zi_N tl), (zi_N hd), (zi_N ln), (zi_N rk'), (zi_N od'), pr', (zi_L W'), va', kp', pe, (zi_L L'), se', (zi_N pa), (zi_N sk), rr)) :
    ∀ (d i : Nat) (rk1 od1 : Nat → Nat) (pr1 : Nat → Int32) (W1 : Nat → Nat) (va1 kp1 : Nat → Int32) (L1 : Nat → Nat) (se1 : Nat → Int32), i + d = n → (∀ j, W1 j ≤ zg_U) → (∀ j, L1 j ≤ zg_U) → zx_Cn n rk1 od1 i → zg_I n R tl hd ln rk1 W1 va1 kp1 i →
      wX_contractAll_29 post (d + 1) (nI i) fu fk fw (nI n) fl (nI R) fb me dp rs rc (zi_N tl) (zi_N hd) (zi_N ln) (zi_N rk1) (zi_N od1) pr1 (zi_L W1) va1 kp1 pe (zi_L L1) se1 (zi_N pa) (zi_N sk) rr := by
  intro d
  induction d with
  | zero =>
    intro i rk1 od1 pr1 W1 va1 kp1 L1 se1 hi hU hU2 hC hI
    have hi' : i = n := by omega
    subst hi'
    refine br_t (nI_le (by omega) (by omega)) (h _ _ _ _ _ _ _ _ hU hU2 ⟨fun x hx => ?_, fun j hj => hC.2 j hj, hI, hpe⟩)
    rcases hC.1 x hx with e | e
    · have hne : ∀ j, j < i → rk1 (od1 j) ≠ 16 := fun j hj => by have := (hC.2 j hj).2; omega
      have hinj : ((List.range i).map od1).Nodup := by
        rw [List.nodup_iff_pairwise_ne, List.pairwise_map]
        refine List.Pairwise.imp_of_mem (fun {a b} ha hb hab e => hab ?_) (List.nodup_iff_pairwise_ne.mp List.nodup_range)
        rw [← (hC.2 a (List.mem_range.mp ha)).2, ← (hC.2 b (List.mem_range.mp hb)).2, e]
      have hmem := covers_all i ((List.range i).map od1) hinj (fun y hy => by
        obtain ⟨j, hj, rfl⟩ := List.mem_map.mp hy
        exact (hC.2 j (List.mem_range.mp hj)).1) (by rw [List.length_map, List.length_range]) x hx
      obtain ⟨j, hj, rfl⟩ := List.mem_map.mp hmem
      exact absurd e (hne j (List.mem_range.mp hj))
    · exact e
  | succ d ih =>
    intro i rk1 od1 pr1 W1 va1 kp1 L1 se1 hi hU hU2 hC hI
    have hr : ∀ x, x < n → rk1 x ≤ 16 := fun x hx => by rcases hC.1 x hx with e | e <;> omega
    refine br_f (nI_ge (by omega) (by omega)) (zx_next h2 hn hr hU hU2 hI.2.2.2.2.2 (fun mid pr' L' se' hm hm2 k => ?_))
    have hm16 := hm2 (zx_Cn_ex hC (by omega))
    refine zx_bypass hn hr hU k hI.2.2.2.2.2 hm (fun r W' va' kp' L'' se'' q1 q2 q3 => ⟨vp_in_nI (by omega) (by omega), nm_r (zi_uN (nI_clamp (by omega)) rfl) ⟨vp_in_nI (by omega) (by omega), nm_r (zi_uN (nI_clamp (by omega)) rfl) (nm_r (nI_1 i) ?_)⟩⟩)
    refine ih (i + 1) _ _ _ _ _ _ _ _ (by omega) q1 q2 (zx_Cn_step hC hn (by omega) hm hm16) ?_
    refine zg_stp hI hnd hm q3 (fun x hx c => zg_un c) zg_us (by omega) (fun m hm' c => ?_) (fun x hx c => ?_)
    · rcases hC.1 m hm' with e | e <;> omega
    · rcases hC.1 x hx with e | e <;> omega
theorem zx_contract_2 {post : SX → Prop} (h2 : 2 ≤ n) (hn : n ≤ 16) (hr : ∀ i, i < n → rk i ≤ 16) (hW : ∀ i, W i ≤ zg_U) (hP : zg_P n W)
    (h : ∀ pr' L' se', (∀ i, L' i ≤ zg_U) → ∃ N, wX_contractAll_29 post N 0 fu fk fw (nI n) fl (nI R) fb me dp rs rc (zi_N tl) (zi_N hd) (zi_N ln) (zi_N rk) (zi_N od) pr' (zi_L W) va kp pe (zi_L L') se' (zi_N pa) (zi_N sk) rr) :
    ∀ (d i : Nat) (pr1 : Nat → Int32) (L1 : Nat → Nat) (se1 : Nat → Int32), i + d = n → (∀ j, L1 j ≤ zg_U) → wX_contractAll_2 post (d + 1) (nI i) fu fk fw (nI n) fl (nI R) fb me dp rs rc (zi_N tl) (zi_N hd) (zi_N ln) (zi_N rk) (zi_N od) pr1 (zi_L W) va kp pe (zi_L L1) se1 (zi_N pa) (zi_N sk) rr := by
  intro d
  induction d with
  | zero =>
    intro i pr1 L1 se1 hi hU
    have hi' : i = n := by omega
    subst hi'
    exact br_t (nI_le (by omega) (by omega)) (h _ _ _ hU)
  | succ d ih =>
    intro i pr1 L1 se1 hi hU
    exact br_f (nI_ge (by omega) (by omega)) (zx_edge hn hr hW hU hP (by omega) (fun r L' se' k => ⟨vp_in_nI (by omega) (by omega), nm_e (nm_r (nI_1 i) (ih (i + 1) _ _ _ (by omega) k))⟩))
/-- loadArcs -/
def zx_Ld (R : Nat) (tl hd ln W : Nat → Nat) (va : Nat → Int32) (j : Nat) : Prop :=
  (∀ i, W i ≤ zg_U) ∧ (∀ i, i < 256 → 0 < W i) ∧ (∀ r, r < j → W (tl r * 16 + hd r) ≤ zg_w ln r) ∧ (∀ i, i < 256 → W i < zg_U → ∃ r, r < R ∧ tl r * 16 + hd r = i ∧ va i = nI r ∧ W i = zg_w ln r)
theorem zx_load_71 {post : SX → Prop} (hn : n ≤ 16) (hR : R ≤ 48) (hnd : ∀ r, r < R → tl r < n ∧ hd r < n) (hln : ∀ r, r < R → ln r ≤ 999)
    (h : ∀ W' va', zx_Ld R tl hd ln W' va' R → post (fu, fk, fw, (nI n), fl, (nI R), fb, me, dp, rs, rc, (zi_N tl), (zi_N hd), (zi_N ln), (zi_N rk), (zi_N od), pr, (zi_L W'), va', kp, pe, (zi_L L), se, (zi_N pa), (zi_N sk), rr)) :
    ∀ (d i : Nat) (W1 : Nat → Nat) (va1 : Nat → Int32), i + d = R → zx_Ld R tl hd ln W1 va1 i → wX_loadArcs_71 post (d + 1) (nI i) fu fk fw (nI n) fl (nI R) fb me dp rs rc (zi_N tl) (zi_N hd) (zi_N ln) (zi_N rk) (zi_N od) pr (zi_L W1) va1 kp pe (zi_L L) se (zi_N pa) (zi_N sk) rr := by
  intro d
  induction d with
  | zero =>
    intro i W1 va1 hi hL
    have hi' : i = R := by omega
    subst hi'
    exact br_t (nI_le (by omega) (by omega)) (h _ _ hL)
  | succ d ih =>
    intro i W1 va1 hi hL
    have hi2 : i < R := by omega
    have hnd' := hnd i hi2
    have e1 : zi_N tl (nI i).toNatClampNeg = nI (tl i) := zi_Nc i rfl (by omega)
    have e2 : zi_N hd (nI i).toNatClampNeg = nI (hd i) := zi_Nc i rfl (by omega)
    refine br_f (nI_ge (by omega) (by omega)) (zx_roadWeight rfl (by omega) (hln i hi2) ⟨vp_in_nI (by omega) (by omega), vp_in_nI (by omega) (by omega), ?_⟩)
    refine zx_improve (a := tl i * 16 + hd i) (by rw [e1, e2]; exact zi_ix _ _) rfl (by omega) (zg_w_le (hln i hi2) (by omega)) hL.1 (fun W' va' k1 k2 => nm_r (nI_1 i) (ih (i + 1) W' va' (by omega) ?_))
    obtain ⟨l1, l2, l3, l4⟩ := hL
    rcases k2 with ⟨q, rfl, rfl⟩ | ⟨q, rfl, rfl⟩
    · refine ⟨l1, l2, fun r hr => ?_, l4⟩
      by_cases c : r = i
      · subst c; exact q
      · exact l3 r (by omega)
    · refine ⟨k1, fun j hj => ?_, fun r hr => ?_, fun j hj hw => ?_⟩
      · by_cases c : j = tl i * 16 + hd i
        · rw [c, zg_us]; exact zg_w_pos _ _
        · rw [zg_un c]; exact l2 j hj
      · by_cases c : r = i
        · subst c; rw [zg_us]; exact Nat.le_refl _
        · by_cases c2 : tl r * 16 + hd r = tl i * 16 + hd i
          · have := l3 r (by omega)
            rw [c2] at this ⊢
            rw [zg_us]; omega
          · rw [zg_un c2]; exact l3 r (by omega)
      · by_cases c : j = tl i * 16 + hd i
        · subst c
          rw [zg_us, pk_us]
          exact ⟨i, hi2, rfl, rfl, rfl⟩
        · rw [zg_un c] at hw ⊢
          rw [pk_un c]
          exact l4 j hj hw
theorem zx_load_47 {post : SX → Prop} (hn : n ≤ 16) (h : ∀ rk', (∀ x, x < n → rk' x = 16) → ∃ N, wX_loadArcs_71 post N 0 fu fk fw (nI n) fl (nI R) fb me dp rs rc (zi_N tl) (zi_N hd) (zi_N ln) (zi_N rk') (zi_N od) pr (zi_L W) va kp pe (zi_L L) se (zi_N pa) (zi_N sk) rr) :
    ∀ (d i : Nat) (rk1 : Nat → Nat), i + d = n → (∀ x, x < i → rk1 x = 16) → wX_loadArcs_47 post fu fk fw (nI n) fl (nI R) fb me dp rs rc (d + 1) (nI i) (zi_N tl) (zi_N hd) (zi_N ln) (zi_N rk1) (zi_N od) pr (zi_L W) va kp pe (zi_L L) se (zi_N pa) (zi_N sk) rr := by
  intro d
  induction d with
  | zero =>
    intro i rk1 hi hk
    have hi' : i = n := by omega
    subst hi'
    exact br_t (nI_le (by omega) (by omega)) (h _ hk)
  | succ d ih =>
    intro i rk1 hi hk
    refine br_f (nI_ge (by omega) (by omega)) ⟨vp_in_nI (by omega) (by omega), nm_r (zi_uN (s := 16) (nI_clamp (by omega)) rfl) (nm_r (nI_1 i) (ih (i + 1) _ (by omega) (fun x hx => ?_)))⟩
    by_cases c : x = i
    · subst c; exact zg_us
    · rw [zg_un c]; exact hk x (by omega)
theorem zx_load_2 {post : SX → Prop} (h : ∀ W' va' kp' pe', (∀ i, W' i ≤ zg_U) → (∀ i, i < 256 → W' i = zg_U ∧ kp' i = 0 ∧ pe' i = 0) → ∃ N, wX_loadArcs_47 post fu fk fw (nI n) fl (nI R) fb me dp rs rc N 0 (zi_N tl) (zi_N hd) (zi_N ln) (zi_N rk) (zi_N od) pr (zi_L W') va' kp' pe' (zi_L L) se (zi_N pa) (zi_N sk) rr) :
    ∀ (d i : Nat) (W1 : Nat → Nat) (va1 kp1 pe1 : Nat → Int32), i + d = 256 → (∀ j, W1 j ≤ zg_U) → (∀ j, j < i → W1 j = zg_U ∧ kp1 j = 0 ∧ pe1 j = 0) → wX_loadArcs_2 post fu fk fw (nI n) fl (nI R) fb me dp rs rc (d + 1) (nI i) (zi_N tl) (zi_N hd) (zi_N ln) (zi_N rk) (zi_N od) pr (zi_L W1) va1 kp1 pe1 (zi_L L) se (zi_N pa) (zi_N sk) rr := by
  intro d
  induction d with
  | zero =>
    intro i W1 va1 kp1 pe1 hi hU hk
    have hi' : i = 256 := by omega
    subst hi'
    exact br_t (nI_le (a := 256) (b := 256) (by omega) (by omega)) (h _ _ _ _ hU hk)
  | succ d ih =>
    intro i W1 va1 kp1 pe1 hi hU hk
    have vi : vp_in (nI i) 256 := vp_in_nI (by omega) (by omega)
    have ec : (nI i).toNatClampNeg = i := nI_clamp (by omega)
    refine br_f (nI_ge (b := 256) (by omega) (by omega)) ⟨vi, nm_r (zi_uL ec zi_U) ⟨vi, nm_r (zi_uI ec rfl) ⟨vi, nm_r (zi_uI ec rfl) ⟨vi, nm_r (zi_uI ec zi_b0) (nm_r (nI_1 i) (ih (i + 1) _ _ _ _ (by omega) (zi_uUle hU (Nat.le_refl _)) (fun j hj => ?_)))⟩⟩⟩⟩
    by_cases c : j = i
    · subst c; rw [zg_us, pk_us, pk_us]; exact ⟨rfl, rfl, rfl⟩
    · rw [zg_un c, pk_un c, pk_un c]; exact hk j (by omega)
theorem zx_build {post : Int32 → SX → Prop} (h2 : 2 ≤ n) (hn : n ≤ 16) (hR : R ≤ 48) (hnd : ∀ r, r < R → tl r < n ∧ hd r < n) (hln : ∀ r, r < R → ln r ≤ 999) (hW : ∀ i, W i ≤ zg_U) (hL : ∀ i, L i ≤ zg_U) (hb : fb = 0)
    (h : ∀ rk' od' pr' W' va' kp' pe' L' se', (∀ i, W' i ≤ zg_U) → (∀ i, L' i ≤ zg_U) → zx_Bt n R tl hd ln rk' od' W' va' kp' pe' → post (nI R) (fu, fk, fw, (nI n), fl, (nI R), 1, me, dp, rs, rc, (zi_N tl), (zi_N hd), (zi_N ln), (zi_N rk'), (zi_N od'), pr', (zi_L W'), va', kp', pe', (zi_L L'), se', (zi_N pa), (zi_N sk), rr)) : wpX_build post (fu, fk, fw, (nI n), fl, (nI R), fb, me, dp, rs, rc, (zi_N tl), (zi_N hd), (zi_N ln), (zi_N rk), (zi_N od), pr, (zi_L W), va, kp, pe, (zi_L L), se, (zi_N pa), (zi_N sk), rr) := by
  refine br_t hb ⟨257, zx_load_2 (fun W1 va1 kp1 pe1 k1 k2 => ⟨n + 1, zx_load_47 hn (fun rk1 k3 => ⟨R + 1, zx_load_71 hn hR hnd hln (fun W2 va2 k4 => ?_) R 0 W1 va1 (by omega) ?_⟩) n 0 rk (by omega) (fun x hx => by omega)⟩) 256 0 W va kp pe rfl hW (fun j hj => by omega)⟩
  · obtain ⟨l1, l2, l3, l4⟩ := k4
    have hr1 : ∀ i, i < n → rk1 i ≤ 16 := fun i hi => by rw [k3 i hi]; omega
    have hP : zg_P n W2 := fun u v hu hv => l2 _ (by omega)
    have hK : ∀ u m v, u < n → m < n → v < n → ¬ zg_K kp1 u m v := by
      intro u m v hu hm hv k
      rw [zg_K_bt (by omega), (k2 (u * 16 + v) (by omega)).2.1, b_0] at k
      exact absurd k (by decide)
    refine ⟨n + 1, zx_contract_2 h2 hn hr1 l1 hP (fun pr' L' se' q1 => ⟨n + 1, ?_⟩) n 0 pr L se (by omega) hL⟩
    refine zx_contract_29 h2 hn hnd (fun x y hx hy => (k2 _ (by omega)).2.2) ?_ n 0 rk1 od pr' W2 va2 kp1 L' se' (by omega) l1 q1 ⟨fun x hx => Or.inl (k3 x hx), fun i hi => by omega⟩ ?_
    · intro rk' od' pr'' W' va' kp' L'' se'' a1 a2 a3
      exact h _ _ _ _ _ _ _ _ _ a1 a2 a3
    refine ⟨l3, fun u m v hu hm hv k => absurd k (hK u m v hu hm hv), fun u m v hu hm hv k => absurd k (hK u m v hu hm hv), fun u v hu hv hw => ?_, fun m u v hm hu hv hq => by omega, hP⟩
    obtain ⟨r, r1, r2, r3, r4⟩ := l4 (u * 16 + v) (by omega) hw
    have := hnd r r1
    exact Or.inl ⟨r, r1, r3, by omega, by omega, r4⟩
  · refine ⟨k1, fun i hi => by rw [(k2 i hi).1]; exact zg_U_pos, fun r hr => by omega, fun i hi hw => ?_⟩
    rw [(k2 i hi).1] at hw
    omega
end
end
section
/-! recompute, markDependents, refresh, refreshFrom, repair -/
section
variable {n R : Nat} {tl hd ln rk od W L pa sk : Nat → Nat} {va kp pe se pr rr : Nat → Int32} {fu : Int64} {fk fw fl fb me dp rs rc : Int32}
theorem zx_rc_84 {post : Int32 → SX → Prop} {u v : Nat} (hn : n ≤ 16) (hW : ∀ i, W i ≤ zg_U) (hP : zg_P n W) (hB1 : zg_B1 n rk kp) (hu : u < n) (hv : v < n)
    (h : ∀ W' va', (∀ i, W' i ≤ zg_U) → zg_Rc tl hd ln W va kp u v R n W' va' → (W' (u * 16 + v) = W (u * 16 + v) → post 0 (fu, fk, fw, (nI n), fl, (nI R), fb, me, dp, rs, rc, (zi_N tl), (zi_N hd), (zi_N ln), (zi_N rk), (zi_N od), pr, (zi_L W'), va', kp, pe, (zi_L L), se, (zi_N pa), (zi_N sk), rr)) ∧ (¬ W' (u * 16 + v) = W (u * 16 + v) → post 1 (fu, fk, fw, (nI n), fl, (nI R), fb, me, dp, rs, rc, (zi_N tl), (zi_N hd), (zi_N ln), (zi_N rk), (zi_N od), pr, (zi_L W'), va', kp, pe, (zi_L L), se, (zi_N pa), (zi_N sk), rr))) :
    ∀ (d i : Nat) (W1 : Nat → Nat) (va1 : Nat → Int32), i + d = n → (∀ j, W1 j ≤ zg_U) → zg_Rc tl hd ln W va kp u v R i W1 va1 →
      wX_recompute_84 post (nI u) (nI v) (nI (u * 16 + v)) (lN (W (u * 16 + v))) (d + 1) (nI i) fu fk fw (nI n) fl (nI R) fb me dp rs rc (zi_N tl) (zi_N hd) (zi_N ln) (zi_N rk) (zi_N od) pr (zi_L W1) va1 kp pe (zi_L L) se (zi_N pa) (zi_N sk) rr := by
  intro d
  induction d with
  | zero =>
    intro i W1 va1 hi hU hr
    have hi' : i = n := by omega
    subst hi'
    have k := h W1 va1 hU hr
    exact br_t (nI_le (by omega) (by omega)) ⟨vp_in_nI (by omega) (by omega), ek_if (zi_eq (zi_Lc (u * 16 + v) rfl (by omega)) rfl (hU _) (hW _)) k.1 k.2⟩
  | succ d ih =>
    intro i W1 va1 hi hU hr
    refine br_f (nI_ge (by omega) (by omega)) (zx_isKept (by omega) (by omega) (fun k => br_f (by decide) ⟨zi_in (by omega) (by omega), zi_in (by omega) (by omega), zx_plus (zi_W (by omega) (by omega)) (zi_W (by omega) (by omega)) (hU _) (hU _) ?_⟩) (fun k => br_t rfl (nm_r (nI_1 i) (ih (i + 1) _ _ (by omega) hU (zg_Rc_ms hr k)))))
    have hb := hB1 u i v hu (by omega) hv k
    have ne1 : i ≠ v := fun e => by subst e; omega
    have ne2 : i ≠ u := fun e => by subst e; omega
    rw [(hr.1 (u * 16 + i) (by omega)).1, (hr.1 (i * 16 + v) (by omega)).1]
    exact zx_improve rfl rfl (by omega) (zg_p_le _ _) hU (fun W' va' k1 k2 => nm_r (nI_1 i) (ih (i + 1) _ _ (by omega) k1 (zg_Rc_mi hr k (hP u i hu (by omega)) k2)))
theorem zx_rc_27 {post : Int32 → SX → Prop} {u v : Nat} (hn : n ≤ 16) (hR : R ≤ 48) (hnd : ∀ r, r < R → tl r < n ∧ hd r < n) (hln : ∀ r, r < R → ln r ≤ 999) (hW : ∀ i, W i ≤ zg_U) (hP : zg_P n W) (hB1 : zg_B1 n rk kp) (hu : u < n) (hv : v < n)
    (h : ∀ W' va', (∀ i, W' i ≤ zg_U) → zg_Rc tl hd ln W va kp u v R n W' va' → (W' (u * 16 + v) = W (u * 16 + v) → post 0 (fu, fk, fw, (nI n), fl, (nI R), fb, me, dp, rs, rc, (zi_N tl), (zi_N hd), (zi_N ln), (zi_N rk), (zi_N od), pr, (zi_L W'), va', kp, pe, (zi_L L), se, (zi_N pa), (zi_N sk), rr)) ∧ (¬ W' (u * 16 + v) = W (u * 16 + v) → post 1 (fu, fk, fw, (nI n), fl, (nI R), fb, me, dp, rs, rc, (zi_N tl), (zi_N hd), (zi_N ln), (zi_N rk), (zi_N od), pr, (zi_L W'), va', kp, pe, (zi_L L), se, (zi_N pa), (zi_N sk), rr))) :
    ∀ (d i : Nat) (W1 : Nat → Nat) (va1 : Nat → Int32), i + d = R → (∀ j, W1 j ≤ zg_U) → zg_Rc tl hd ln W va kp u v i 0 W1 va1 →
      wX_recompute_27 post (nI u) (nI v) (nI (u * 16 + v)) (lN (W (u * 16 + v))) (d + 1) (nI i) fu fk fw (nI n) fl (nI R) fb me dp rs rc (zi_N tl) (zi_N hd) (zi_N ln) (zi_N rk) (zi_N od) pr (zi_L W1) va1 kp pe (zi_L L) se (zi_N pa) (zi_N sk) rr := by
  intro d
  induction d with
  | zero =>
    intro i W1 va1 hi hU hr
    have hi' : i = R := by omega
    subst hi'
    exact br_t (nI_le (by omega) (by omega)) ⟨n + 1, zx_rc_84 hn hW hP hB1 hu hv h n 0 W1 va1 (by omega) hU hr⟩
  | succ d ih =>
    intro i W1 va1 hi hU hr
    have hi2 : i < R := by omega
    have hnd' := hnd i hi2
    have vi : vp_in (nI i) 48 := vp_in_nI (by omega) (by omega)
    have nx : ¬ (tl i = u ∧ hd i = v) → wX_recompute_27 post (nI u) (nI v) (nI (u * 16 + v)) (lN (W (u * 16 + v))) (d + 1) (nI (i + 1)) fu fk fw (nI n) fl (nI R) fb me dp rs rc (zi_N tl) (zi_N hd) (zi_N ln) (zi_N rk) (zi_N od) pr (zi_L W1) va1 kp pe (zi_L L) se (zi_N pa) (zi_N sk) rr := fun c => ih (i + 1) _ _ (by omega) hU (zg_Rc_rs hr c)
    refine br_f (nI_ge (by omega) (by omega)) ⟨vi, ek_if (d := tl i = u) ?_ (fun c1 => ⟨vi, ek_if (d := hd i = v) ?_ (fun c2 => zx_roadWeight rfl (by omega) (hln i hi2) (zx_improve rfl rfl (by omega) (zg_w_le (hln i hi2) (by omega)) hU (fun W' va' k1 k2 => nm_r (nI_1 i) (ih (i + 1) _ _ (by omega) k1 (zg_Rc_ri hr c1 c2 k2))))) (fun c2 => nm_r (nI_1 i) (nx (fun c => c2 c.2)))⟩) (fun c1 => nm_r (nI_1 i) (nx (fun c => c1 c.1)))⟩
    · rw [zi_Nc i rfl (by omega)]; exact nI_eq (by omega) (by omega)
    · rw [zi_Nc i rfl (by omega)]; exact nI_eq (by omega) (by omega)
theorem zx_recompute {post : Int32 → SX → Prop} {p0 p1 : Int32} {u v : Nat} (e0 : p0 = nI u) (e1 : p1 = nI v) (hn : n ≤ 16) (hR : R ≤ 48) (hnd : ∀ r, r < R → tl r < n ∧ hd r < n) (hln : ∀ r, r < R → ln r ≤ 999) (hW : ∀ i, W i ≤ zg_U) (hP : zg_P n W) (hB1 : zg_B1 n rk kp) (hu : u < n) (hv : v < n)
    (h : ∀ W' va', (∀ i, W' i ≤ zg_U) → zg_Rc tl hd ln W va kp u v R n W' va' → (W' (u * 16 + v) = W (u * 16 + v) → post 0 (fu, fk, fw, (nI n), fl, (nI R), fb, me, dp, rs, rc, (zi_N tl), (zi_N hd), (zi_N ln), (zi_N rk), (zi_N od), pr, (zi_L W'), va', kp, pe, (zi_L L), se, (zi_N pa), (zi_N sk), rr)) ∧ (¬ W' (u * 16 + v) = W (u * 16 + v) → post 1 (fu, fk, fw, (nI n), fl, (nI R), fb, me, dp, rs, rc, (zi_N tl), (zi_N hd), (zi_N ln), (zi_N rk), (zi_N od), pr, (zi_L W'), va', kp, pe, (zi_L L), se, (zi_N pa), (zi_N sk), rr))) :
    wpX_recompute post (fu, fk, fw, (nI n), fl, (nI R), fb, me, dp, rs, rc, (zi_N tl), (zi_N hd), (zi_N ln), (zi_N rk), (zi_N od), pr, (zi_L W), va, kp, pe, (zi_L L), se, (zi_N pa), (zi_N sk), rr) p0 p1 := by
  subst e0 e1
  have ec : (nI (u * 16 + v)).toNatClampNeg = u * 16 + v := nI_clamp (by omega)
  refine nm_r (zi_ix u v) ⟨vp_in_nI (by omega) (by omega), nm_r (zi_Lc (u * 16 + v) rfl (by omega)) ⟨vp_in_nI (by omega) (by omega), nm_r (zi_uL ec zi_U) ⟨R + 1, ?_⟩⟩⟩
  exact zx_rc_27 hn hR hnd hln hW hP hB1 hu hv h R 0 _ va (by omega) (zi_uUle hW (Nat.le_refl _)) zg_Rc_0
/-- markDependents -/
def zx_Mi (n : Nat) (rk : Nat → Nat) (kp : Nat → Int32) (a b i : Nat) (pe pe' : Nat → Int32) : Prop := ∀ x y, x < n → y < n → (pe' (x * 16 + y) = 0 ↔ (pe (x * 16 + y) = 0 ∧ ¬ ((rk b < rk a ∧ x = a ∧ zg_K kp a b y ∧ y < i) ∨ (¬ rk b < rk a ∧ y = b ∧ zg_K kp x a b ∧ x < i))))
theorem zx_mk1 {post : SX → Prop} {a b : Nat} (hn : n ≤ 16) (ha : a < n) (hb : b < n) (hab : rk b < rk a)
    (h : ∀ pe', zg_Mk n rk kp a b pe pe' → post (fu, fk, fw, (nI n), fl, (nI R), fb, me, dp, rs, rc, (zi_N tl), (zi_N hd), (zi_N ln), (zi_N rk), (zi_N od), pr, (zi_L W), va, kp, pe', (zi_L L), se, (zi_N pa), (zi_N sk), rr)) :
    ∀ (d i : Nat) (pe1 : Nat → Int32), i + d = n → zx_Mi n rk kp a b i pe pe1 → wX_markDependents_24 post (nI a) (nI b) 1 fu fk fw (nI n) fl (nI R) fb me dp rs rc (d + 1) (nI i) (zi_N tl) (zi_N hd) (zi_N ln) (zi_N rk) (zi_N od) pr (zi_L W) va kp pe1 (zi_L L) se (zi_N pa) (zi_N sk) rr := by
  intro d
  induction d with
  | zero =>
    intro i pe1 hi hm
    have hi' : i = n := by omega
    subst hi'
    refine br_t (nI_le (by omega) (by omega)) (h _ (fun x y hx hy => ?_))
    rw [hm x y hx hy]
    unfold zg_Dep
    constructor
    · rintro ⟨k1, k2⟩
      refine ⟨k1, ?_⟩
      rintro (⟨q1, q2, q3⟩ | ⟨q1, q2, q3⟩)
      · exact k2 (Or.inl ⟨q1, q2, q3, hy⟩)
      · exact q1 hab
    · rintro ⟨k1, k2⟩
      refine ⟨k1, ?_⟩
      rintro (⟨q1, q2, q3, _⟩ | ⟨q1, q2, q3, _⟩)
      · exact k2 (Or.inl ⟨q1, q2, q3⟩)
      · exact q1 hab
  | succ d ih =>
    intro i pe1 hi hm
    refine br_f (nI_ge (by omega) (by omega)) (br_f (by decide) (zx_isKept (by omega) (by omega) (fun k => br_f (by decide) ⟨zi_in (by omega) (by omega), nm_r (zi_uI (zi_ixc (by omega) (by omega)) zi_b1) (br_f (by decide) (nm_r (nI_1 i) (ih (i + 1) _ (by omega) (fun x y hx hy => ?_))))⟩) (fun k => br_t rfl (br_f (by decide) (nm_r (nI_1 i) (ih (i + 1) _ (by omega) (fun x y hx hy => ?_)))))))
    · by_cases c : x * 16 + y = a * 16 + i
      · have c1 : x = a := by omega
        have c2 : y = i := by omega
        subst c1 c2
        rw [pk_us]
        constructor
        · intro q; exact absurd q (by decide)
        · rintro ⟨_, q⟩
          exact absurd (Or.inl ⟨hab, rfl, k, by omega⟩) q
      · rw [pk_un c, hm x y hx hy]
        constructor
        · rintro ⟨k1, k2⟩
          refine ⟨k1, ?_⟩
          rintro (⟨q1, q2, q3, q4⟩ | ⟨q1, q2, q3, q4⟩)
          · exact k2 (Or.inl ⟨q1, q2, q3, by omega⟩)
          · exact q1 hab
        · rintro ⟨k1, k2⟩
          refine ⟨k1, ?_⟩
          rintro (⟨q1, q2, q3, q4⟩ | ⟨q1, q2, q3, q4⟩)
          · exact k2 (Or.inl ⟨q1, q2, q3, by omega⟩)
          · exact q1 hab
    · rw [hm x y hx hy]
      constructor
      · rintro ⟨k1, k2⟩
        refine ⟨k1, ?_⟩
        rintro (⟨q1, q2, q3, q4⟩ | ⟨q1, q2, q3, q4⟩)
        · by_cases c : y = i
          · subst c; exact k q3
          · exact k2 (Or.inl ⟨q1, q2, q3, by omega⟩)
        · exact q1 hab
      · rintro ⟨k1, k2⟩
        refine ⟨k1, ?_⟩
        rintro (⟨q1, q2, q3, q4⟩ | ⟨q1, q2, q3, q4⟩)
        · exact k2 (Or.inl ⟨q1, q2, q3, by omega⟩)
        · exact q1 hab
theorem zx_mk0 {post : SX → Prop} {a b : Nat} (hn : n ≤ 16) (ha : a < n) (hb : b < n) (hab : ¬ rk b < rk a)
    (h : ∀ pe', zg_Mk n rk kp a b pe pe' → post (fu, fk, fw, (nI n), fl, (nI R), fb, me, dp, rs, rc, (zi_N tl), (zi_N hd), (zi_N ln), (zi_N rk), (zi_N od), pr, (zi_L W), va, kp, pe', (zi_L L), se, (zi_N pa), (zi_N sk), rr)) :
    ∀ (d i : Nat) (pe1 : Nat → Int32), i + d = n → zx_Mi n rk kp a b i pe pe1 → wX_markDependents_24 post (nI a) (nI b) 0 fu fk fw (nI n) fl (nI R) fb me dp rs rc (d + 1) (nI i) (zi_N tl) (zi_N hd) (zi_N ln) (zi_N rk) (zi_N od) pr (zi_L W) va kp pe1 (zi_L L) se (zi_N pa) (zi_N sk) rr := by
  intro d
  induction d with
  | zero =>
    intro i pe1 hi hm
    have hi' : i = n := by omega
    subst hi'
    refine br_t (nI_le (by omega) (by omega)) (h _ (fun x y hx hy => ?_))
    rw [hm x y hx hy]
    unfold zg_Dep
    constructor
    · rintro ⟨k1, k2⟩
      refine ⟨k1, ?_⟩
      rintro (⟨q1, q2, q3⟩ | ⟨q1, q2, q3⟩)
      · exact hab q1
      · exact k2 (Or.inr ⟨q1, q2, q3, hx⟩)
    · rintro ⟨k1, k2⟩
      refine ⟨k1, ?_⟩
      rintro (⟨q1, q2, q3, _⟩ | ⟨q1, q2, q3, _⟩)
      · exact hab q1
      · exact k2 (Or.inr ⟨q1, q2, q3⟩)
  | succ d ih =>
    intro i pe1 hi hm
    refine br_f (nI_ge (by omega) (by omega)) (br_t rfl (br_t rfl (zx_isKept (by omega) (by omega) (fun k => br_f (by decide) ⟨zi_in (by omega) (by omega), nm_r (zi_uI (zi_ixc (by omega) (by omega)) zi_b1) (nm_r (nI_1 i) (ih (i + 1) _ (by omega) (fun x y hx hy => ?_)))⟩) (fun k => br_t rfl (nm_r (nI_1 i) (ih (i + 1) _ (by omega) (fun x y hx hy => ?_)))))))
    · by_cases c : x * 16 + y = i * 16 + b
      · have c1 : x = i := by omega
        have c2 : y = b := by omega
        subst c1 c2
        rw [pk_us]
        constructor
        · intro q; exact absurd q (by decide)
        · rintro ⟨_, q⟩
          exact absurd (Or.inr ⟨hab, rfl, k, by omega⟩) q
      · rw [pk_un c, hm x y hx hy]
        constructor
        · rintro ⟨k1, k2⟩
          refine ⟨k1, ?_⟩
          rintro (⟨q1, q2, q3, q4⟩ | ⟨q1, q2, q3, q4⟩)
          · exact hab q1
          · exact k2 (Or.inr ⟨q1, q2, q3, by omega⟩)
        · rintro ⟨k1, k2⟩
          refine ⟨k1, ?_⟩
          rintro (⟨q1, q2, q3, q4⟩ | ⟨q1, q2, q3, q4⟩)
          · exact hab q1
          · exact k2 (Or.inr ⟨q1, q2, q3, by omega⟩)
    · rw [hm x y hx hy]
      constructor
      · rintro ⟨k1, k2⟩
        refine ⟨k1, ?_⟩
        rintro (⟨q1, q2, q3, q4⟩ | ⟨q1, q2, q3, q4⟩)
        · exact hab q1
        · by_cases c : x = i
          · subst c; exact k q3
          · exact k2 (Or.inr ⟨q1, q2, q3, by omega⟩)
      · rintro ⟨k1, k2⟩
        refine ⟨k1, ?_⟩
        rintro (⟨q1, q2, q3, q4⟩ | ⟨q1, q2, q3, q4⟩)
        · exact hab q1
        · exact k2 (Or.inr ⟨q1, q2, q3, by omega⟩)
theorem zx_mark {post : SX → Prop} {p0 p1 : Int32} {a b : Nat} (e0 : p0 = nI a) (e1 : p1 = nI b) (hn : n ≤ 16) (hr : ∀ i, i < n → rk i ≤ 16) (ha : a < n) (hb : b < n)
    (h : ∀ pe', zg_Mk n rk kp a b pe pe' → post (fu, fk, fw, (nI n), fl, (nI R), fb, me, dp, rs, rc, (zi_N tl), (zi_N hd), (zi_N ln), (zi_N rk), (zi_N od), pr, (zi_L W), va, kp, pe', (zi_L L), se, (zi_N pa), (zi_N sk), rr)) : wpX_markDependents post (fu, fk, fw, (nI n), fl, (nI R), fb, me, dp, rs, rc, (zi_N tl), (zi_N hd), (zi_N ln), (zi_N rk), (zi_N od), pr, (zi_L W), va, kp, pe, (zi_L L), se, (zi_N pa), (zi_N sk), rr) p0 p1 := by
  subst e0 e1
  have r1 := hr a ha
  have r2 := hr b hb
  refine ⟨vp_in_nI (by omega) (by omega), vp_in_nI (by omega) (by omega), ek_if (d := rk a ≤ rk b) ?_ (fun c => ⟨n + 1, ?_⟩) (fun c => ⟨n + 1, ?_⟩)⟩
  · rw [zi_Nc a rfl (by omega), zi_Nc b rfl (by omega)]; exact nI_leI (by omega) (by omega)
  · exact zx_mk0 hn ha hb (by omega) h n 0 pe (by omega) (fun x y _ _ => ⟨fun k => ⟨k, by omega⟩, fun k => k.1⟩)
  · exact zx_mk1 hn ha hb (by omega) h n 0 pe (by omega) (fun x y _ _ => ⟨fun k => ⟨k, by omega⟩, fun k => k.1⟩)
theorem zx_refresh {post : SX → Prop} {p0 p1 : Int32} {a b : Nat} (e0 : p0 = nI a) (e1 : p1 = nI b) (hn : n ≤ 16) (hR : R ≤ 48) (hnd : ∀ r, r < R → tl r < n ∧ hd r < n) (hln : ∀ r, r < R → ln r ≤ 999) (hr : ∀ i, i < n → rk i ≤ 16) (hW : ∀ i, W i ≤ zg_U) (hP : zg_P n W) (hB1 : zg_B1 n rk kp) (ha : a < n) (hb : b < n)
    (h : ∀ W' va' pe', (∀ i, W' i ≤ zg_U) → zg_Rs n R tl hd ln rk W va kp pe a b W' va' pe' → post (fu, fk, fw, (nI n), fl, (nI R), fb, me, dp, rs, rc, (zi_N tl), (zi_N hd), (zi_N ln), (zi_N rk), (zi_N od), pr, (zi_L W'), va', kp, pe', (zi_L L), se, (zi_N pa), (zi_N sk), rr)) : wpX_refresh post (fu, fk, fw, (nI n), fl, (nI R), fb, me, dp, rs, rc, (zi_N tl), (zi_N hd), (zi_N ln), (zi_N rk), (zi_N od), pr, (zi_L W), va, kp, pe, (zi_L L), se, (zi_N pa), (zi_N sk), rr) p0 p1 := by
  subst e0 e1
  refine ⟨zi_in (by omega) (by omega), ek_if (d := pe (a * 16 + b) = 0) (by rw [zi_ixc (by omega) (by omega)]) (fun c => h _ _ _ hW (Or.inl ⟨c, rfl, rfl, rfl⟩)) (fun c => ⟨zi_in (by omega) (by omega), nm_r (zi_uI (zi_ixc (by omega) (by omega)) zi_b0) ?_⟩)⟩
  refine zx_recompute rfl rfl hn hR hnd hln hW hP hB1 ha hb (fun W' va' k1 k2 => ⟨fun k => br_t rfl (h _ _ _ k1 (Or.inr ⟨c, k2, Or.inl ⟨k, rfl⟩⟩)), fun k => br_f (by decide) ?_⟩)
  exact zx_mark rfl rfl hn hr ha hb (fun pe' q => h _ _ _ k1 (Or.inr ⟨c, k2, Or.inr q⟩))
end
def zx_un (rk : Nat → Nat) (r i : Nat) : Nat → Nat → Prop := fun x y => (r < rk x ∧ r < rk y) ∨ (rk x = r ∧ i ≤ rk y) ∨ (rk y = r ∧ i ≤ rk x)
section
variable {n R : Nat} {tl hd ln rk od W L pa sk : Nat → Nat} {va kp pe se pr rr : Nat → Int32} {fu : Int64} {fk fw fl fb me dp rs rc : Int32}
variable {ln0 W0 : Nat → Nat} {va0 : Nat → Int32} {low u0 v0 : Nat} {sh : Prop}
theorem zx_rf_14 {post : SX → Prop} {N r : Nat} (hn : n ≤ 16) (hR : R ≤ 48) (hnd : ∀ r, r < R → tl r < n ∧ hd r < n) (hln : ∀ r, r < R → ln r ≤ 999) (hrk : ∀ x, x < n → rk x < n ∧ od (rk x) = x) (hod : ∀ i, i < n → od i < n ∧ rk (od i) = i) (hB1 : zg_B1 n rk kp)
    (h0 : zg_C n R tl hd ln0 W0 va0 kp) (hl0 : rk u0 = low ∨ rk v0 = low) (hln0 : ∀ q, q < R → ¬ (tl q = u0 ∧ hd q = v0) → ln q = ln0 q) (hr : r < n) (hlr : low ≤ r)
    (h : ∀ W' va' pe', (∀ i, W' i ≤ zg_U) → zg_RF n R tl hd ln rk W0 W' va' kp pe' low (zx_un rk (r + 1) (r + 2)) sh → wX_refreshFrom_2 post N (nI (r + 1)) fu fk fw (nI n) fl (nI R) fb me dp rs rc (zi_N tl) (zi_N hd) (zi_N ln) (zi_N rk) (zi_N od) pr (zi_L W') va' kp pe' (zi_L L) se (zi_N pa) (zi_N sk) rr) :
    ∀ (d i : Nat) (W1 : Nat → Nat) (va1 pe1 : Nat → Int32), i + d = n → r < i → (∀ j, W1 j ≤ zg_U) → zg_RF n R tl hd ln rk W0 W1 va1 kp pe1 low (zx_un rk r i) sh →
      wX_refreshFrom_14 post (wX_refreshFrom_2 post N) (nI r) (d + 1) (nI i) fu fk fw (nI n) fl (nI R) fb me dp rs rc (zi_N tl) (zi_N hd) (zi_N ln) (zi_N rk) (zi_N od) pr (zi_L W1) va1 kp pe1 (zi_L L) se (zi_N pa) (zi_N sk) rr := by
  intro d
  induction d with
  | zero =>
    intro i W1 va1 pe1 hi hri hU hF
    have hi' : i = n := by omega
    subst hi'
    refine br_t (nI_le (by omega) (by omega)) (nm_r (nI_1 r) (h _ _ _ hU (zg_RF_un hF (fun x y hx hy hxy k => ?_))))
    have a1 := hrk x hx
    have a2 := hrk y hy
    have a3 : rk x ≠ rk y := fun e => hxy (by rw [← a1.2, ← a2.2, e])
    unfold zx_un at k ⊢
    omega
  | succ d ih =>
    intro i W1 va1 pe1 hi hri hU hF
    have hi2 : i < n := by omega
    have oi := hod i hi2
    have or' := hod r hr
    have hr16 : ∀ x, x < n → rk x ≤ 16 := fun x hx => by have := (hrk x hx).1; omega
    refine br_f (nI_ge (by omega) (by omega)) ⟨vp_in_nI (by omega) (by omega), vp_in_nI (by omega) (by omega), ?_⟩
    refine zx_refresh (zi_Nc i rfl (by omega)) (zi_Nc r rfl (by omega)) hn hR hnd hln hr16 hU hF.2.2.2.2 hB1 oi.1 or'.1 (fun W2 va2 pe2 k1 k2 => ⟨vp_in_nI (by omega) (by omega), vp_in_nI (by omega) (by omega), ?_⟩)
    have hF2 : zg_RF n R tl hd ln rk W0 W2 va2 kp pe2 low (fun x y => zx_un rk r i x y ∧ ¬ (x = od i ∧ y = od r)) sh :=
      zg_RF_step hn hF hB1 oi.1 or'.1 k2 hlr (by omega) (by omega) h0 hl0 hln0 (fun x y hx hy q1 q2 => ⟨q1, q2⟩) (fun x y hx hy q1 q2 => ⟨Or.inl ⟨q1, q2⟩, fun q => by rw [q.2] at q2; omega⟩)
    refine zx_refresh (zi_Nc r rfl (by omega)) (zi_Nc i rfl (by omega)) hn hR hnd hln hr16 k1 hF2.2.2.2.2 hB1 or'.1 oi.1 (fun W3 va3 pe3 k3 k4 => nm_r (nI_1 i) (ih (i + 1) W3 va3 pe3 (by omega) (by omega) k3 ?_))
    refine zg_RF_step hn hF2 hB1 or'.1 oi.1 k4 hlr (by omega) (by omega) h0 hl0 hln0 (fun x y hx hy q1 q2 => ?_) (fun x y hx hy q1 q2 => Or.inl ⟨q1, q2⟩)
    have a1 := (hrk x hx).2
    have a2 := (hrk y hy).2
    obtain ⟨q3, q4⟩ := q1
    unfold zx_un at q3 ⊢
    rcases q3 with q3 | ⟨q3, q5⟩ | ⟨q3, q5⟩
    · exact Or.inl q3
    · right; left
      refine ⟨q3, ?_⟩
      have : rk y ≠ i := fun e => q2 ⟨by rw [← a1, q3], by rw [← a2, e]⟩
      omega
    · right; right
      refine ⟨q3, ?_⟩
      have : rk x ≠ i := fun e => q4 ⟨by rw [← a1, e], by rw [← a2, q3]⟩
      omega
theorem zx_rf_2 {post : SX → Prop} (hn : n ≤ 16) (hR : R ≤ 48) (hnd : ∀ r, r < R → tl r < n ∧ hd r < n) (hln : ∀ r, r < R → ln r ≤ 999) (hrk : ∀ x, x < n → rk x < n ∧ od (rk x) = x) (hod : ∀ i, i < n → od i < n ∧ rk (od i) = i) (hB1 : zg_B1 n rk kp)
    (h0 : zg_C n R tl hd ln0 W0 va0 kp) (hl0 : rk u0 = low ∨ rk v0 = low) (hln0 : ∀ q, q < R → ¬ (tl q = u0 ∧ hd q = v0) → ln q = ln0 q)
    (h : ∀ W' va' pe', (∀ i, W' i ≤ zg_U) → zg_RF n R tl hd ln rk W0 W' va' kp pe' low (fun _ _ => False) sh → post (fu, fk, fw, (nI n), fl, (nI R), fb, me, dp, rs, rc, (zi_N tl), (zi_N hd), (zi_N ln), (zi_N rk), (zi_N od), pr, (zi_L W'), va', kp, pe', (zi_L L), se, (zi_N pa), (zi_N sk), rr)) :
    ∀ (d r : Nat) (W1 : Nat → Nat) (va1 pe1 : Nat → Int32), r + d = n → low ≤ r → (∀ j, W1 j ≤ zg_U) → zg_RF n R tl hd ln rk W0 W1 va1 kp pe1 low (zx_un rk r (r + 1)) sh →
      wX_refreshFrom_2 post (d + 1) (nI r) fu fk fw (nI n) fl (nI R) fb me dp rs rc (zi_N tl) (zi_N hd) (zi_N ln) (zi_N rk) (zi_N od) pr (zi_L W1) va1 kp pe1 (zi_L L) se (zi_N pa) (zi_N sk) rr := by
  intro d
  induction d with
  | zero =>
    intro r W1 va1 pe1 hi hlr hU hF
    have hi' : r = n := by omega
    subst hi'
    refine br_t (nI_le (by omega) (by omega)) (h _ _ _ hU (zg_RF_un hF (fun x y hx hy _ k => ?_)))
    have a1 := hrk x hx
    have a2 := hrk y hy
    unfold zx_un at k
    omega
  | succ d ih =>
    intro r W1 va1 pe1 hi hlr hU hF
    refine br_f (nI_ge (by omega) (by omega)) (nm_r (nI_1 r) ⟨n - (r + 1) + 1, ?_⟩)
    exact zx_rf_14 (u0 := u0) (v0 := v0) hn hR hnd hln hrk hod hB1 h0 hl0 hln0 (by omega) hlr (fun W' va' pe' k1 k2 => ih (r + 1) W' va' pe' (by omega) (by omega) k1 k2) (n - (r + 1)) (r + 1) W1 va1 pe1 (by omega) (by omega) hU hF
theorem zx_rep_102 {post : SX → Prop} (hn : n ≤ 16) (hnd : ∀ r, r < R → tl r < n ∧ hd r < n) (hrk : ∀ x, x < n → rk x < n ∧ od (rk x) = x) (hod : ∀ i, i < n → od i < n ∧ rk (od i) = i)
    (h : ∀ W' va' kp' L' se', (∀ i, W' i ≤ zg_U) → (∀ i, L' i ≤ zg_U) → zg_I n R tl hd ln rk W' va' kp' n → post (fu, fk, fw, (nI n), fl, (nI R), fb, me, dp, rs, rc, (zi_N tl), (zi_N hd), (zi_N ln), (zi_N rk), (zi_N od), pr, (zi_L W'), va', kp', pe, (zi_L L'), se', (zi_N pa), (zi_N sk), rr)) :
    ∀ (d r : Nat) (W1 : Nat → Nat) (va1 kp1 : Nat → Int32) (L1 : Nat → Nat) (se1 : Nat → Int32), r + d = n → (∀ j, W1 j ≤ zg_U) → (∀ j, L1 j ≤ zg_U) → zg_I n R tl hd ln rk W1 va1 kp1 r →
      wX_repair_102 post (d + 1) (nI r) fu fk fw (nI n) fl (nI R) fb me dp rs rc (zi_N tl) (zi_N hd) (zi_N ln) (zi_N rk) (zi_N od) pr (zi_L W1) va1 kp1 pe (zi_L L1) se1 (zi_N pa) (zi_N sk) rr := by
  intro d
  induction d with
  | zero =>
    intro r W1 va1 kp1 L1 se1 hi hU hU2 hI
    have hi' : r = n := by omega
    subst hi'
    exact br_t (nI_le (by omega) (by omega)) (h _ _ _ _ _ hU hU2 hI)
  | succ d ih =>
    intro r W1 va1 kp1 L1 se1 hi hU hU2 hI
    have or' := hod r (by omega)
    have hr16 : ∀ x, x < n → rk x ≤ 16 := fun x hx => by have := (hrk x hx).1; omega
    refine br_f (nI_ge (by omega) (by omega)) ⟨vp_in_nI (by omega) (by omega), ?_⟩
    rw [zi_Nc r rfl (by omega)]
    refine zx_bypass hn hr16 hU hU2 hI.2.2.2.2.2 or'.1 (fun _ W' va' kp' L' se' k1 k2 k3 => nm_r (nI_1 r) (ih (r + 1) _ _ _ _ _ (by omega) k1 k2 ?_))
    refine zg_stp hI hnd or'.1 k3 (fun _ _ _ => rfl) or'.2 (by omega) (fun m hm c => by omega) (fun x hx c e => c ?_)
    rw [← (hrk x hx).2, e]
theorem zx_repair {post : SX → Prop} (hn : n ≤ 16) (hR : R ≤ 48) (hnd : ∀ r, r < R → tl r < n ∧ hd r < n) (hln : ∀ r, r < R → ln r ≤ 999) (hW : ∀ i, W i ≤ zg_U) (hL : ∀ i, L i ≤ zg_U) (hu : u0 < n) (hv : v0 < n)
    (hln0 : ∀ q, q < R → ¬ (tl q = u0 ∧ hd q = v0) → ln q = ln0 q) (hB : zx_Bt n R tl hd ln0 rk od W va kp pe) {p0 p1 : Int32} (e0 : p0 = nI u0) (e1 : p1 = nI v0)
    (h : ∀ W' va' kp' pe' L' se', (∀ i, W' i ≤ zg_U) → (∀ i, L' i ≤ zg_U) → zx_Bt n R tl hd ln rk od W' va' kp' pe' → post (fu, fk, fw, (nI n), fl, (nI R), fb, me, dp, rs, rc, (zi_N tl), (zi_N hd), (zi_N ln), (zi_N rk), (zi_N od), pr, (zi_L W'), va', kp', pe', (zi_L L'), se', (zi_N pa), (zi_N sk), rr)) :
    wpX_repair post (fu, fk, fw, (nI n), fl, (nI R), fb, me, dp, rs, rc, (zi_N tl), (zi_N hd), (zi_N ln), (zi_N rk), (zi_N od), pr, (zi_L W), va, kp, pe, (zi_L L), se, (zi_N pa), (zi_N sk), rr) p0 p1 := by
  subst e0 e1
  obtain ⟨hrk, hod, hI, hpe⟩ := hB
  have hB1 := hI.2.1
  have hr16 : ∀ x, x < n → rk x ≤ 16 := fun x hx => by have := (hrk x hx).1; omega
  have hrkn : ∀ x, x < n → rk x < n := fun x hx => (hrk x hx).1
  have ru := hrkn u0 hu
  have rv := hrkn v0 hv
  refine ⟨zi_in (by omega) (by omega), nm_r (zi_W (by omega) (by omega)) (zx_recompute rfl rfl hn hR hnd hln hW hI.2.2.2.2.2 hB1 hu hv (fun W1 va1 k1 k2 => ⟨fun k => br_t rfl (h _ _ _ _ _ _ k1 hL ⟨hrk, hod, zg_RF_same hn hI hrkn hu hv hnd hln0 k2 k, hpe⟩), fun k => br_f (by decide) ⟨zi_in (by omega) (by omega), ?_⟩⟩))⟩
  have j75 : ∀ (fl' : Int32) (low : Nat), low = (if rk u0 < rk v0 then rk u0 else rk v0) → ((fl' = 0 ∧ W1 (u0 * 16 + v0) ≤ W (u0 * 16 + v0)) ∨ fl' = 1) → wX_repair_75 post (nI u0) (nI v0) fl' (nI low) fu fk fw (nI n) fl (nI R) fb me dp rs rc (zi_N tl) (zi_N hd) (zi_N ln) (zi_N rk) (zi_N od) pr (zi_L W1) va1 kp pe (zi_L L) se (zi_N pa) (zi_N sk) rr := by
    intro fl' low hlow hfl
    have hlow2 : rk u0 = low ∨ rk v0 = low := by rw [hlow]; split <;> omega
    have hlown : low < n := by omega
    refine zx_mark rfl rfl hn hr16 hu hv (fun pe' q => ⟨n - low + 1, ?_⟩)
    have hF : zg_RF n R tl hd ln rk W W1 va1 kp pe' low (fun x y => low < rk x ∧ low < rk y) (fl' = 0) :=
      zg_RF_0 hn hI hrkn hu hv hnd hln0 hpe k2 q hlow (fun e => by
        rcases hfl with hfl | hfl
        · exact hfl.2
        · rw [hfl] at e; exact absurd e (by decide))
    refine zx_rf_2 (u0 := u0) (v0 := v0) hn hR hnd hln hrk hod hB1 hI.2.2.2.1 hlow2 hln0 (fun W2 va2 pe2 m1 m2 => ?_) (n - low) low W1 va1 pe' (by omega) (Nat.le_refl _) k1 (zg_RF_un hF (fun x y _ _ _ z => Or.inl z))
    refine br_c (fun c => ?_) (fun c => ?_)
    · have hend := zg_RF_end (q := low) m2 hB1 hnd (fun _ _ _ _ _ z => z) (Or.inr ⟨c, Nat.le_refl _⟩) hI.2.2.2.2.1 (by omega)
      exact ⟨n - low + 1, zx_rep_102 hn hnd hrk hod (fun W' va' kp' L' se' a1 a2 a3 => h _ _ _ _ _ _ a1 a2 ⟨hrk, hod, a3, hend.1⟩) (n - low) low W2 va2 kp L se (by omega) m1 hL hend.2⟩
    · have hend := zg_RF_end (q := 0) m2 hB1 hnd (fun _ _ _ _ _ z => z) (Or.inl rfl) hI.2.2.2.2.1 (by omega)
      exact ⟨n + 1, zx_rep_102 hn hnd hrk hod (fun W' va' kp' L' se' a1 a2 a3 => h _ _ _ _ _ _ a1 a2 ⟨hrk, hod, a3, hend.1⟩) n 0 W2 va2 kp L se (by omega) m1 hL hend.2⟩
  have j43 : ∀ (fl' : Int32), ((fl' = 0 ∧ W1 (u0 * 16 + v0) ≤ W (u0 * 16 + v0)) ∨ fl' = 1) → wX_repair_43 post (nI u0) (nI v0) fl' fu fk fw (nI n) fl (nI R) fb me dp rs rc (zi_N tl) (zi_N hd) (zi_N ln) (zi_N rk) (zi_N od) pr (zi_L W1) va1 kp pe (zi_L L) se (zi_N pa) (zi_N sk) rr := by
    intro fl' hfl
    refine ⟨vp_in_nI (by omega) (by omega), vp_in_nI (by omega) (by omega), ek_if (d := rk v0 ≤ rk u0) ?_ (fun c => ⟨vp_in_nI (by omega) (by omega), ?_⟩) (fun c => ⟨vp_in_nI (by omega) (by omega), ?_⟩)⟩
    · rw [zi_Nc u0 rfl (by omega), zi_Nc v0 rfl (by omega)]; exact nI_leI (by omega) (by omega)
    · rw [zi_Nc v0 rfl (by omega)]; exact j75 fl' _ (by rw [if_neg (by omega)]) hfl
    · rw [zi_Nc u0 rfl (by omega)]; exact j75 fl' _ (by rw [if_pos (by omega)]) hfl
  exact ek_if (zi_le (zi_W (by omega) (by omega)) rfl (k1 _) (hW _)) (fun c => j43 0 (Or.inl ⟨rfl, c⟩)) (fun c => j43 1 (Or.inr rfl))
end
end
section
/-! the two searches: walk -/
def zx_cu (se : Nat → Int32) (b : Nat) : Nat → Nat
  | 0 => 0
  | k + 1 => zx_cu se b k + (if se (b + k) = 0 then 1 else 0)
theorem zx_cu_0 {se : Nat → Int32} {b : Nat} : ∀ {k : Nat}, zx_cu se b k = 0 → ∀ x, x < k → ¬ se (b + x) = 0 := by
  intro k
  induction k with
  | zero => intro _ x hx; omega
  | succ k ih =>
    intro h x hx hs
    have h' : zx_cu se b k + (if se (b + k) = 0 then 1 else 0) = 0 := h
    by_cases c : x = k
    · subst c; rw [if_pos hs] at h'; omega
    · exact ih (by omega) x (by omega) hs
theorem zx_cu_oth {se : Nat → Int32} {b j : Nat} {one : Int32} : ∀ {k : Nat}, (∀ x, x < k → j ≠ b + x) → zx_cu (upd se j one) b k = zx_cu se b k := by
  intro k
  induction k with
  | zero => intro _; rfl
  | succ k ih =>
    intro h
    show zx_cu (upd se j one) b k + (if upd se j one (b + k) = 0 then 1 else 0) = zx_cu se b k + (if se (b + k) = 0 then 1 else 0)
    rw [ih (fun x hx => h x (by omega)), pk_un (fun e => h k (by omega) e.symm)]
theorem zx_cu_set {se : Nat → Int32} {b x : Nat} {one : Int32} (hs : se (b + x) = 0) (h1 : ¬ one = 0) : ∀ {k : Nat}, x < k → zx_cu (upd se (b + x) one) b k + 1 = zx_cu se b k := by
  intro k
  induction k with
  | zero => intro h; omega
  | succ k ih =>
    intro h
    show zx_cu (upd se (b + x) one) b k + (if upd se (b + x) one (b + k) = 0 then 1 else 0) + 1 = zx_cu se b k + (if se (b + k) = 0 then 1 else 0)
    by_cases c : x = k
    · subst c
      rw [pk_us, if_neg h1, if_pos hs, zx_cu_oth (fun y hy => by omega)]
    · rw [pk_un (by omega), ← ih (by omega)]
      omega
theorem zx_cu_le (se : Nat → Int32) (b : Nat) : ∀ k, zx_cu se b k ≤ k := by
  intro k
  induction k with
  | zero => exact Nat.le_refl _
  | succ k ih =>
    show zx_cu se b k + (if se (b + k) = 0 then 1 else 0) ≤ k + 1
    split <;> omega
theorem zx_slot : ∀ x, x < 16 → (0 + x) &&& 16 = 0 ∧ (16 + x) &&& 16 = 16 := by decide
theorem zx_slot15 {b x : Nat} (hb : b = 0 ∨ b = 16) (hx : x < 16) : nI (b + x) &&& 15 = nI x := by
  rw [pk_andN (by omega) 4 (by decide)]
  congr 1
  omega
theorem zx_slot16 {b x : Nat} (hb : b = 0 ∨ b = 16) (hx : x < 16) : nI (b + x) &&& 16 = nI b := by
  rw [show (16 : Int32) = nI 16 from rfl, nx_and]
  rcases hb with rfl | rfl
  · rw [(zx_slot x hx).1]
  · rw [(zx_slot x hx).2]
section
variable {n R : Nat} {tl hd ln rk od W L pa sk : Nat → Nat} {va kp pe se pr rr : Nat → Int32} {fu : Int64} {fk fw fl fb me dp rs rc : Int32}
theorem zx_nextSlot {post : Int32 → Prop} (hn : n ≤ 16) (hL : ∀ i, L i ≤ zg_U)
    (h0 : (∀ b x, (b = 0 ∨ b = 16) → x < n → se (b + x) = 0 → zg_U ≤ L (b + x)) → post (-1))
    (h1 : ∀ b x, (b = 0 ∨ b = 16) → x < n → se (b + x) = 0 → L (b + x) < zg_U → (∀ c y, (c = 0 ∨ c = 16) → y < n → se (c + y) = 0 → L (b + x) ≤ L (c + y)) → post (nI (b + x))) : wpX_nextSlot post (fu, fk, fw, (nI n), fl, (nI R), fb, me, dp, rs, rc, (zi_N tl), (zi_N hd), (zi_N ln), (zi_N rk), (zi_N od), pr, (zi_L W), va, kp, pe, (zi_L L), se, (zi_N pa), (zi_N sk), rr) := by
  refine zx_nearest (b := 0) rfl hn (Or.inl rfl) hL (fun k0 => ?_) (fun x hx k1 k2 k3 => ?_)
  · refine zx_nearest (b := 16) rfl hn (Or.inr rfl) hL (fun k4 => ?_) (fun y hy k4 k5 k6 => ?_)
    · refine br_f (by decide) (h0 (fun b x hb hx hs => ?_))
      rcases hb with rfl | rfl
      · exact k0 x hx hs
      · exact k4 x hx hs
    · refine br_f (by decide) (h1 16 y (Or.inr rfl) hy k4 k5 (fun c z hc hz hs => ?_))
      rcases hc with rfl | rfl
      · have := k0 z hz hs; omega
      · exact k6 z hz hs
  · refine zx_nearest (b := 16) rfl hn (Or.inr rfl) hL (fun k4 => ?_) (fun y hy k4 k5 k6 => ?_)
    · refine br_t (nI_pos' (by omega)) (br_f (by decide) (h1 0 x (Or.inl rfl) hx k1 k2 (fun c z hc hz hs => ?_)))
      rcases hc with rfl | rfl
      · exact k3 z hz hs
      · have := k4 z hz hs; omega
    · refine br_t (nI_pos' (by omega)) (br_t (nI_pos' (by omega)) ⟨vp_in_nI (by omega) (by omega), vp_in_nI (by omega) (by omega), ek_if (zi_le (zi_Lc (0 + x) rfl (by omega)) (zi_Lc (16 + y) rfl (by omega)) (hL _) (hL _)) (fun c => h1 0 x (Or.inl rfl) hx k1 k2 (fun c' z hc hz hs => ?_)) (fun c => h1 16 y (Or.inr rfl) hy k4 k5 (fun c' z hc hz hs => ?_))⟩)
      · rcases hc with rfl | rfl
        · exact k3 z hz hs
        · have := k6 z hz hs; omega
      · rcases hc with rfl | rfl
        · have := k3 z hz hs; omega
        · exact k6 z hz hs
theorem zx_stall_13 {post : Int32 → Prop} {b x : Nat} (hn : n ≤ 16) (hr : ∀ i, i < n → rk i ≤ 16) (hW : ∀ i, W i ≤ zg_U) (hL : ∀ i, L i ≤ zg_U) (hb : b = 0 ∨ b = 16) (hx : x < n)
    (h1 : ∀ y, y < n → zg_p (L (b + y)) (zg_sw W b y x) < L (b + x) → post 1) (h0 : post 0) :
    ∀ (d i : Nat), i + d = n → wX_isStalled_13 post (nI (b + x)) (nI x) (nI b) fu fk fw (nI n) fl (nI R) fb me dp rs rc (zi_N tl) (zi_N hd) (zi_N ln) (zi_N rk) (zi_N od) pr (zi_L W) va kp pe (zi_L L) se (zi_N pa) (zi_N sk) rr (d + 1) (nI i) := by
  intro d
  induction d with
  | zero =>
    intro i hi
    have hi' : i = n := by omega
    subst hi'
    exact br_t (nI_le (by omega) (by omega)) h0
  | succ d ih =>
    intro i hi
    have hi2 : i < n := by omega
    have ri := hr i hi2
    have rx := hr x hx
    have e : nI b + nI i = nI (b + i) := nI_add _ _
    have hsw : zg_sw W b i x ≤ zg_U := by unfold zg_sw; split <;> exact hW _
    refine br_f (nI_ge (by omega) (by omega)) ⟨vp_in_nI (by omega) (by omega), vp_in_nI (by omega) (by omega), br_c (fun _ => nm_r (nI_1 i) (ih (i + 1) (by omega))) (fun _ => ?_)⟩
    refine zx_stepWeight rfl hb (by omega) (by omega) ⟨?_, zx_plus (zi_Lc (b + i) e (by omega)) rfl (hL _) hsw ⟨vp_in_nI (by omega) (by omega), ?_⟩⟩
    · rw [e]; exact vp_in_nI (by omega) (by omega)
    · exact ek_if (zi_le (zi_Lc (b + x) rfl (by omega)) rfl (hL _) (zg_p_le _ _)) (fun _ => nm_r (nI_1 i) (ih (i + 1) (by omega))) (fun c => h1 i hi2 (by omega))
theorem zx_isStalled {post : Int32 → Prop} {b x : Nat} (hn : n ≤ 16) (hr : ∀ i, i < n → rk i ≤ 16) (hW : ∀ i, W i ≤ zg_U) (hL : ∀ i, L i ≤ zg_U) (hb : b = 0 ∨ b = 16) (hx : x < n)
    (h1 : ∀ y, y < n → zg_p (L (b + y)) (zg_sw W b y x) < L (b + x) → post 1) (h0 : post 0) : wpX_isStalled post (fu, fk, fw, (nI n), fl, (nI R), fb, me, dp, rs, rc, (zi_N tl), (zi_N hd), (zi_N ln), (zi_N rk), (zi_N od), pr, (zi_L W), va, kp, pe, (zi_L L), se, (zi_N pa), (zi_N sk), rr) (nI (b + x)) :=
  nm_r (zx_slot15 hb (by omega)) (nm_r (zx_slot16 hb (by omega)) ⟨n + 1, zx_stall_13 hn hr hW hL hb hx h1 h0 n 0 (by omega)⟩)
/-- relaxUp by position -/
def zx_Ri (rk W : Nat → Nat) (b x : Nat) (L pa : Nat → Nat) (i : Nat) (L' pa' : Nat → Nat) : Prop :=
  (∀ y, y < i → (rk x < rk y ∧ zg_p (L (b + x)) (zg_sw W b x y) < L (b + y) ∧ L' (b + y) = zg_p (L (b + x)) (zg_sw W b x y) ∧ pa' (b + y) = x) ∨
    ((rk x < rk y → L (b + y) ≤ zg_p (L (b + x)) (zg_sw W b x y)) ∧ L' (b + y) = L (b + y) ∧ pa' (b + y) = pa (b + y))) ∧
  (∀ j, (∀ y, y < i → j ≠ b + y) → L' j = L j ∧ pa' j = pa j)
theorem zx_relax_13 {post : SX → Prop} {b x : Nat} (hn : n ≤ 16) (hr : ∀ i, i < n → rk i ≤ 16) (hW : ∀ i, W i ≤ zg_U) (hL : ∀ i, L i ≤ zg_U) (hb : b = 0 ∨ b = 16) (hx : x < n)
    (h : ∀ L' pa', (∀ i, L' i ≤ zg_U) → zg_Rx n rk W b x L pa L' pa' → post (fu, fk, fw, (nI n), fl, (nI R), fb, me, dp, rs, rc, (zi_N tl), (zi_N hd), (zi_N ln), (zi_N rk), (zi_N od), pr, (zi_L W), va, kp, pe, (zi_L L'), se, (zi_N pa'), (zi_N sk), rr)) :
    ∀ (d i : Nat) (L1 pa1 : Nat → Nat), i + d = n → (∀ j, L1 j ≤ zg_U) → zx_Ri rk W b x L pa i L1 pa1 →
      wX_relaxUp_13 post (nI (b + x)) (nI x) (nI b) fu fk fw (nI n) fl (nI R) fb me dp rs rc (d + 1) (nI i) (zi_N tl) (zi_N hd) (zi_N ln) (zi_N rk) (zi_N od) pr (zi_L W) va kp pe (zi_L L1) se (zi_N pa1) (zi_N sk) rr := by
  intro d
  induction d with
  | zero =>
    intro i L1 pa1 hi hU hR'
    have hi' : i = n := by omega
    subst hi'
    exact br_t (nI_le (by omega) (by omega)) (h _ _ hU hR')
  | succ d ih =>
    intro i L1 pa1 hi hU hR'
    have hi2 : i < n := by omega
    have ri := hr i hi2
    have rx := hr x hx
    have e : nI b + nI i = nI (b + i) := nI_add _ _
    have ec : (nI b + nI i).toNatClampNeg = b + i := by rw [e]; exact nI_clamp (by omega)
    have hin : vp_in (nI b + nI i) 32 := by rw [e]; exact vp_in_nI (by omega) (by omega)
    have hsw : zg_sw W b x i ≤ zg_U := by unfold zg_sw; split <;> exact hW _
    have hx1 : L1 (b + x) = L (b + x) := by
      by_cases c : x < i
      · rcases hR'.1 x c with k | k
        · omega
        · exact k.2.1
      · exact (hR'.2 (b + x) (fun y hy => by omega)).1
    have hi1 : L1 (b + i) = L (b + i) ∧ pa1 (b + i) = pa (b + i) := hR'.2 (b + i) (fun y hy => by omega)
    have keep : (rk x < rk i → L (b + i) ≤ zg_p (L (b + x)) (zg_sw W b x i)) → zx_Ri rk W b x L pa (i + 1) L1 pa1 := by
      intro c
      refine ⟨fun y hy => ?_, fun j hj => hR'.2 j (fun y hy => hj y (by omega))⟩
      by_cases q : y = i
      · subst q; exact Or.inr ⟨c, hi1.1, hi1.2⟩
      · exact hR'.1 y (by omega)
    refine br_f (nI_ge (by omega) (by omega)) ⟨vp_in_nI (by omega) (by omega), vp_in_nI (by omega) (by omega), ek_if (d := rk i ≤ rk x) ?_ (fun c => nm_r (nI_1 i) (ih (i + 1) _ _ (by omega) hU (keep (fun q => by omega)))) (fun c => ?_)⟩
    · rw [zi_Nc i rfl (by omega), zi_Nc x rfl (by omega)]; exact nI_leI (by omega) (by omega)
    · refine zx_stepWeight rfl hb (by omega) (by omega) ⟨vp_in_nI (by omega) (by omega), zx_plus (zi_Lc (b + x) rfl (by omega)) rfl (hU _) hsw ⟨hin, ?_⟩⟩
      rw [hx1]
      refine ek_if (zi_le (zi_Lc (b + i) e (by omega)) rfl (hU _) (zg_p_le _ _)) (fun q => nm_r (nI_1 i) (ih (i + 1) _ _ (by omega) hU (keep (fun _ => by omega)))) (fun q => ⟨hin, nm_r (zi_uL ec rfl) ⟨hin, nm_r (zi_uN ec rfl) (nm_r (nI_1 i) (ih (i + 1) _ _ (by omega) (zi_uUle hU (zg_p_le _ _)) ⟨fun y hy => ?_, fun j hj => ?_⟩))⟩⟩)
      · by_cases q2 : y = i
        · subst q2
          rw [zg_us, zg_us]
          exact Or.inl ⟨by omega, by omega, rfl, rfl⟩
        · rw [zg_un (by omega), zg_un (by omega)]
          exact hR'.1 y (by omega)
      · have := hj i (by omega)
        rw [zg_un this, zg_un this]
        exact hR'.2 j (fun y hy => hj y (by omega))
theorem zx_relaxUp {post : SX → Prop} {b x : Nat} (hn : n ≤ 16) (hr : ∀ i, i < n → rk i ≤ 16) (hW : ∀ i, W i ≤ zg_U) (hL : ∀ i, L i ≤ zg_U) (hb : b = 0 ∨ b = 16) (hx : x < n)
    (h : ∀ L' pa', (∀ i, L' i ≤ zg_U) → zg_Rx n rk W b x L pa L' pa' → post (fu, fk, fw, (nI n), fl, (nI R), fb, me, dp, rs, rc, (zi_N tl), (zi_N hd), (zi_N ln), (zi_N rk), (zi_N od), pr, (zi_L W), va, kp, pe, (zi_L L'), se, (zi_N pa'), (zi_N sk), rr)) : wpX_relaxUp post (fu, fk, fw, (nI n), fl, (nI R), fb, me, dp, rs, rc, (zi_N tl), (zi_N hd), (zi_N ln), (zi_N rk), (zi_N od), pr, (zi_L W), va, kp, pe, (zi_L L), se, (zi_N pa), (zi_N sk), rr) (nI (b + x)) :=
  nm_r (zx_slot15 hb (by omega)) (nm_r (zx_slot16 hb (by omega)) ⟨n + 1, zx_relax_13 hn hr hW hL hb hx h n 0 L pa (by omega) hL ⟨fun y hy => by omega, fun j _ => ⟨rfl, rfl⟩⟩⟩)
end
section
variable {n R : Nat} {tl hd ln rk od W L pa sk : Nat → Nat} {va kp pe se pr rr : Nat → Int32} {fu : Int64} {fk fw fl fb me dp rs rc : Int32}
variable {D : Nat → Nat → Nat} {s t : Nat}
theorem zx_meet_25 {post : Int64 → SX → Prop} (hn : n ≤ 16) (hrk : ∀ i, i < n → rk i < n) (hW : ∀ i, W i ≤ zg_U)
    (hU : ∀ a b, D a b ≤ zg_U) (ht : ∀ a b c, D a c ≤ D a b + D b c) (hself : ∀ a, D a a = 0) (hDW : ∀ u v, u < n → v < n → D u v ≤ W (u * 16 + v))
    (hud : ∀ a b, a < n → b < n → a ≠ b → D a b < zg_U → (∃ c, c < n ∧ rk a < rk c ∧ W (a * 16 + c) + D c b = D a b) ∨ (∃ c, c < n ∧ rk b < rk c ∧ D a c + W (c * 16 + b) = D a b))
    (hs : s < n) (htn : t < n)
    (h : ∀ m L' se' pa', (∀ i, L' i ≤ zg_U) → zg_M n rk W D s t L' pa' se' (D s t) m → post (lN (D s t)) (fu, fk, fw, (nI n), fl, (nI R), fb, (nI m), dp, rs, rc, (zi_N tl), (zi_N hd), (zi_N ln), (zi_N rk), (zi_N od), pr, (zi_L W), va, kp, pe, (zi_L L'), se', (zi_N pa'), (zi_N sk), rr)) :
    ∀ (d i B m : Nat) (L1 : Nat → Nat) (se1 : Nat → Int32) (pa1 : Nat → Nat), i + d = 2 * n → zx_cu se1 0 n + zx_cu se1 16 n + i ≤ 2 * n → (∀ j, L1 j ≤ zg_U) → zg_M n rk W D s t L1 pa1 se1 B m →
      wX_meet_25 post (d + 1) (lN B) (nI i) fu fk fw (nI n) fl (nI R) fb (nI m) dp rs rc (zi_N tl) (zi_N hd) (zi_N ln) (zi_N rk) (zi_N od) pr (zi_L W) va kp pe (zi_L L1) se1 (zi_N pa1) (zi_N sk) rr := by
  have hr16 : ∀ i, i < n → rk i ≤ 16 := fun i hi => by have := hrk i hi; omega
  have hfin : ∀ (B m : Nat) (L1 : Nat → Nat) (se1 : Nat → Int32) (pa1 : Nat → Nat), (∀ j, L1 j ≤ zg_U) → zg_M n rk W D s t L1 pa1 se1 B m → (∀ b x, (b = 0 ∨ b = 16) → x < n → se1 (b + x) = 0 → B ≤ L1 (b + x)) → post (lN B) (fu, fk, fw, (nI n), fl, (nI R), fb, (nI m), dp, rs, rc, (zi_N tl), (zi_N hd), (zi_N ln), (zi_N rk), (zi_N od), pr, (zi_L W), va, kp, pe, (zi_L L1), se1, (zi_N pa1), (zi_N sk), rr) := by
    intro B m L1 se1 pa1 hU1 hM he
    have hB := zg_M_end hU ht hself hDW hud (fun x hx => by have := hrk x hx; omega) hs htn hM he
    subst hB
    exact h _ _ _ _ hU1 hM
  have e2n : (2 : Int32) * nI n = nI (2 * n) := by rw [show (2 : Int32) = nI 2 from rfl, pk_mul]
  intro d
  induction d with
  | zero =>
    intro i B m L1 se1 pa1 hi hc hU1 hM
    have hi' : i = 2 * n := by omega
    subst hi'
    refine br_t (by rw [e2n]; exact nI_le (by omega) (by omega)) (hfin _ _ _ _ _ hU1 hM (fun b x hb hx hse => ?_))
    rcases hb with rfl | rfl
    · exact absurd hse (zx_cu_0 (by omega) x hx)
    · exact absurd hse (zx_cu_0 (by omega) x hx)
  | succ d ih =>
    intro i B m L1 se1 pa1 hi hc hU1 hM
    have hBU : B ≤ zg_U := hM.2.2.2.2.2.1.2.1
    refine br_f (by rw [e2n]; exact nI_ge (by omega) (by omega)) (zx_nextSlot hn hU1 (fun k => br_t (by decide) (hfin _ _ _ _ _ hU1 hM (fun b x hb hx hse => Nat.le_trans hBU (k b x hb hx hse)))) (fun b x hb hx k1 k2 k3 => br_f (nI_pos (by omega)) ⟨vp_in_nI (by omega) (by omega), ?_⟩))
    refine ek_if (zi_lt (zi_Lc (b + x) rfl (by omega)) rfl (hU1 _) hBU) (fun c => ⟨vp_in_nI (by omega) (by omega), nm_r (zi_uI (nI_clamp (by omega)) zi_b1) (nm_r (zx_slot15 hb (by omega)) ⟨vp_in_nI (by omega) (by omega), ?_, zx_plus (zi_Lc x rfl (by omega)) (zi_Lc (16 + x) (nI_add 16 x) (by omega)) (hU1 _) (hU1 _) ?_⟩)⟩) (fun c => hfin _ _ _ _ _ hU1 hM (fun b' y hb' hy hse => Nat.le_trans (by omega) (k3 b' y hb' hy hse)))
    · rw [show (16 : Int32) + nI x = nI (16 + x) from nI_add 16 x]; exact vp_in_nI (by omega) (by omega)
    · have hcnt : zx_cu (upd se1 (b + x) 1) 0 n + zx_cu (upd se1 (b + x) 1) 16 n + (i + 1) ≤ 2 * n := by
        rcases hb with rfl | rfl
        · have a1 := zx_cu_set (one := 1) k1 (by decide) hx
          have a2 := zx_cu_oth (se := se1) (b := 16) (j := 0 + x) (one := 1) (k := n) (fun y hy => by omega)
          omega
        · have a1 := zx_cu_set (one := 1) k1 (by decide) hx
          have a2 := zx_cu_oth (se := se1) (b := 0) (j := 16 + x) (one := 1) (k := n) (fun y hy => by omega)
          omega
      have j115 : ∀ B' m', ((B ≤ zg_p (L1 x) (L1 (16 + x)) ∧ B' = B ∧ m' = m) ∨ (zg_p (L1 x) (L1 (16 + x)) < B ∧ B' = zg_p (L1 x) (L1 (16 + x)) ∧ m' = x)) →
          wX_meet_115 post (wX_meet_25 post (d + 1)) (lN B') (nI i) (nI (b + x)) fu fk fw (nI n) fl (nI R) fb (nI m') dp rs rc (zi_N tl) (zi_N hd) (zi_N ln) (zi_N rk) (zi_N od) pr (zi_L W) va kp pe (zi_L L1) (upd se1 (b + x) 1) (zi_N pa1) (zi_N sk) rr := by
        intro B' m' hB'
        refine zx_isStalled hn hr16 hW hU1 hb hx (fun y hy q => br_f (by decide) (nm_r (nI_1 i) (ih (i + 1) _ _ _ _ _ (by omega) hcnt hU1 (zg_M_settle ht hU hn hM hb hx k1 (fun z hz hz2 => k3 b z hb hz hz2) (by decide) (fun e => absurd e (zg_M_stall ht hU hDW hM hb hx hy q)) hB')))) (br_t rfl ?_)
        exact zx_relaxUp hn hr16 hW hU1 hb hx (fun L' pa' q1 q2 => nm_r (nI_1 i) (ih (i + 1) _ _ _ _ _ (by omega) hcnt q1 (zg_M_relax ht hU hDW hn hs htn hM hb hx k1 (fun z hz hz2 => k3 b z hb hz hz2) (by decide) q2 hB')))
      exact ek_if (zi_le rfl rfl hBU (zg_p_le _ _)) (fun q => j115 B m (Or.inl ⟨q, rfl, rfl⟩)) (fun q => j115 _ x (Or.inr ⟨by omega, rfl, rfl⟩))
theorem zx_meet {post : Int64 → SX → Prop} (hn : n ≤ 16) (hrk : ∀ i, i < n → rk i < n) (hW : ∀ i, W i ≤ zg_U) (hL : ∀ i, L i ≤ zg_U)
    (hU : ∀ a b, D a b ≤ zg_U) (ht : ∀ a b c, D a c ≤ D a b + D b c) (hself : ∀ a, D a a = 0) (hDW : ∀ u v, u < n → v < n → D u v ≤ W (u * 16 + v))
    (hud : ∀ a b, a < n → b < n → a ≠ b → D a b < zg_U → (∃ c, c < n ∧ rk a < rk c ∧ W (a * 16 + c) + D c b = D a b) ∨ (∃ c, c < n ∧ rk b < rk c ∧ D a c + W (c * 16 + b) = D a b))
    (hs : s < n) (htn : t < n)
    (h : ∀ m L' se' pa', (∀ i, L' i ≤ zg_U) → zg_M n rk W D s t L' pa' se' (D s t) m → post (lN (D s t)) (fu, fk, fw, (nI n), fl, (nI R), fb, (nI m), dp, rs, rc, (zi_N tl), (zi_N hd), (zi_N ln), (zi_N rk), (zi_N od), pr, (zi_L W), va, kp, pe, (zi_L L'), se', (zi_N pa'), (zi_N sk), rr)) :
    wpX_meet post (fu, fk, fw, (nI n), fl, (nI R), fb, me, dp, rs, rc, (zi_N tl), (zi_N hd), (zi_N ln), (zi_N rk), (zi_N od), pr, (zi_L W), va, kp, pe, (zi_L L), se, (zi_N pa), (zi_N sk), rr) (nI s) (nI t) := by
  refine zx_startSide (b := 0) rfl hn (Or.inl rfl) hs hL (fun L1 se1 a1 a2 a3 a4 a5 => ?_)
  refine zx_startSide (b := 16) rfl hn (Or.inr rfl) htn a1 (fun L2 se2 b1 b2 b3 b4 b5 => ⟨2 * n + 1, ?_⟩)
  rw [zi_U]
  have hlo : ∀ x, x < n → L2 x = L1 x ∧ se2 x = se1 x := fun x hx => b5 x (fun y hy => by omega)
  refine zx_meet_25 hn hrk hW hU ht hself hDW hud hs htn h (2 * n) 0 zg_U s L2 se2 pa (by omega) ?_ b1 (zg_M_0 hU hself hs (fun b x hb hx hne => ?_) ?_ b3 (fun b x hb hx => ?_))
  · have := zx_cu_le se2 0 n
    have := zx_cu_le se2 16 n
    omega
  · rcases hb with rfl | rfl
    · have := a2 x hx hne
      rw [Nat.zero_add] at this ⊢
      rw [(hlo x hx).1]; exact this
    · exact b2 x hx hne
  · have := a3
    rw [Nat.zero_add] at this
    rw [(hlo s hs).1]; exact this
  · rcases hb with rfl | rfl
    · have := a4 x hx
      rw [Nat.zero_add] at this ⊢
      rw [(hlo x hx).2]; exact this
    · exact b4 x hx
end
end
section
/-! unpacking the route -/
def zg_SE (n R : Nat) (tl hd : Nat → Nat) (va : Nat → Int32) : List (Nat × Nat) → List Nat → Prop
  | [], l => l = []
  | a :: st, l => ∃ k l1 l2, zg_Exp n R tl hd va k a.1 a.2 l1 ∧ zg_SE n R tl hd va st l2 ∧ l = l1 ++ l2
def zg_Sk (n : Nat) (sk : Nat → Nat) : List (Nat × Nat) → Prop
  | [] => True
  | a :: st => sk st.length = a.1 * 16 + a.2 ∧ a.1 < n ∧ a.2 < n ∧ zg_Sk n sk st
def zg_Ro (rr : Nat → Int32) (q : List Nat) : Prop := ∀ i r, q[i]? = some r → rr i = nI r
theorem zg_SE_len {n R : Nat} {tl hd : Nat → Nat} {va : Nat → Int32} : ∀ {st : List (Nat × Nat)} {l : List Nat}, zg_SE n R tl hd va st l → st.length ≤ l.length := by
  intro st
  induction st with
  | nil => intro l _; exact Nat.zero_le _
  | cons a st ih =>
    intro l h
    obtain ⟨k, l1, l2, h1, h2, rfl⟩ := h
    have a1 := zg_Exp_len h1
    have a2 := ih h2
    rw [List.length_cons, List.length_append]
    omega
theorem zg_Sk_upd {n : Nat} {sk : Nat → Nat} {j x : Nat} : ∀ {st : List (Nat × Nat)}, zg_Sk n sk st → st.length ≤ j → zg_Sk n (zg_u sk j x) st := by
  intro st
  induction st with
  | nil => intro _ _; exact trivial
  | cons a st ih =>
    intro h hj
    rw [List.length_cons] at hj
    exact ⟨by rw [zg_un (by omega)]; exact h.1, h.2.1, h.2.2.1, ih h.2.2.2 (by omega)⟩
theorem zg_Ro_app {rr : Nat → Int32} {q : List Nat} {r : Nat} (h : zg_Ro rr q) : zg_Ro (upd rr q.length (nI r)) (q ++ [r]) := by
  intro i r' hi
  by_cases c : i < q.length
  · rw [List.getElem?_append_left c] at hi
    rw [pk_un (by omega)]
    exact h i r' hi
  · rw [List.getElem?_append_right (by omega)] at hi
    by_cases c2 : i = q.length
    · subst c2
      rw [Nat.sub_self] at hi
      simp at hi
      subst hi
      exact pk_us
    · have : ([r] : List Nat)[i - q.length]? = none := by
        rw [List.getElem?_eq_none_iff]
        simp
        omega
      rw [this] at hi
      exact absurd hi (by simp)
theorem zg_Ro_nil {rr : Nat → Int32} : zg_Ro rr [] := fun i r h => by simp at h
theorem zx_neg : ∀ m, m < 16 → ((-1 : Int32) - nI m) < 0 ∧ (-1 : Int32) - (-1 - nI m) = nI m := by decide
theorem zx_lo4 {u v : Nat} (hu : u < 16) (hv : v < 16) : nI (u * 16 + v) &&& 15 = nI v := by
  rw [pk_andN (by omega) 4 (by decide)]
  congr 1
  omega
theorem zx_hi4 {u v : Nat} (hu : u < 16) (hv : v < 16) : nI (u * 16 + v) >>> ((4 : Int32) &&& 31) = nI u := by
  rw [pk_shrN (by omega) _ 4 (by decide)]
  congr 1
  omega
section
variable {n R : Nat} {tl hd ln rk od W L pa sk : Nat → Nat} {va kp pe se pr rr : Nat → Int32} {fu : Int64} {fk fw fl fb me dp rs rc : Int32}
theorem zx_push {post : SX → Prop} {p0 p1 d0 : Int32} {k a b : Nat} (ed : d0 = nI k) (e0 : p0 = nI a) (e1 : p1 = nI b) (hk : k < 32) (h : post (fu, fk, fw, (nI n), fl, (nI R), fb, me, (nI (k + 1)), rs, rc, (zi_N tl), (zi_N hd), (zi_N ln), (zi_N rk), (zi_N od), pr, (zi_L W), va, kp, pe, (zi_L L), se, (zi_N pa), (zi_N (zg_u sk k (a * 16 + b))), rr)) : wpX_push post (fu, fk, fw, (nI n), fl, (nI R), fb, me, d0, rs, rc, (zi_N tl), (zi_N hd), (zi_N ln), (zi_N rk), (zi_N od), pr, (zi_L W), va, kp, pe, (zi_L L), se, (zi_N pa), (zi_N sk), rr) p0 p1 := by
  subst ed e0 e1
  refine br_f (nI_ge (b := 32) hk (by omega)) ⟨vp_in_nI hk (by omega), nm_r (zi_uN (nI_clamp (by omega)) (zi_ix a b)) (nm_r (nI_1 k) h)⟩
theorem zx_append {post : SX → Prop} {p0 d0 : Int32} {c : Nat} (ed : d0 = nI c) (hc : c < 16) (h : post (fu, fk, fw, (nI n), fl, (nI R), fb, me, dp, rs, (nI (c + 1)), (zi_N tl), (zi_N hd), (zi_N ln), (zi_N rk), (zi_N od), pr, (zi_L W), va, kp, pe, (zi_L L), se, (zi_N pa), (zi_N sk), (upd rr c p0))) : wpX_append post (fu, fk, fw, (nI n), fl, (nI R), fb, me, dp, rs, d0, (zi_N tl), (zi_N hd), (zi_N ln), (zi_N rk), (zi_N od), pr, (zi_L W), va, kp, pe, (zi_L L), se, (zi_N pa), (zi_N sk), rr) p0 := by
  subst ed
  exact br_f (nI_ge (b := 16) hc (by omega)) ⟨vp_in_nI hc (by omega), nm_r (zi_uI (nI_clamp (by omega)) rfl) (nm_r (nI_1 c) h)⟩
theorem zx_unpack_2 {post : SX → Prop} {T : List Nat} (hn : n ≤ 16) (hR : R ≤ 48)
    (h : ∀ sk' rr', zg_Ro rr' T → post (fu, fk, fw, (nI n), fl, (nI R), fb, me, (nI 0), rs, (nI T.length), (zi_N tl), (zi_N hd), (zi_N ln), (zi_N rk), (zi_N od), pr, (zi_L W), va, kp, pe, (zi_L L), se, (zi_N pa), (zi_N sk'), rr')) :
    ∀ (M i : Nat) (st : List (Nat × Nat)) (l q : List Nat) (sk1 : Nat → Nat) (rr1 : Nat → Int32), 2 * l.length = M + st.length → i + M ≤ 64 → zg_SE n R tl hd va st l → zg_Sk n sk1 st → zg_Ro rr1 q → q ++ l = T → T.length ≤ 15 →
      wX_unpack_2 post (M + 1) (nI i) fu fk fw (nI n) fl (nI R) fb me (nI st.length) rs (nI q.length) (zi_N tl) (zi_N hd) (zi_N ln) (zi_N rk) (zi_N od) pr (zi_L W) va kp pe (zi_L L) se (zi_N pa) (zi_N sk1) rr1 := by
  intro M
  induction M with
  | zero =>
    intro i st l q sk1 rr1 hM hi hS hK hq hT hl
    have hlen := zg_SE_len hS
    have hl0 : l = [] := List.length_eq_zero_iff.mp (by omega)
    have hs0 : st = [] := List.length_eq_zero_iff.mp (by omega)
    subst hl0 hs0
    rw [List.append_nil] at hT
    subst hT
    exact br_c (fun _ => h _ _ hq) (fun _ => br_t (nI_le (a := 0) (b := 0) (by omega) (by omega)) (h _ _ hq))
  | succ M ih =>
    intro i st l q sk1 rr1 hM hi hS hK hq hT hl
    have hlen := zg_SE_len hS
    have hTl : q.length + l.length = T.length := by rw [← hT, List.length_append]
    cases st with
    | nil =>
      have : l = [] := hS
      subst this
      simp at hM
    | cons a st =>
      obtain ⟨k, l1, l2, hE, hS2, rfl⟩ := hS
      obtain ⟨K1, K2, K3, K4⟩ := hK
      rw [List.length_append] at hM hlen hTl
      rw [List.length_cons] at hM hlen
      have hx : zi_N sk1 (nI st.length).toNatClampNeg = nI (a.1 * 16 + a.2) := by
        rw [zi_Nc st.length rfl (by omega), K1]
      have hc : (nI (a.1 * 16 + a.2)).toNatClampNeg = a.1 * 16 + a.2 := nI_clamp (by omega)
      refine br_f (nI_ge (b := 64) (by omega) (by omega)) (br_f (nI_ge (a := 0) (b := st.length + 1) (by omega) (by omega)) (nm_r (nI_pred st.length) ⟨vp_in_nI (by omega) (by omega), nm_r hx ⟨vp_in_nI (by omega) (by omega), nm_r (by rw [hc]) ?_⟩⟩))
      cases k with
      | zero => exact absurd hE (by simp [zg_Exp])
      | succ k =>
        rcases hE with ⟨r, r1, r2, r3, r4, rfl⟩ | ⟨m, la, lb, m1, m2, m3, m4, rfl⟩
        · rw [r2]
          refine br_f (nI_pos (by omega)) (zx_append rfl (by omega) (nm_r (nI_1 i) ?_))
          have hlq : (q ++ [r]).length = q.length + 1 := by simp
          have := ih (i + 1) st l2 (q ++ [r]) sk1 (upd rr1 q.length (nI r)) (by simp at hM; omega) (by omega) hS2 K4 (zg_Ro_app hq) (by rw [← hT]; simp) hl
          rw [hlq] at this
          exact this
        · rw [m2]
          have la1 := zg_Exp_len m3
          have lb1 := zg_Exp_len m4
          rw [List.length_append] at hM hlen hTl
          refine br_t (zx_neg m (by omega)).1 (nm_r (zx_neg m (by omega)).2 ?_)
          have hs2 := zg_SE_len hS2
          refine zx_push rfl rfl (zx_lo4 (by omega) (by omega)) (by omega) ?_
          refine zx_push rfl (zx_hi4 (by omega) (by omega)) rfl (by omega) (nm_r (nI_1 i) ?_)
          have := ih (i + 1) ((a.1, m) :: (m, a.2) :: st) (la ++ lb ++ l2) q (zg_u (zg_u sk1 st.length (m * 16 + a.2)) (st.length + 1) (a.1 * 16 + m)) rr1 (by simp; omega) (by omega)
            ⟨k, la, lb ++ l2, m3, ⟨k, lb, l2, m4, hS2, rfl⟩, by simp⟩
            ⟨zg_us, K2, m1, by rw [zg_un (by omega)]; exact zg_us, m1, K3, zg_Sk_upd (zg_Sk_upd K4 (by omega)) (by omega)⟩ hq hT hl
          exact this
theorem zx_unpack {post : SX → Prop} {st : List (Nat × Nat)} {l q : List Nat} {d0 c0 : Int32} (ed : d0 = nI st.length) (ec : c0 = nI q.length) (hn : n ≤ 16) (hR : R ≤ 48) (hS : zg_SE n R tl hd va st l) (hK : zg_Sk n sk st) (hq : zg_Ro rr q) (hl : q.length + l.length ≤ 15)
    (h : ∀ sk' rr', zg_Ro rr' (q ++ l) → post (fu, fk, fw, (nI n), fl, (nI R), fb, me, (nI 0), rs, (nI (q ++ l).length), (zi_N tl), (zi_N hd), (zi_N ln), (zi_N rk), (zi_N od), pr, (zi_L W), va, kp, pe, (zi_L L), se, (zi_N pa), (zi_N sk'), rr')) : wpX_unpack post (fu, fk, fw, (nI n), fl, (nI R), fb, me, d0, rs, c0, (zi_N tl), (zi_N hd), (zi_N ln), (zi_N rk), (zi_N od), pr, (zi_L W), va, kp, pe, (zi_L L), se, (zi_N pa), (zi_N sk), rr) := by
  subst ed ec
  have hlen := zg_SE_len hS
  exact ⟨2 * l.length - st.length + 1, zx_unpack_2 hn hR h (2 * l.length - st.length) 0 st l q sk rr (by omega) (by omega) hS hK hq rfl (by rw [List.length_append]; omega)⟩
end
/-- a least walk is simple -/
theorem zg_minlen {n R : Nat} {tl hd ln : Nat → Nat} {s t : Nat} {l : List Nat} (hnd : ∀ r, r < R → tl r < n ∧ hd r < n) (hs : s < n) (h : zg_wk (zg_ok R ln) tl hd s l t) (he : zg_sum (zg_w ln) l = zg_dw R tl hd ln s t) : (zg_nd hd s l).Nodup ∧ l.length + 1 ≤ n := by
  obtain ⟨b, h1, h2, h3⟩ := zg_simp h
  have h4 : zg_dw R tl hd ln s t ≤ zg_sum (zg_w ln) b := zg_d_le h2
  have h5 := zg_sum_sub_eq (f := zg_w ln) h1 (fun r _ => zg_w_pos ln r) (by omega)
  subst h5
  exact ⟨h3, zg_nd_len (fun r hr => (hnd r hr.1).2) hs h2 h3⟩
section
variable {n R : Nat} {tl hd ln rk W L pa : Nat → Nat} {va : Nat → Int32} {s t : Nat}
def zg_hx (n R : Nat) (tl hd ln W : Nat → Nat) (va : Nat → Int32) : Prop := ∀ u v, u < n → v < n → W (u * 16 + v) < zg_U → ∃ k l, zg_Exp n R tl hd va k u v l ∧ zg_wk (zg_ok R ln) tl hd u l v ∧ zg_sum (zg_w ln) l = W (u * 16 + v)
def zg_F (n : Nat) (rk W L pa : Nat → Nat) (s : Nat) : Prop := L s = 0 ∧ ∀ x, x < n → L x < zg_U → x = s ∨ (pa x < n ∧ rk (pa x) < rk x ∧ L x = L (pa x) + W (pa x * 16 + x))
def zg_Bk (n : Nat) (rk W L pa : Nat → Nat) (t : Nat) : Prop := L (16 + t) = 0 ∧ ∀ x, x < n → L (16 + x) < zg_U → x = t ∨ (pa (16 + x) < n ∧ rk (pa (16 + x)) < rk x ∧ L (16 + x) = L (16 + pa (16 + x)) + W (x * 16 + pa (16 + x)))
theorem zg_chF (hx : zg_hx n R tl hd ln W va) (hF : zg_F n rk W L pa s) : ∀ N x, rk x < N → x < n → L x < zg_U → ∃ l, zg_wk (zg_ok R ln) tl hd s l x ∧ zg_sum (zg_w ln) l = L x := by
  intro N
  induction N with
  | zero => intro x h; omega
  | succ N ih =>
    intro x hN hxn hL
    by_cases c : x = s
    · subst c; exact ⟨[], rfl, hF.1.symm⟩
    · obtain ⟨p1, p2, p3⟩ := (hF.2 x hxn hL).resolve_left c
      obtain ⟨l1, a1, a2⟩ := ih (pa x) (by omega) p1 (by omega)
      obtain ⟨k, l2, b1, b2, b3⟩ := hx (pa x) x p1 hxn (by omega)
      exact ⟨l1 ++ l2, zg_wk_app a1 b2, by rw [zg_sum_app]; omega⟩
theorem zg_chB (hx : zg_hx n R tl hd ln W va) (hF : zg_Bk n rk W L pa t) : ∀ N x, rk x < N → x < n → L (16 + x) < zg_U → ∃ l, zg_wk (zg_ok R ln) tl hd x l t ∧ zg_sum (zg_w ln) l = L (16 + x) := by
  intro N
  induction N with
  | zero => intro x h; omega
  | succ N ih =>
    intro x hN hxn hL
    by_cases c : x = t
    · subst c; exact ⟨[], rfl, hF.1.symm⟩
    · obtain ⟨p1, p2, p3⟩ := (hF.2 x hxn hL).resolve_left c
      obtain ⟨l1, a1, a2⟩ := ih (pa (16 + x)) (by omega) p1 (by omega)
      obtain ⟨k, l2, b1, b2, b3⟩ := hx x (pa (16 + x)) hxn p1 (by omega)
      exact ⟨l2 ++ l1, zg_wk_app b2 a1, by rw [zg_sum_app]; omega⟩
end
section
variable {n R : Nat} {tl hd ln rk od W L pa sk : Nat → Nat} {va kp pe se pr rr : Nat → Int32} {fu : Int64} {fk fw fl fb me dp rs rc : Int32}
variable {s t : Nat}
theorem zx_sr_23 {post : SX → Prop} {d0 : Int32} (hn : n ≤ 16) (hx : zg_hx n R tl hd ln W va) (hF : zg_F n rk W L pa s) (hs : s < n) :
    ∀ (N x i : Nat) (st : List (Nat × Nat)) (l : List Nat) (sk1 : Nat → Nat) (d0 : Int32), d0 = nI st.length → rk x < N → i + rk x < n → x < n → L x < zg_U → zg_SE n R tl hd va st l → zg_Sk n sk1 st →
      (∀ lf, zg_wk (zg_ok R ln) tl hd s lf x → zg_sum (zg_w ln) lf = L x → lf.length + l.length ≤ 15) →
      (∀ st' lf sk', zg_wk (zg_ok R ln) tl hd s lf x → zg_sum (zg_w ln) lf = L x → zg_SE n R tl hd va st' (lf ++ l) → zg_Sk n sk' st' → wX_storeRoute_61 post (nI t) fu fk fw (nI n) fl (nI R) fb me (nI st'.length) rs rc (zi_N tl) (zi_N hd) (zi_N ln) (zi_N rk) (zi_N od) pr (zi_L W) va kp pe (zi_L L) se (zi_N pa) (zi_N sk') rr) →
      wX_storeRoute_23 post (nI s) (nI t) N (nI x) (nI i) fu fk fw (nI n) fl (nI R) fb me d0 rs rc (zi_N tl) (zi_N hd) (zi_N ln) (zi_N rk) (zi_N od) pr (zi_L W) va kp pe (zi_L L) se (zi_N pa) (zi_N sk1) rr := by
  intro N
  induction N with
  | zero => intro x i st l sk1 d0 _ h; omega
  | succ N ih =>
    intro x i st l sk1 d0 ed hN hi hxn hL hS hK hb hc
    subst ed
    refine br_f (nI_ge (by omega) (by omega)) (ek_if (d := x = s) (nI_eq (by omega) (by omega)) (fun c => ?_) (fun c => ⟨vp_in_nI (by omega) (by omega), ?_⟩))
    · subst c
      exact hc st [] sk1 rfl hF.1.symm hS hK
    · obtain ⟨p1, p2, p3⟩ := (hF.2 x hxn hL).resolve_left c
      obtain ⟨lf0, f1, f2⟩ := zg_chF hx hF (rk x + 1) x (by omega) hxn hL
      have hlen := hb lf0 f1 f2
      have hsl := zg_SE_len hS
      obtain ⟨k, le, b1, b2, b3⟩ := hx (pa x) x p1 hxn (by omega)
      have ep : zi_N pa (nI x).toNatClampNeg = nI (pa x) := zi_Nc x rfl (by omega)
      refine zx_push rfl ep rfl (by omega) ⟨vp_in_nI (by omega) (by omega), nm_r ep (nm_r (nI_1 i) ?_)⟩
      refine ih (pa x) (i + 1) ((pa x, x) :: st) (le ++ l) _ _ rfl (by omega) (by omega) p1 (by omega) ⟨k, le, l, b1, hS, rfl⟩ ⟨zg_us, p1, hxn, zg_Sk_upd hK (Nat.le_refl _)⟩ (fun lf a1 a2 => ?_) (fun st' lf sk' a1 a2 a3 a4 => ?_)
      · have := hb (lf ++ le) (zg_wk_app a1 b2) (by rw [zg_sum_app]; omega)
        rw [List.length_append] at this ⊢
        omega
      · refine hc st' (lf ++ le) sk' (zg_wk_app a1 b2) (by rw [zg_sum_app]; omega) ?_ a4
        rw [List.append_assoc]; exact a3
theorem zx_sr_73 {post : SX → Prop} (hn : n ≤ 16) (hR : R ≤ 48) (hx : zg_hx n R tl hd ln W va) (hF : zg_Bk n rk W L pa t) (htn : t < n) :
    ∀ (N x i : Nat) (q : List Nat) (sk1 : Nat → Nat) (rr1 : Nat → Int32), rk x < N → i + rk x < n → x < n → L (16 + x) < zg_U → zg_Ro rr1 q →
      (∀ lb, zg_wk (zg_ok R ln) tl hd x lb t → zg_sum (zg_w ln) lb = L (16 + x) → q.length + lb.length ≤ 15) →
      (∀ lb sk' rr', zg_wk (zg_ok R ln) tl hd x lb t → zg_sum (zg_w ln) lb = L (16 + x) → zg_Ro rr' (q ++ lb) → post (fu, fk, fw, (nI n), fl, (nI R), fb, me, (nI 0), rs, (nI (q ++ lb).length), (zi_N tl), (zi_N hd), (zi_N ln), (zi_N rk), (zi_N od), pr, (zi_L W), va, kp, pe, (zi_L L), se, (zi_N pa), (zi_N sk'), rr')) →
      wX_storeRoute_73 post (nI t) N (nI x) (nI i) fu fk fw (nI n) fl (nI R) fb me (nI 0) rs (nI q.length) (zi_N tl) (zi_N hd) (zi_N ln) (zi_N rk) (zi_N od) pr (zi_L W) va kp pe (zi_L L) se (zi_N pa) (zi_N sk1) rr1 := by
  intro N
  induction N with
  | zero => intro x i q sk1 rr1 h; omega
  | succ N ih =>
    intro x i q sk1 rr1 hN hi hxn hL hq hb hc
    refine br_f (nI_ge (by omega) (by omega)) (ek_if (d := x = t) (nI_eq (by omega) (by omega)) (fun c => ?_) (fun c => ⟨?_, ?_⟩))
    · subst c
      have := hc [] sk1 rr1 rfl hF.1.symm (by rw [List.append_nil]; exact hq)
      rw [List.append_nil] at this
      exact this
    · rw [show (16 : Int32) + nI x = nI (16 + x) from nI_add 16 x]; exact vp_in_nI (by omega) (by omega)
    · obtain ⟨p1, p2, p3⟩ := (hF.2 x hxn hL).resolve_left c
      obtain ⟨k, le, b1, b2, b3⟩ := hx x (pa (16 + x)) hxn p1 (by omega)
      obtain ⟨lb0, f1, f2⟩ := zg_chB hx hF (rk (pa (16 + x)) + 1) (pa (16 + x)) (by omega) p1 (by omega)
      have hlen := hb (le ++ lb0) (zg_wk_app b2 f1) (by rw [zg_sum_app]; omega)
      rw [List.length_append] at hlen
      have e16 : (16 : Int32) + nI x = nI (16 + x) := nI_add 16 x
      have ep : zi_N pa ((16 : Int32) + nI x).toNatClampNeg = nI (pa (16 + x)) := zi_Nc (16 + x) e16 (by omega)
      refine zx_push (k := 0) rfl rfl ep (by omega) ?_
      refine zx_unpack (st := [(x, pa (16 + x))]) (l := le) rfl rfl hn hR ⟨k, le, [], b1, rfl, by rw [List.append_nil]⟩ ⟨zg_us, hxn, p1, trivial⟩ hq (by omega) (fun sk' rr' a1 => ⟨by rw [e16]; exact vp_in_nI (by omega) (by omega), nm_r ep (nm_r (nI_1 i) ?_)⟩)
      refine ih (pa (16 + x)) (i + 1) (q ++ le) sk' rr' (by omega) (by omega) p1 (by omega) a1 (fun lb c1 c2 => ?_) (fun lb sk'' rr'' c1 c2 c3 => ?_)
      · have := hb (le ++ lb) (zg_wk_app b2 c1) (by rw [zg_sum_app]; omega)
        rw [List.length_append] at this ⊢
        omega
      · have := hc (le ++ lb) sk'' rr'' (zg_wk_app b2 c1) (by rw [zg_sum_app]; omega) (by rw [← List.append_assoc]; exact c3)
        rw [← List.append_assoc] at this
        exact this
theorem zx_storeRoute {post : SX → Prop} {m : Nat} {e0 : Int32} (hn : n ≤ 16) (hR : R ≤ 48) (hnd : ∀ r, r < R → tl r < n ∧ hd r < n) (hrk : ∀ i, i < n → rk i < n) (hx : zg_hx n R tl hd ln W va) (hs : s < n) (htn : t < n)
    (hd0 : zg_dw R tl hd ln s t < zg_U) (hM : zg_M n rk W (zg_dw R tl hd ln) s t L pa se (zg_dw R tl hd ln s t) m) (em : e0 = nI m)
    (h : ∀ q sk' rr', zg_wk (zg_ok R ln) tl hd s q t → zg_sum (zg_w ln) q = zg_dw R tl hd ln s t → zg_Ro rr' q → post (fu, fk, fw, (nI n), fl, (nI R), fb, e0, (nI 0), (nI s), (nI q.length), (zi_N tl), (zi_N hd), (zi_N ln), (zi_N rk), (zi_N od), pr, (zi_L W), va, kp, pe, (zi_L L), se, (zi_N pa), (zi_N sk'), rr')) :
    wpX_storeRoute post (fu, fk, fw, (nI n), fl, (nI R), fb, e0, dp, rs, rc, (zi_N tl), (zi_N hd), (zi_N ln), (zi_N rk), (zi_N od), pr, (zi_L W), va, kp, pe, (zi_L L), se, (zi_N pa), (zi_N sk), rr) (nI s) (nI t) := by
  subst em
  obtain ⟨M1, M2, M3, M4, M5, ⟨M6a, M6b, M6c⟩, M7a, M7b⟩ := hM
  have hF : zg_F n rk W L pa s := by
    refine ⟨M2.1, fun x hxn hL => ?_⟩
    have := M3 0 x (Or.inl rfl) hxn (by rw [Nat.zero_add]; exact hL)
    rw [Nat.zero_add, Nat.zero_add] at this
    rcases this with k | ⟨k1, k2, k3, _⟩
    · exact Or.inl k
    · exact Or.inr ⟨k1, k2, k3⟩
  have hBk : zg_Bk n rk W L pa t := by
    refine ⟨M2.2, fun x hxn hL => ?_⟩
    rcases M3 16 x (Or.inr rfl) hxn hL with k | ⟨k1, k2, k3, _⟩
    · exact Or.inl k
    · exact Or.inr ⟨k1, k2, k3⟩
  have hp := M7b hd0
  have hpe := zg_p_lt (a := L m) (b := L (16 + m)) (by omega)
  obtain ⟨lf0, f1, f2⟩ := zg_chF hx hF (rk m + 1) m (by omega) M7a (by omega)
  obtain ⟨lb0, g1, g2⟩ := zg_chB hx hBk (rk m + 1) m (by omega) M7a (by omega)
  have hge : zg_dw R tl hd ln s t ≤ L m + L (16 + m) := by
    have := zg_d_le (f := zg_w ln) (zg_wk_app f1 g1)
    rw [zg_sum_app] at this
    have e : zg_dw R tl hd ln s t = zg_d (zg_ok R ln) tl hd (zg_w ln) s t := rfl
    omega
  have hlen : ∀ lf lb, zg_wk (zg_ok R ln) tl hd s lf m → zg_sum (zg_w ln) lf = L m → zg_wk (zg_ok R ln) tl hd m lb t → zg_sum (zg_w ln) lb = L (16 + m) → lf.length + lb.length ≤ 15 := by
    intro lf lb a1 a2 a3 a4
    have := (zg_minlen hnd hs (zg_wk_app a1 a3) (by rw [zg_sum_app]; omega)).2
    rw [List.length_append] at this
    omega
  have hrm := hrk m M7a
  refine ⟨rk m + 1, zx_sr_23 (d0 := 0) hn hx hF hs (rk m + 1) m 0 [] [] sk 0 rfl (by omega) (by omega) M7a (by omega) rfl trivial (fun lf a1 a2 => ?_) (fun st' lf sk' a1 a2 a3 a4 => ?_)⟩
  · have := hlen lf lb0 a1 a2 g1 g2
    simp
    omega
  · rw [List.append_nil] at a3
    have hl2 := hlen lf lb0 a1 a2 g1 g2
    refine zx_unpack (st := st') (l := lf) (q := []) rfl rfl hn hR a3 a4 zg_Ro_nil (by simp; omega) (fun sk'' rr' b1 => ⟨rk m + 1, ?_⟩)
    refine zx_sr_73 hn hR hx hBk htn (rk m + 1) m 0 lf sk'' rr' (by omega) (by omega) M7a (by omega) b1 (fun lb c1 c2 => hlen lf lb a1 a2 c1 c2) (fun lb sk3 rr3 c1 c2 c3 => ?_)
    exact h (lf ++ lb) sk3 rr3 (zg_wk_app a1 c1) (by rw [zg_sum_app]; omega) c3
end
end
section
/-! the reference: least sums by rounds -/
def zy_ok (R : Nat) (ln : Nat → Nat) (yd : Nat → Int32) (r : Nat) : Prop := r < R ∧ 0 < ln r ∧ yd r = 0
def zy_I (n : Nat) (ok : Nat → Prop) (tl hd ln : Nat → Nat) (s bnd k j : Nat) (yl : Nat → Int32) : Prop :=
  (∀ v, v < n → yl v = -1 ∨ ∃ c l, yl v = nI c ∧ c ≤ bnd ∧ zg_wk ok tl hd s l v ∧ zg_sum ln l = c) ∧
  (∀ l v, v < n → zg_wk ok tl hd s l v → l.length ≤ k → ∃ c, yl v = nI c ∧ c ≤ zg_sum ln l) ∧
  (∀ l r, r < j → ok r → zg_wk ok tl hd s l (tl r) → l.length ≤ k → ∃ c, yl (hd r) = nI c ∧ c ≤ zg_sum ln l + ln r)
def zy_res (ok : Nat → Prop) (tl hd ln : Nat → Nat) (s t : Nat) (x : Int32) : Prop :=
  (x = -1 ∧ ∀ l, ¬ zg_wk ok tl hd s l t) ∨ (∃ c l, x = nI c ∧ c < 2 ^ 30 ∧ zg_wk ok tl hd s l t ∧ zg_sum ln l = c ∧ ∀ l', zg_wk ok tl hd s l' t → c ≤ zg_sum ln l')
theorem zy_m1 {c : Nat} (h : c < 2 ^ 31) : ¬ nI c = -1 := by
  intro e
  have h1 := nI_pos h
  rw [e] at h1
  exact h1 (by decide)
section
variable {n : Nat} {ok : Nat → Prop} {tl hd ln : Nat → Nat} {s bnd k j : Nat} {yl : Nat → Int32}
theorem zy_I_skip (h : zy_I n ok tl hd ln s bnd k j yl) (hj : ok j → ∀ l, zg_wk ok tl hd s l (tl j) → l.length ≤ k → ∃ c, yl (hd j) = nI c ∧ c ≤ zg_sum ln l + ln j) : zy_I n ok tl hd ln s (bnd + 999) k (j + 1) yl := by
  refine ⟨fun v hv => ?_, h.2.1, fun l r hr ho hw hl => ?_⟩
  · rcases h.1 v hv with e | ⟨c, l, e1, e2, e3⟩
    · exact Or.inl e
    · exact Or.inr ⟨c, l, e1, by omega, e3⟩
  · by_cases q : r = j
    · subst q; exact hj ho l hw hl
    · exact h.2.2 l r (by omega) ho hw hl
theorem zy_I_set (h : zy_I n ok tl hd ln s bnd k j yl) (ho : ok j) (ht : tl j < n) (hh : hd j < n) (hl : ln j ≤ 999) {c0 : Nat} (e0 : yl (tl j) = nI c0) (hb : bnd < 2 ^ 30) (hc0 : c0 ≤ bnd)
    (hlt : ∀ c, yl (hd j) = nI c → c < 2 ^ 31 → c0 + ln j ≤ c) : zy_I n ok tl hd ln s (bnd + 999) k (j + 1) (upd yl (hd j) (nI (c0 + ln j))) := by
  have hmono : ∀ v X, v < n → (∃ c, yl v = nI c ∧ c ≤ X) → ∃ c, upd yl (hd j) (nI (c0 + ln j)) v = nI c ∧ c ≤ X := by
    intro v X hv ⟨c, e1, e2⟩
    by_cases q : v = hd j
    · subst q
      rw [pk_us]
      refine ⟨_, rfl, ?_⟩
      rcases h.1 (hd j) hh with e | ⟨c', l, e3, e4, e5⟩
      · by_cases q2 : c < 2 ^ 31
        · have := zy_m1 q2
          rw [← e1] at this
          exact absurd e this
        · omega
      · have := hlt c' e3 (by omega)
        by_cases q2 : c < 2 ^ 31
        · have := (nI_eq q2 (by omega)).mp (e1.symm.trans e3)
          omega
        · omega
    · rw [pk_un q]; exact ⟨c, e1, e2⟩
  refine ⟨fun v hv => ?_, fun l v hv hw hl => hmono v _ hv (h.2.1 l v hv hw hl), fun l r hr ho' hw hk => ?_⟩
  · by_cases q : v = hd j
    · subst q
      rw [pk_us]
      right
      rcases h.1 (tl j) ht with e | ⟨c', l, e3, e4, e5, e6⟩
      · rw [e0] at e
        exact absurd e (zy_m1 (by omega))
      · have := (nI_eq (by omega) (by omega)).mp (e0.symm.trans e3)
        subst this
        refine ⟨_, l ++ [j], rfl, by omega, zg_wk_app e5 ⟨ho, rfl, rfl⟩, ?_⟩
        rw [zg_sum_app, e6]
        rfl
    · rw [pk_un q]
      rcases h.1 v hv with e | ⟨c, l, e1, e2, e3⟩
      · exact Or.inl e
      · exact Or.inr ⟨c, l, e1, by omega, e3⟩
  · by_cases q : r = j
    · subst q
      rw [pk_us]
      refine ⟨_, rfl, ?_⟩
      obtain ⟨c, e1, e2⟩ := h.2.1 l (tl r) ht hw hk
      by_cases q2 : c < 2 ^ 31
      · have := (nI_eq q2 (by omega)).mp (e1.symm.trans e0)
        omega
      · omega
    · by_cases q2 : hd r < n
      · exact hmono _ _ q2 (h.2.2 l r (by omega) ho' hw hk)
      · have := h.2.2 l r (by omega) ho' hw hk
        rw [pk_un (fun e => q2 (by rw [e]; exact hh))]
        exact this
theorem zy_I_round {R : Nat} (h : zy_I n ok tl hd ln s bnd k R yl) (hR : ∀ r, ok r → r < R) (hn : ∀ r, ok r → hd r < n) : zy_I n ok tl hd ln s bnd (k + 1) 0 yl := by
  refine ⟨h.1, fun l v hv hw hl => ?_, fun l r hr => by omega⟩
  rcases List.eq_nil_or_concat l with e | ⟨l', r, e⟩
  · subst e
    exact h.2.1 [] v hv hw (Nat.zero_le _)
  · rw [List.concat_eq_append] at e
    subst e
    obtain ⟨a1, a2, a3⟩ := zg_wk_snoc hw
    subst a3
    rw [List.length_append] at hl
    obtain ⟨c, e1, e2⟩ := h.2.2 l' r (hR r a2) a2 a1 (by simp at hl; omega)
    refine ⟨c, e1, ?_⟩
    rw [zg_sum_app]
    show c ≤ zg_sum ln l' + (ln r + 0)
    omega
theorem zy_I_end {t : Nat} (hn : n ≤ 16) (h : zy_I n ok tl hd ln s bnd n 0 yl) (hb : bnd < 2 ^ 30) (hnd : ∀ r, ok r → hd r < n) (hln : ∀ r, ok r → ln r ≤ 999) (hs : s < n) (ht : t < n) : zy_res ok tl hd ln s t (yl t) := by
  have key : ∀ l, zg_wk ok tl hd s l t → ∃ c, yl t = nI c ∧ c ≤ zg_sum ln l ∧ c < 2 ^ 31 := by
    intro l hl
    obtain ⟨b, h1, h2, h3⟩ := zg_simp hl
    have h4 := zg_nd_len hnd hs h2 h3
    obtain ⟨c, e1, e2⟩ := h.2.1 b t ht h2 (by omega)
    have h5 := zg_sum_sub (f := ln) h1
    have h6 := zg_sum_le (f := ln) (c := 999) (fun r hr => hln r (zg_wk_ok h2 r hr))
    have h7 : b.length * 999 ≤ 16 * 999 := Nat.mul_le_mul_right _ (by omega)
    exact ⟨c, e1, by omega, by omega⟩
  rcases h.1 t ht with e | ⟨c, l, e1, e2, e3, e4⟩
  · left
    refine ⟨e, fun l hl => ?_⟩
    obtain ⟨c, e1, _, e3⟩ := key l hl
    rw [e] at e1
    exact zy_m1 e3 e1.symm
  · right
    refine ⟨c, l, e1, by omega, e3, e4, fun l' hl' => ?_⟩
    obtain ⟨c', k1, k2, k3⟩ := key l' hl'
    have := (nI_eq (by omega) k3).mp (e1.symm.trans k1)
    omega
end
section
variable {n R : Nat} {tl hd ln : Nat → Nat} {yr yd yl : Nat → Int32} {fl yb ys yt yz : Int32}
variable {s t : Nat}
theorem zy_least_43 {post : Int32 → SY → Prop} {J32 : Int32 → (Nat → Int32) → (Nat → Int32) → (Nat → Int32) → (Nat → Int32) → (Nat → Int32) → (Nat → Int32) → Prop} {k : Nat} (hn : n ≤ 16) (hR : R ≤ 48) (hnd : ∀ r, r < R → tl r < n ∧ hd r < n) (hln : ∀ r, r < R → ln r ≤ 999) (hk : k < n)
    (h : ∀ yl', zy_I n (zy_ok R ln yd) tl hd ln s (999 * ((k + 1) * 48)) (k + 1) 0 yl' → J32 (nI (k + 1)) (zi_N tl) (zi_N hd) (zi_N ln) yr yd yl') :
    ∀ (d i : Nat) (yl1 : Nat → Int32), i + d = R → zy_I n (zy_ok R ln yd) tl hd ln s (999 * (k * 48 + i)) k i yl1 →
      wY_leastSum_43 post J32 (nI t) (nI k) (nI n) fl (nI R) yb ys yt yz (d + 1) (nI i) (zi_N tl) (zi_N hd) (zi_N ln) yr yd yl1 := by
  intro d
  induction d with
  | zero =>
    intro i yl1 hi hI
    have hi' : i = R := by omega
    subst hi'
    refine br_t (nI_le (by omega) (by omega)) (nm_r (nI_1 k) (h _ ?_))
    have h2 := zy_I_round hI (fun r hr => hr.1) (fun r hr => (hnd r hr.1).2)
    refine ⟨fun v hv => ?_, h2.2⟩
    rcases h2.1 v hv with e | ⟨c, l, e1, e2, e3⟩
    · exact Or.inl e
    · exact Or.inr ⟨c, l, e1, by omega, e3⟩
  | succ d ih =>
    intro i yl1 hi hI
    have hi2 : i < R := by omega
    have hnd' := hnd i hi2
    have hln' := hln i hi2
    have vi : vp_in (nI i) 48 := vp_in_nI (by omega) (by omega)
    have ec : (nI i).toNatClampNeg = i := nI_clamp (by omega)
    have e1 : zi_N tl (nI i).toNatClampNeg = nI (tl i) := zi_Nc i rfl (by omega)
    have e2 : zi_N hd (nI i).toNatClampNeg = nI (hd i) := zi_Nc i rfl (by omega)
    have e3 : zi_N ln (nI i).toNatClampNeg = nI (ln i) := zi_Nc i rfl (by omega)
    have c1 : (zi_N tl (nI i).toNatClampNeg).toNatClampNeg = tl i := by rw [e1]; exact nI_clamp (by omega)
    have c2 : (zi_N hd (nI i).toNatClampNeg).toNatClampNeg = hd i := by rw [e2]; exact nI_clamp (by omega)
    have v1 : vp_in (zi_N tl (nI i).toNatClampNeg) 16 := by rw [e1]; exact vp_in_nI (by omega) (by omega)
    have v2 : vp_in (zi_N hd (nI i).toNatClampNeg) 16 := by rw [e2]; exact vp_in_nI (by omega) (by omega)
    have nx : (zy_ok R ln yd i → ∀ l, zg_wk (zy_ok R ln yd) tl hd s l (tl i) → l.length ≤ k → ∃ c, yl1 (hd i) = nI c ∧ c ≤ zg_sum ln l + ln i) → wY_leastSum_43 post J32 (nI t) (nI k) (nI n) fl (nI R) yb ys yt yz (d + 1) (nI (i + 1)) (zi_N tl) (zi_N hd) (zi_N ln) yr yd yl1 :=
      fun q => ih (i + 1) yl1 (by omega) (by have := zy_I_skip hI q; rw [show 999 * (k * 48 + i) + 999 = 999 * (k * 48 + (i + 1)) by omega] at this; exact this)
    refine br_f (nI_ge (by omega) (by omega)) ⟨vi, ek_if (d := yd i = 0) (by rw [ec]) (fun b0 => ⟨vi, ek_if (d := ln i ≤ 0) ?_ (fun l0 => nm_r (nI_1 i) (nx (fun o => absurd o.2.1 (by omega)))) (fun l0 => ⟨vi, v1, ?_⟩)⟩) (fun b0 => nm_r (nI_1 i) (nx (fun o => absurd o.2.2 b0)))⟩
    · rw [e3]; exact nI_leI (b := 0) (by omega) (by omega)
    · have hok : zy_ok R ln yd i := ⟨hi2, by omega, b0⟩
      rw [c1, c2, e3]
      rcases hI.1 (tl i) hnd'.1 with m | ⟨c0, l0', m1, m2, m3, m4⟩
      · rw [m]
        refine br_t (by decide) (nm_r (nI_1 i) (nx (fun _ l hl hk' => ?_)))
        obtain ⟨c, q1, q2⟩ := hI.2.1 l (tl i) hnd'.1 hl hk'
        rw [m] at q1
        by_cases q3 : c < 2 ^ 31
        · exact absurd q1.symm (zy_m1 q3)
        · have z1 : ∃ l2, zg_wk (zy_ok R ln yd) tl hd s l2 (tl i) ∧ zg_sum ln l2 < 2 ^ 31 := by
            refine ⟨l, hl, ?_⟩
            have h6 := zg_sum_le (f := ln) (c := 999) (a := l) (fun r hr => hln r (zg_wk_ok hl r hr).1)
            have h7 : l.length * 999 ≤ 16 * 999 := Nat.mul_le_mul_right _ (by omega)
            omega
          have h6 := zg_sum_le (f := ln) (c := 999) (a := l) (fun r hr => hln r (zg_wk_ok hl r hr).1)
          have h7 : l.length * 999 ≤ 16 * 999 := Nat.mul_le_mul_right _ (by omega)
          omega
      · rw [m1]
        have hb30 : 999 * (k * 48 + i) < 2 ^ 30 := by omega
        refine br_f (nI_pos (by omega)) ⟨vi, v1, vi, nm_r (nI_add c0 (ln i)) ⟨vi, v2, ?_⟩⟩
        have hset : (∀ c, yl1 (hd i) = nI c → c < 2 ^ 31 → c0 + ln i ≤ c) → wY_leastSum_141 post J32 (wY_leastSum_43 post J32 (nI t) (nI k) (nI n) fl (nI R) yb ys yt yz (d + 1)) (nI t) (nI k) (nI i) (nI (c0 + ln i)) (nI n) fl (nI R) yb ys yt yz (zi_N tl) (zi_N hd) (zi_N ln) yr yd yl1 := by
          intro q
          refine ⟨vi, v2, nm_r (zi_uI c2 rfl) (nm_r (nI_1 i) (ih (i + 1) _ (by omega) ?_))⟩
          have := zy_I_set hI hok hnd'.1 hnd'.2 hln' m1 hb30 m2 q
          rw [show 999 * (k * 48 + i) + 999 = 999 * (k * 48 + (i + 1)) by omega] at this
          exact this
        rcases hI.1 (hd i) hnd'.2 with w | ⟨c3, l3, w1, w2, w3, w4⟩
        · refine br_t (by rw [w]; decide) (hset (fun c q1 q2 => ?_))
          rw [w] at q1
          exact absurd q1.symm (zy_m1 q2)
        · refine br_f (by rw [w1]; exact nI_pos (by omega)) ⟨vi, v2, ek_if (d := c3 ≤ c0 + ln i) (by rw [w1]; exact nI_leI (by omega) (by omega)) (fun q => nm_r (nI_1 i) (nx (fun _ l hl hk' => ?_))) (fun q => hset (fun c q1 q2 => ?_))⟩
          · obtain ⟨c, q1, q2⟩ := hI.2.1 l (tl i) hnd'.1 hl hk'
            refine ⟨c3, w1, ?_⟩
            by_cases q3 : c < 2 ^ 31
            · have := (nI_eq (by omega) q3).mp (m1.symm.trans q1)
              omega
            · omega
          · have := (nI_eq (by omega) q2).mp (w1.symm.trans q1)
            omega
theorem zy_least_32 {post : Int32 → SY → Prop} (hn : n ≤ 16) (hR : R ≤ 48) (hnd : ∀ r, r < R → tl r < n ∧ hd r < n) (hln : ∀ r, r < R → ln r ≤ 999) (hs : s < n) (ht : t < n)
    (h : ∀ x yl', zy_res (zy_ok R ln yd) tl hd ln s t x → post x ((nI n), fl, (nI R), yb, ys, yt, yz, (zi_N tl), (zi_N hd), (zi_N ln), yr, yd, yl')) :
    ∀ (d k : Nat) (yl1 : Nat → Int32), k + d = n → zy_I n (zy_ok R ln yd) tl hd ln s (999 * (k * 48)) k 0 yl1 →
      wY_leastSum_32 post (nI t) (nI n) fl (nI R) yb ys yt yz (d + 1) (nI k) (zi_N tl) (zi_N hd) (zi_N ln) yr yd yl1 := by
  intro d
  induction d with
  | zero =>
    intro k yl1 hk hI
    have hk' : k = n := by omega
    subst hk'
    refine br_t (nI_le (by omega) (by omega)) ⟨vp_in_nI (by omega) (by omega), h _ _ ?_⟩
    rw [nI_clamp (by omega)]
    exact zy_I_end hn hI (by omega) (fun r hr => (hnd r hr.1).2) (fun r hr => hln r hr.1) hs ht
  | succ d ih =>
    intro k yl1 hk hI
    refine br_f (nI_ge (by omega) (by omega)) ⟨R + 1, ?_⟩
    exact zy_least_43 hn hR hnd hln (by omega) (fun yl' q => ih (k + 1) yl' (by omega) q) R 0 yl1 (by omega) hI
theorem zy_least_2 {post : Int32 → SY → Prop} (hn : n ≤ 16) (hR : R ≤ 48) (hnd : ∀ r, r < R → tl r < n ∧ hd r < n) (hln : ∀ r, r < R → ln r ≤ 999) (hs : s < n) (ht : t < n)
    (h : ∀ x yl', zy_res (zy_ok R ln yd) tl hd ln s t x → post x ((nI n), fl, (nI R), yb, ys, yt, yz, (zi_N tl), (zi_N hd), (zi_N ln), yr, yd, yl')) :
    ∀ (d i : Nat) (yl1 : Nat → Int32), i + d = n → (∀ v, v < i → yl1 v = -1) →
      wY_leastSum_2 post (nI s) (nI t) (nI n) fl (nI R) yb ys yt yz (d + 1) (nI i) (zi_N tl) (zi_N hd) (zi_N ln) yr yd yl1 := by
  intro d
  induction d with
  | zero =>
    intro i yl1 hi hv
    have hi' : i = n := by omega
    subst hi'
    refine br_t (nI_le (by omega) (by omega)) ⟨vp_in_nI (by omega) (by omega), nm_r (zi_uI (nI_clamp (by omega)) rfl) ⟨i + 1, ?_⟩⟩
    refine zy_least_32 hn hR hnd hln hs ht h i 0 _ (by omega) ⟨fun v hv' => ?_, fun l v hv' hw hl => ?_, fun l r hr => by omega⟩
    · by_cases c : v = s
      · subst c; exact Or.inr ⟨0, [], pk_us, Nat.zero_le _, rfl, rfl⟩
      · rw [pk_un c]; exact Or.inl (hv v hv')
    · have : l = [] := List.length_eq_zero_iff.mp (by omega)
      subst this
      have e : s = v := hw
      subst e
      exact ⟨0, pk_us, Nat.zero_le _⟩
  | succ d ih =>
    intro i yl1 hi hv
    refine br_f (nI_ge (by omega) (by omega)) ⟨vp_in_nI (by omega) (by omega), nm_r (zi_uI (nI_clamp (by omega)) rfl) (nm_r (nI_1 i) (ih (i + 1) _ (by omega) (fun v hv' => ?_)))⟩
    by_cases c : v = i
    · subst c; exact pk_us
    · rw [pk_un c]; exact hv v (by omega)
theorem zy_leastSum {post : Int32 → SY → Prop} (hn : n ≤ 16) (hR : R ≤ 48) (hnd : ∀ r, r < R → tl r < n ∧ hd r < n) (hln : ∀ r, r < R → ln r ≤ 999) (hs : s < n) (ht : t < n)
    (h : ∀ x yl', zy_res (zy_ok R ln yd) tl hd ln s t x → post x ((nI n), fl, (nI R), yb, ys, yt, yz, (zi_N tl), (zi_N hd), (zi_N ln), yr, yd, yl')) : wpY_leastSum post ((nI n), fl, (nI R), yb, ys, yt, yz, (zi_N tl), (zi_N hd), (zi_N ln), yr, yd, yl) (nI s) (nI t) :=
  ⟨n + 1, zy_least_2 hn hR hnd hln hs ht h n 0 yl (by omega) (fun v hv => by omega)⟩
theorem zy_dist_31 {post : Int32 → SY → Prop} (hn : n ≤ 16) (hR : R ≤ 48) (hnd : ∀ r, r < R → tl r < n ∧ hd r < n) (hln : ∀ r, r < R → ln r ≤ 999) (hs : s < n) (ht : t < n)
    (h : ∀ x yd' yl', (∀ r, r < R → yd' r = 0) → zy_res (zy_ok R ln yd') tl hd ln s t x → post x ((nI n), fl, (nI R), yb, ys, yt, yz, (zi_N tl), (zi_N hd), (zi_N ln), yr, yd', yl')) :
    ∀ (d i : Nat) (yd1 : Nat → Int32), i + d = R → (∀ r, r < i → yd1 r = 0) →
      wY_distance_31 post (nI s) (nI t) (nI n) fl (nI R) yb ys yt yz (d + 1) (nI i) (zi_N tl) (zi_N hd) (zi_N ln) yr yd1 yl := by
  intro d
  induction d with
  | zero =>
    intro i yd1 hi hv
    have hi' : i = R := by omega
    subst hi'
    exact br_t (nI_le (by omega) (by omega)) (zy_leastSum hn hR hnd hln hs ht (fun x yl' k => h x _ _ hv k))
  | succ d ih =>
    intro i yd1 hi hv
    refine br_f (nI_ge (by omega) (by omega)) ⟨vp_in_nI (by omega) (by omega), nm_r (zi_uI (nI_clamp (by omega)) zi_b0) (nm_r (nI_1 i) (ih (i + 1) _ (by omega) (fun r hr => ?_)))⟩
    by_cases c : r = i
    · subst c; exact pk_us
    · rw [pk_un c]; exact hv r (by omega)
end
end
section
/-! the reference's query against any least-weight walk Q -/
theorem zg_nodes {ok : Nat → Prop} {tl hd : Nat → Nat} {t : Nat} : ∀ {s : Nat} {Q : List Nat}, zg_wk ok tl hd s Q t → zg_nd hd s Q = Q.map tl ++ [t] := by
  intro s Q
  induction Q generalizing s with
  | nil => intro h; cases h; rfl
  | cons r l ih =>
    intro h
    obtain ⟨_, h2, h3⟩ := h
    have := ih h3
    show s :: zg_nd hd (hd r) l = tl r :: (l.map tl ++ [t])
    rw [this, h2]
theorem zg_inj {f : Nat → Nat} : ∀ {l : List Nat}, (l.map f).Nodup → ∀ a b, a ∈ l → b ∈ l → f a = f b → a = b := by
  intro l
  induction l with
  | nil => intro _ a b ha; cases ha
  | cons q l ih =>
    intro h a b ha hb e
    have h' := List.nodup_cons.mp h
    rcases List.mem_cons.mp ha with ea | ha'
    · rcases List.mem_cons.mp hb with eb | hb'
      · rw [ea, eb]
      · exact absurd (by rw [← ea, e]; exact List.mem_map_of_mem hb') h'.1
    · rcases List.mem_cons.mp hb with eb | hb'
      · exact absurd (by rw [← eb, ← e]; exact List.mem_map_of_mem ha') h'.1
      · exact ih h'.2 a b ha' hb' e
section
variable {n R : Nat} {tl hd ln : Nat → Nat} {s t : Nat} {Q : List Nat}
theorem zg_wbits {b : List Nat} (hR : R ≤ 48) (h : zg_wk (zg_ok R ln) tl hd s b t) (hd' : (zg_nd hd s b).Nodup) : zg_sum (zg_w ln) b = zg_sum ln b * 2 ^ 48 + zg_bs (fun i => decide (i ∈ b)) 48 := by
  have hk := zg_wk_ok h
  rw [zg_sum_w (fun r hr => (hk r hr).2), zg_bits (k := 48) (zg_map_nodup (List.nodup_cons.mp hd').2) (fun r hr => by have := (hk r hr).1; omega)]
theorem zg_minL (hR : R ≤ 48) (hnd : ∀ r, r < R → tl r < n ∧ hd r < n) (hs : s < n) (hQ : zg_wk (zg_ok R ln) tl hd s Q t) (hQ2 : zg_sum (zg_w ln) Q = zg_dw R tl hd ln s t) {l : List Nat} (h : zg_wk (zg_ok R ln) tl hd s l t) : zg_sum ln Q ≤ zg_sum ln l := by
  obtain ⟨b, h1, h2, h3⟩ := zg_simp h
  have h4 := zg_wbits hR h2 h3
  have h5 := zg_wbits hR hQ (zg_minlen hnd hs hQ hQ2).1
  have h6 : zg_dw R tl hd ln s t ≤ zg_sum (zg_w ln) b := zg_d_le h2
  have h7 := zg_bs_lt (fun i => decide (i ∈ b)) 48
  have h8 := zg_sum_sub (f := ln) h1
  omega
theorem zg_greedy (hR : R ≤ 48) (hnd : ∀ r, r < R → tl r < n ∧ hd r < n) (hs : s < n) (hQ : zg_wk (zg_ok R ln) tl hd s Q t) (hQ2 : zg_sum (zg_w ln) Q = zg_dw R tl hd ln s t) {l : List Nat} (h : zg_wk (zg_ok R ln) tl hd s l t)
    (hle : zg_sum ln l ≤ zg_sum ln Q) {k : Nat} (hk : k ∈ Q) (hk2 : ¬ k ∈ l) (hk3 : ∀ r, r ∈ l → k < r → r ∈ Q) : False := by
  obtain ⟨b, h1, h2, h3⟩ := zg_simp h
  have h4 := zg_wbits hR h2 h3
  have h5 := zg_wbits hR hQ (zg_minlen hnd hs hQ hQ2).1
  have h6 : zg_dw R tl hd ln s t ≤ zg_sum (zg_w ln) b := zg_d_le h2
  have h8 := zg_sum_sub (f := ln) h1
  have hkR := (zg_wk_ok hQ k hk).1
  have hb : ∀ r, r ∈ b → r ∈ l := fun r hr => h1.subset hr
  have h9 := zg_bs_cmp (p := fun i => decide (i ∈ Q)) (q := fun i => decide (i ∈ b)) (r := k) (decide_eq_true hk) (decide_eq_false (fun c => hk2 (hb k c))) (47 - k) (fun i hi _ hc => decide_eq_true (hk3 i (hb i (of_decide_eq_true hc)) hi))
  rw [show k + 1 + (47 - k) = 48 by omega] at h9
  omega
end
def zy_ix : Nat → Int32
  | 0 => -1
  | k + 1 => nI k
theorem zy_ix_m (k : Nat) : nI k + (-1) = zy_ix k := by
  cases k with
  | zero => decide
  | succ k => exact pk_m1 k
theorem zy_ix_R (R : Nat) : nI R - 1 = zy_ix R := by
  cases R with
  | zero => decide
  | succ k => exact nI_pred k
section
variable {n R : Nat} {tl hd ln : Nat → Nat} {yr yd yl : Nat → Int32} {fl yb ys yt yz : Int32}
variable {s t : Nat} {Q : List Nat}
theorem zy_q120 {post : Int32 → SY → Prop} {J : Int32 → Int32 → Int32 → (Nat → Int32) → (Nat → Int32) → (Nat → Int32) → (Nat → Int32) → (Nat → Int32) → (Nat → Int32) → Prop} {x3 : Int32} {a i c : Nat} (ez : yz = nI c) (hc : c < 16) (hR : R ≤ 48) (hyd : ∀ r, r < R → (yd r = 0 ↔ r ∈ Q)) (ha : a < 16) (hnd : ∀ r, r < R → tl r < 16)
    (h0 : (∀ r, r < R → r ∈ Q → tl r ≠ a) → J (nI a) (nI (i + 1)) yz (zi_N tl) (zi_N hd) (zi_N ln) yr yd yl)
    (h1 : ∀ r, r < R → r ∈ Q → tl r = a → J (nI (hd r)) (nI (i + 1)) (nI (c + 1)) (zi_N tl) (zi_N hd) (zi_N ln) (upd yr c (nI r)) yd yl) :
    ∀ (d j : Nat) (x6 : Int32), j + d = R → ((x6 = -1 ∧ ∀ r, r < j → r ∈ Q → tl r ≠ a) ∨ ∃ r, r < R ∧ r ∈ Q ∧ tl r = a ∧ x6 = nI r) →
      wY_query_120 post J x3 (nI a) (nI i) (nI n) fl (nI R) yb ys yt yz (zi_N tl) (zi_N hd) (zi_N ln) yr yd yl (d + 1) x6 (nI j) := by
  subst ez
  intro d
  induction d with
  | zero =>
    intro j x6 hj hx
    have hj' : j = R := by omega
    subst hj'
    refine br_t (nI_le (by omega) (by omega)) ?_
    rcases hx with ⟨rfl, k⟩ | ⟨r, k1, k2, k3, rfl⟩
    · exact br_t (by decide) (nm_r (nI_1 i) (h0 k))
    · refine br_f (nI_pos (by omega)) ⟨vp_in_nI hc (by omega), nm_r (zi_uI (nI_clamp (by omega)) rfl) (nm_r (nI_1 c) ⟨vp_in_nI (by omega) (by omega), nm_r (zi_Nc r rfl (by omega)) (nm_r (nI_1 i) (h1 r k1 k2 k3))⟩)⟩
  | succ d ih =>
    intro j x6 hj hx
    have hj2 : j < R := by omega
    have ht := hnd j hj2
    have vj : vp_in (nI j) 48 := vp_in_nI (by omega) (by omega)
    have keep : (j ∈ Q → tl j ≠ a) → wY_query_120 post J x3 (nI a) (nI i) (nI n) fl (nI R) yb ys yt (nI c) (zi_N tl) (zi_N hd) (zi_N ln) yr yd yl (d + 1) x6 (nI (j + 1)) := by
      intro q
      refine ih (j + 1) x6 (by omega) ?_
      rcases hx with ⟨k1, k⟩ | k
      · refine Or.inl ⟨k1, fun r hr hq => ?_⟩
        by_cases e : r = j
        · subst e; exact q hq
        · exact k r (by omega) hq
      · exact Or.inr k
    refine br_f (nI_ge (by omega) (by omega)) ⟨vj, ek_if (d := j ∈ Q) (by rw [nI_clamp (by omega)]; exact hyd j hj2) (fun q => ⟨vj, ek_if (d := tl j = a) (by rw [zi_Nc j rfl (by omega)]; exact nI_eq (by omega) (by omega)) (fun q2 => nm_r (nI_1 j) (ih (j + 1) _ (by omega) (Or.inr ⟨j, hj2, q, q2, rfl⟩))) (fun q2 => nm_r (nI_1 j) (keep (fun _ => q2)))⟩) (fun q => nm_r (nI_1 j) (keep (fun q' => absurd q' q)))⟩
theorem zy_q103 {post : Int32 → SY → Prop} {x3 : Int32} (h2 : 2 ≤ n) (hn : n ≤ 16) (hR : R ≤ 48) (hnd : ∀ r, r < R → tl r < n ∧ hd r < n) (hs : s < n) (hQ : zg_wk (zg_ok R ln) tl hd s Q t) (hQ2 : zg_sum (zg_w ln) Q = zg_dw R tl hd ln s t) (hyd : ∀ r, r < R → (yd r = 0 ↔ r ∈ Q))
    (h : ∀ yr', zg_Ro yr' Q → post x3 ((nI n), fl, (nI R), yb, ys, yt, (nI Q.length), (zi_N tl), (zi_N hd), (zi_N ln), yr', yd, yl)) :
    ∀ (d i a : Nat) (q rest : List Nat) (yr1 : Nat → Int32) (z0 : Int32), z0 = nI q.length → i + d = n - 1 → rest.length + i ≤ n - 1 → Q = q ++ rest → a < n → zg_wk (zg_ok R ln) tl hd a rest t → zg_Ro yr1 q →
      wY_query_103 post x3 (nI n) fl (nI R) yb ys yt (d + 1) (nI a) (nI i) z0 (zi_N tl) (zi_N hd) (zi_N ln) yr1 yd yl := by
  have en : nI n - 1 = nI (n - 1) := by
    have := nI_pred (n - 1)
    rw [show n - 1 + 1 = n by omega] at this
    exact this
  have hlen := (zg_minlen hnd hs hQ hQ2)
  have hnod := hlen.1
  rw [zg_nodes hQ] at hnod
  have hmap : (Q.map tl).Nodup := (List.nodup_append.mp hnod).1
  have htt : ∀ r, r ∈ Q → tl r ≠ t := by
    intro r hr e
    have := (List.nodup_append.mp hnod).2.2 (tl r) (List.mem_map_of_mem hr) t (List.mem_singleton.mpr rfl)
    exact this e
  intro d
  induction d with
  | zero =>
    intro i a q rest yr1 z0 ez hi hl hq ha hw hr
    subst ez
    have hr0 : rest = [] := List.length_eq_zero_iff.mp (by omega)
    subst hr0
    rw [List.append_nil] at hq
    subst hq
    exact br_t (by rw [en]; exact nI_le (by omega) (by omega)) (h _ hr)
  | succ d ih =>
    intro i a q rest yr1 z0 ez hi hl hq ha hw hr
    subst ez
    have hql : q.length + rest.length = Q.length := by rw [hq, List.length_append]
    refine br_f (by rw [en]; exact nI_ge (by omega) (by omega)) ⟨R + 1, ?_⟩
    refine zy_q120 (Q := Q) rfl (by omega) hR hyd (by omega) (fun r hr => by have := (hnd r hr).1; omega) (fun k => ?_) (fun r k1 k2 k3 => ?_) R 0 (-1) (by omega) (Or.inl ⟨rfl, fun r hr => by omega⟩)
    · cases rest with
      | nil => exact ih (i + 1) a q [] yr1 _ rfl (by omega) (by simp; omega) hq ha hw hr
      | cons r0 rest =>
        have hm : r0 ∈ Q := by rw [hq]; simp
        exact absurd hw.2.1 (k r0 (zg_wk_ok hQ r0 hm).1 hm)
    · cases rest with
      | nil =>
        have e : a = t := hw
        subst e
        exact absurd k3 (htt r k2)
      | cons r0 rest =>
        have hm : r0 ∈ Q := by rw [hq]; simp
        have e : r = r0 := zg_inj hmap r r0 k2 hm (by rw [k3]; exact hw.2.1.symm)
        subst e
        refine ih (i + 1) (hd r) (q ++ [r]) rest _ _ (by simp) (by omega) (by simp at hl; omega) (by rw [hq]; simp) (hnd r k1).2 hw.2.2 (zg_Ro_app hr)
theorem zy_q41 {post : Int32 → SY → Prop} (h2 : 2 ≤ n) (hn : n ≤ 16) (hR : R ≤ 48) (hnd : ∀ r, r < R → tl r < n ∧ hd r < n) (hln : ∀ r, r < R → ln r ≤ 999) (hs : s < n) (ht : t < n) (hQ : zg_wk (zg_ok R ln) tl hd s Q t) (hQ2 : zg_sum (zg_w ln) Q = zg_dw R tl hd ln s t)
    (h : ∀ yr' yd' yl', zg_Ro yr' Q → post (nI (zg_sum ln Q)) ((nI n), fl, (nI R), yb, 1, (nI s), (nI Q.length), (zi_N tl), (zi_N hd), (zi_N ln), yr', yd', yl')) :
    ∀ (i : Nat) (yd1 yl1 : Nat → Int32), i ≤ R → (∀ r, r < R → i ≤ r → (yd1 r = 0 ↔ r ∈ Q)) → (∀ r, r < i → yd1 r = 0) →
      wY_query_41 post (nI s) (nI t) (nI (zg_sum ln Q)) (i + 1) (zy_ix i) (nI n) fl (nI R) yb 0 yt yz (zi_N tl) (zi_N hd) (zi_N ln) yr yd1 yl1 := by
  have hQlen := (zg_minlen hnd hs hQ hQ2).2
  have hQs : zg_sum ln Q < 2 ^ 30 := by
    have h6 := zg_sum_le (f := ln) (c := 999) (a := Q) (fun r hr => hln r (zg_wk_ok hQ r hr).1)
    have h7 : Q.length * 999 ≤ 16 * 999 := Nat.mul_le_mul_right _ (by omega)
    omega
  intro i
  induction i with
  | zero =>
    intro yd1 yl1 _ h1 _
    refine br_t (by show (-1 : Int32) < 0; decide) ⟨n, ?_⟩
    have := zy_q103 (x3 := nI (zg_sum ln Q)) (post := post) (fl := fl) (yb := yb) (ys := 1) (yt := nI s) (yl := yl1) (yd := yd1) h2 hn hR hnd hs hQ hQ2 (fun r hr => h1 r hr (Nat.zero_le _)) (fun yr' k => h yr' _ _ k) (n - 1) 0 s [] Q yr 0 rfl (by omega) (by omega) rfl hs hQ zg_Ro_nil
    rw [show n - 1 + 1 = n by omega] at this
    exact this
  | succ k ih =>
    intro yd1 yl1 hi h1 h3
    refine br_f (by show ¬ nI k < 0; exact nI_pos (by omega)) ⟨vp_in_nI (by omega) (by omega), nm_r (zi_uI (nI_clamp (by omega)) zi_b1) ?_⟩
    refine zy_leastSum hn hR hnd hln hs ht (fun x yl' hx => ?_)
    have hsub : ∀ l, zg_wk (zy_ok R ln (upd yd1 k 1)) tl hd s l t → zg_wk (zg_ok R ln) tl hd s l t := fun l hl => zg_wk_mono hl (fun r hr => ⟨(zg_wk_ok hl r hr).1, (zg_wk_ok hl r hr).2.1⟩)
    by_cases hkQ : k ∈ Q
    · refine br_f (fun e => ?_) ⟨vp_in_nI (by omega) (by omega), nm_r (zi_uI (nI_clamp (by omega)) zi_b0) (nm_r (zy_ix_m k) (ih _ _ (by omega) (fun r hr hkr => ?_) (fun r hr => ?_)))⟩
      · rcases hx with ⟨e1, _⟩ | ⟨c, l, e1, e2, e3, e4, _⟩
        · rw [e] at e1
          exact zy_m1 (by omega) e1
        · rw [e] at e1
          have := (nI_eq (by omega) (by omega)).mp e1
          refine zg_greedy hR hnd hs hQ hQ2 (hsub l e3) (by omega) hkQ (fun hkl => ?_) (fun r hr hkr => ?_)
          · have := (zg_wk_ok e3 k hkl).2.2
            rw [pk_us] at this
            exact absurd this (by decide)
          · have hr' := zg_wk_ok e3 r hr
            refine (h1 r hr'.1 hkr).mp ?_
            have := hr'.2.2
            rw [pk_un (by omega)] at this
            exact this
      · by_cases q : r = k
        · subst q; rw [pk_us]; exact ⟨fun _ => hkQ, fun _ => rfl⟩
        · rw [pk_un q, pk_un q]; exact h1 r hr (by omega)
      · rw [pk_un (by omega), pk_un (by omega)]; exact h3 r (by omega)
    · have hQ' : zg_wk (zy_ok R ln (upd yd1 k 1)) tl hd s Q t := by
        refine zg_wk_mono hQ (fun r hr => ?_)
        have hr' := zg_wk_ok hQ r hr
        have hne : r ≠ k := fun e => hkQ (by rw [← e]; exact hr)
        refine ⟨hr'.1, hr'.2, ?_⟩
        rw [pk_un hne]
        by_cases q : r < k
        · exact h3 r (by omega)
        · exact (h1 r hr'.1 (by omega)).mpr hr
      have hxe : x = nI (zg_sum ln Q) := by
        rcases hx with ⟨_, e⟩ | ⟨c, l, e1, e2, e3, e4, e5⟩
        · exact absurd hQ' (e Q)
        · have a1 := e5 Q hQ'
          have a2 := zg_minL hR hnd hs hQ hQ2 (hsub l e3)
          rw [e1]
          congr 1
          omega
      refine br_t hxe (nm_r (zy_ix_m k) (ih _ _ (by omega) (fun r hr hkr => ?_) (fun r hr => ?_)))
      · by_cases q : r = k
        · subst q; rw [pk_us]
          exact ⟨fun e => absurd e (by decide), fun e => absurd e hkQ⟩
        · rw [pk_un q]; exact h1 r hr (by omega)
      · rw [pk_un (by omega)]; exact h3 r (by omega)
theorem zy_isNode {post : Int32 → Prop} {x : Nat} (hn : n ≤ 16) (hx : x < n) (h : post 1) : wpY_isNode post ((nI n), fl, (nI R), yb, ys, yt, yz, (zi_N tl), (zi_N hd), (zi_N ln), yr, yd, yl) (nI x) := br_f (nI_pos (by omega)) (br_f (nI_ge hx (by omega)) h)
theorem zy_distance {post : Int32 → SY → Prop} (hn : n ≤ 16) (hR : R ≤ 48) (hnd : ∀ r, r < R → tl r < n ∧ hd r < n) (hln : ∀ r, r < R → ln r ≤ 999) (hs : s < n) (ht : t < n) (hb : ¬ yb = 0)
    (h : ∀ x yd' yl', (∀ r, r < R → yd' r = 0) → zy_res (zg_ok R ln) tl hd ln s t x → post x ((nI n), fl, (nI R), yb, ys, yt, yz, (zi_N tl), (zi_N hd), (zi_N ln), yr, yd', yl')) : wpY_distance post ((nI n), fl, (nI R), yb, ys, yt, yz, (zi_N tl), (zi_N hd), (zi_N ln), yr, yd, yl) (nI s) (nI t) := by
  refine br_f hb (zy_isNode hn hs (br_f (by decide) (zy_isNode hn ht (br_f (by decide) ⟨R + 1, zy_dist_31 hn hR hnd hln hs ht (fun x yd' yl' k1 k2 => h x yd' yl' k1 ?_) R 0 yd (by omega) (fun r hr => by omega)⟩))))
  have hto : ∀ l, zg_wk (zy_ok R ln yd') tl hd s l t → zg_wk (zg_ok R ln) tl hd s l t := fun l hl => zg_wk_mono hl (fun r hr => ⟨(zg_wk_ok hl r hr).1, (zg_wk_ok hl r hr).2.1⟩)
  have hfr : ∀ l, zg_wk (zg_ok R ln) tl hd s l t → zg_wk (zy_ok R ln yd') tl hd s l t := fun l hl => zg_wk_mono hl (fun r hr => ⟨(zg_wk_ok hl r hr).1, (zg_wk_ok hl r hr).2, k1 r (zg_wk_ok hl r hr).1⟩)
  rcases k2 with ⟨e1, e2⟩ | ⟨c, l, e1, e2, e3, e4, e5⟩
  · exact Or.inl ⟨e1, fun l hl => e2 l (hfr l hl)⟩
  · exact Or.inr ⟨c, l, e1, e2, hto l e3, e4, fun l' hl' => e5 l' (hfr l' hl')⟩
/-- with no walk -/
theorem zy_query0 {post : Int32 → SY → Prop} (hn : n ≤ 16) (hR : R ≤ 48) (hnd : ∀ r, r < R → tl r < n ∧ hd r < n) (hln : ∀ r, r < R → ln r ≤ 999) (hs : s < n) (ht : t < n) (hb : ¬ yb = 0) (h0 : ∀ l, ¬ zg_wk (zg_ok R ln) tl hd s l t)
    (h : ∀ yd' yl', post (-1) ((nI n), fl, (nI R), yb, 0, yt, yz, (zi_N tl), (zi_N hd), (zi_N ln), yr, yd', yl')) : wpY_query post ((nI n), fl, (nI R), yb, ys, yt, yz, (zi_N tl), (zi_N hd), (zi_N ln), yr, yd, yl) (nI s) (nI t) := by
  unfold wpY_query
  refine zy_distance hn hR hnd hln hs ht hb (fun x yd' yl' _ k => ?_)
  have hx : x = -1 := by
    rcases k with ⟨e, _⟩ | ⟨c, l, _, _, e3, _⟩
    · exact e
    · exact absurd e3 (h0 l)
  subst hx
  exact br_f (by decide) (br_f (by decide) (br_t rfl (h _ _)))
/-- with a least walk Q -/
theorem zy_query1 {post : Int32 → SY → Prop} (h2 : 2 ≤ n) (hn : n ≤ 16) (hR : R ≤ 48) (hnd : ∀ r, r < R → tl r < n ∧ hd r < n) (hln : ∀ r, r < R → ln r ≤ 999) (hs : s < n) (ht : t < n) (hb : ¬ yb = 0) (hQ : zg_wk (zg_ok R ln) tl hd s Q t) (hQ2 : zg_sum (zg_w ln) Q = zg_dw R tl hd ln s t)
    (h : ∀ yr' yd' yl', zg_Ro yr' Q → post (nI (zg_sum ln Q)) ((nI n), fl, (nI R), yb, 1, (nI s), (nI Q.length), (zi_N tl), (zi_N hd), (zi_N ln), yr', yd', yl')) : wpY_query post ((nI n), fl, (nI R), yb, ys, yt, yz, (zi_N tl), (zi_N hd), (zi_N ln), yr, yd, yl) (nI s) (nI t) := by
  unfold wpY_query
  refine zy_distance hn hR hnd hln hs ht hb (fun x yd' yl' hz k => ?_)
  have hx : x = nI (zg_sum ln Q) ∧ zg_sum ln Q < 2 ^ 30 := by
    rcases k with ⟨_, e⟩ | ⟨c, l, e1, e2, e3, e4, e5⟩
    · exact absurd hQ (e Q)
    · have a1 := e5 Q hQ
      have a2 := zg_minL hR hnd hs hQ hQ2 e3
      have a3 : c = zg_sum ln Q := by omega
      rw [← a3]; exact ⟨e1, e2⟩
  obtain ⟨rfl, hlt⟩ := hx
  have hp := nI_pos (n := zg_sum ln Q) (by omega)
  refine br_f (fun e => ?_) (br_f (fun e => ?_) (br_f (fun e => ?_) (nm_r (zy_ix_R R) ⟨R + 1, ?_⟩)))
  · rw [e] at hp; exact hp (by decide)
  · rw [e] at hp; exact hp (by decide)
  · rw [e] at hp; exact hp (by decide)
  · exact zy_q41 h2 hn hR hnd hln hs ht hQ hQ2 h R yd' yl' (Nat.le_refl _) (fun r hr hr2 => by omega) hz
end
end
section
/-! X's query and distance -/
section
variable {n R : Nat} {tl hd ln rk od W : Nat → Nat} {va kp pe : Nat → Int32} {s t : Nat} {Q : List Nat}
theorem zx_facts (hnd : ∀ r, r < R → tl r < n ∧ hd r < n) (hB : zx_Bt n R tl hd ln rk od W va kp pe) :
    (∀ u v, u < n → v < n → zg_dw R tl hd ln u v ≤ W (u * 16 + v)) ∧
    (∀ a b, a < n → b < n → a ≠ b → zg_dw R tl hd ln a b < zg_U → (∃ c, c < n ∧ rk a < rk c ∧ W (a * 16 + c) + zg_dw R tl hd ln c b = zg_dw R tl hd ln a b) ∨ (∃ c, c < n ∧ rk b < rk c ∧ zg_dw R tl hd ln a c + W (c * 16 + b) = zg_dw R tl hd ln a b)) ∧
    zg_hx n R tl hd ln W va := by
  obtain ⟨hrk, hod, ⟨hA, hB1, hB2, hC, hD, hP⟩, hpe⟩ := hB
  have hrk' : ∀ x, x < n → rk x < n := fun x hx => (hrk x hx).1
  have hDW := zg_dW (R := R) (tl := tl) (hd := hd) (ln := ln) hB1 hB2 hC hrk'
  refine ⟨hDW, fun a b ha hb hab hd0 => ?_, fun u v hu hv hw => ?_⟩
  · refine zg_ud (fun u => zg_d_self u) (fun a b c => zg_d_tri a b c) hDW (fun x y hx hy e => ?_) (fun m u v hm hu hv k1 k2 k3 => hD m u v hm hu hv (hrk' m hm) k1 k2 k3) (fun u v _ _ h => zg_h0 hA hnd u v h) ha hb hab hd0
    rw [← (hrk x hx).2, ← (hrk y hy).2, e]
  · obtain ⟨l, h1, h2, h3⟩ := zg_expand hB1 hB2 hC hrk' n u v hu hv (Or.inl (hrk' u hu)) hw
    exact ⟨n, l, h1, h2, h3⟩
theorem zx_val {d : Nat} (h : d ≤ zg_U) : (((lN d).toUInt64 >>> ((48 : Int32).toInt64.toUInt64 &&& Int64.toUInt64 63)).toInt64).toInt32 = nI (d / 2 ^ 48) := by
  have := zg_U_63
  rw [show (48 : Int32) = nI 48 from rfl, wb_shr (by omega) (by omega), lN_i]
theorem zx_len (hR : R ≤ 48) (hnd : ∀ r, r < R → tl r < n ∧ hd r < n) (hs : s < n) (hQ : zg_wk (zg_ok R ln) tl hd s Q t) (hQ2 : zg_sum (zg_w ln) Q = zg_dw R tl hd ln s t) : zg_dw R tl hd ln s t / 2 ^ 48 = zg_sum ln Q := by
  have h5 := zg_wbits hR hQ (zg_minlen hnd hs hQ hQ2).1
  have h7 := zg_bs_lt (fun i => decide (i ∈ Q)) 48
  omega
theorem zx_none (hn : n ≤ 16) (hR : R ≤ 48) (hnd : ∀ r, r < R → tl r < n ∧ hd r < n) (hln : ∀ r, r < R → ln r ≤ 999) (hs : s < n) (h : ¬ zg_dw R tl hd ln s t < zg_U) : ∀ l, ¬ zg_wk (zg_ok R ln) tl hd s l t := by
  intro l hl
  obtain ⟨b, h1, h2, h3⟩ := zg_simp hl
  have h4 := zg_wbits hR h2 h3
  have h7 := zg_bs_lt (fun i => decide (i ∈ b)) 48
  have h8 : zg_dw R tl hd ln s t ≤ zg_sum (zg_w ln) b := zg_d_le h2
  have h9 := zg_nd_len (fun r hr => (hnd r hr.1).2) hs h2 h3
  have h10 := zg_sum_le (f := ln) (c := 999) (fun r hr => hln r (zg_wk_ok h2 r hr).1)
  have h11 : b.length * 999 ≤ 15 * 999 := Nat.mul_le_mul_right _ (by omega)
  have h12 := zg_U_eq
  omega
theorem zx_Q (h : zg_dw R tl hd ln s t < zg_U) : ∃ Q, zg_wk (zg_ok R ln) tl hd s Q t ∧ zg_sum (zg_w ln) Q = zg_dw R tl hd ln s t := zg_d_w h
end
section
variable {n R : Nat} {tl hd ln rk od W L pa sk : Nat → Nat} {va kp pe se pr rr : Nat → Int32} {fu : Int64} {fk fw fl fb me dp rs rc : Int32}
variable {s t : Nat}
theorem zx_isNode {post : Int32 → Prop} {x : Nat} (hn : n ≤ 16) (hx : x < n) (h : post 1) : wpX_isNode post (fu, fk, fw, (nI n), fl, (nI R), fb, me, dp, rs, rc, (zi_N tl), (zi_N hd), (zi_N ln), (zi_N rk), (zi_N od), pr, (zi_L W), va, kp, pe, (zi_L L), se, (zi_N pa), (zi_N sk), rr) (nI x) := br_f (nI_pos (by omega)) (br_f (nI_ge hx (by omega)) h)
theorem zx_refusal {post : Int32 → Prop} (hn : n ≤ 16) (hs : s < n) (ht : t < n) (hb : ¬ fb = 0) (h : post 0) : wpX_refusal post (fu, fk, fw, (nI n), fl, (nI R), fb, me, dp, rs, rc, (zi_N tl), (zi_N hd), (zi_N ln), (zi_N rk), (zi_N od), pr, (zi_L W), va, kp, pe, (zi_L L), se, (zi_N pa), (zi_N sk), rr) (nI s) (nI t) :=
  br_f hb (zx_isNode hn hs (br_f (by decide) (zx_isNode hn ht (br_f (by decide) h))))
theorem zx_distance {post : Int32 → SX → Prop} (hn : n ≤ 16) (hR : R ≤ 48) (hnd : ∀ r, r < R → tl r < n ∧ hd r < n) (hW : ∀ i, W i ≤ zg_U) (hL : ∀ i, L i ≤ zg_U) (hb : ¬ fb = 0) (hB : zx_Bt n R tl hd ln rk od W va kp pe) (hs : s < n) (ht : t < n)
    (h1 : zg_dw R tl hd ln s t < zg_U → ∀ me' L' se' pa', (∀ i, L' i ≤ zg_U) → post (nI (zg_dw R tl hd ln s t / 2 ^ 48)) (fu, fk, fw, (nI n), fl, (nI R), fb, me', dp, rs, rc, (zi_N tl), (zi_N hd), (zi_N ln), (zi_N rk), (zi_N od), pr, (zi_L W), va, kp, pe, (zi_L L'), se', (zi_N pa'), (zi_N sk), rr))
    (h0 : ¬ zg_dw R tl hd ln s t < zg_U → ∀ me' L' se' pa', (∀ i, L' i ≤ zg_U) → post (-1) (fu, fk, fw, (nI n), fl, (nI R), fb, me', dp, rs, rc, (zi_N tl), (zi_N hd), (zi_N ln), (zi_N rk), (zi_N od), pr, (zi_L W), va, kp, pe, (zi_L L'), se', (zi_N pa'), (zi_N sk), rr)) : wpX_distance post (fu, fk, fw, (nI n), fl, (nI R), fb, me, dp, rs, rc, (zi_N tl), (zi_N hd), (zi_N ln), (zi_N rk), (zi_N od), pr, (zi_L W), va, kp, pe, (zi_L L), se, (zi_N pa), (zi_N sk), rr) (nI s) (nI t) := by
  obtain ⟨f1, f2, f3⟩ := zx_facts hnd hB
  unfold wpX_distance
  refine zx_refusal hn hs ht hb (br_t (by decide) ?_)
  refine zx_meet (D := zg_dw R tl hd ln) hn (fun i hi => (hB.1 i hi).1) hW hL (fun a b => zg_d_U a b) (fun a b c => zg_d_tri a b c) (fun a => zg_d_self a) f1 f2 hs ht (fun m L' se' pa' k1 k2 => ?_)
  refine ek_if (zi_lt rfl zi_U (zg_d_U s t) (Nat.le_refl _)) (fun c => ?_) (fun c => h0 c _ _ _ _ k1)
  rw [zx_val (d := zg_dw R tl hd ln s t) (zg_d_U s t)]
  exact h1 c _ _ _ _ k1
theorem zx_query {post : Int32 → SX → Prop} (hn : n ≤ 16) (hR : R ≤ 48) (hnd : ∀ r, r < R → tl r < n ∧ hd r < n) (hW : ∀ i, W i ≤ zg_U) (hL : ∀ i, L i ≤ zg_U) (hb : ¬ fb = 0) (hB : zx_Bt n R tl hd ln rk od W va kp pe) (hs : s < n) (ht : t < n)
    (h1 : ∀ Q, zg_wk (zg_ok R ln) tl hd s Q t → zg_sum (zg_w ln) Q = zg_dw R tl hd ln s t → ∀ me' dp' rr' L' se' pa' sk', (∀ i, L' i ≤ zg_U) → zg_Ro rr' Q → post (nI (zg_sum ln Q)) (fu, fk, fw, (nI n), fl, (nI R), fb, me', dp', (nI s), (nI Q.length), (zi_N tl), (zi_N hd), (zi_N ln), (zi_N rk), (zi_N od), pr, (zi_L W), va, kp, pe, (zi_L L'), se', (zi_N pa'), (zi_N sk'), rr'))
    (h0 : ¬ zg_dw R tl hd ln s t < zg_U → ∀ me' L' se' pa', (∀ i, L' i ≤ zg_U) → post (-1) (fu, fk, fw, (nI n), fl, (nI R), fb, me', dp, rs, (-1), (zi_N tl), (zi_N hd), (zi_N ln), (zi_N rk), (zi_N od), pr, (zi_L W), va, kp, pe, (zi_L L'), se', (zi_N pa'), (zi_N sk), rr)) : wpX_query post (fu, fk, fw, (nI n), fl, (nI R), fb, me, dp, rs, rc, (zi_N tl), (zi_N hd), (zi_N ln), (zi_N rk), (zi_N od), pr, (zi_L W), va, kp, pe, (zi_L L), se, (zi_N pa), (zi_N sk), rr) (nI s) (nI t) := by
  obtain ⟨f1, f2, f3⟩ := zx_facts hnd hB
  unfold wpX_query
  refine zx_refusal hn hs ht hb (br_t (by decide) ?_)
  refine zx_meet (D := zg_dw R tl hd ln) hn (fun i hi => (hB.1 i hi).1) hW hL (fun a b => zg_d_U a b) (fun a b c => zg_d_tri a b c) (fun a => zg_d_self a) f1 f2 hs ht (fun m L' se' pa' k1 k2 => ?_)
  refine ek_if (zi_lt rfl zi_U (zg_d_U s t) (Nat.le_refl _)) (fun c => ?_) (fun c => h0 c _ _ _ _ k1)
  refine zx_storeRoute hn hR hnd (fun i hi => (hB.1 i hi).1) f3 hs ht c k2 rfl (fun q sk' rr' a1 a2 a3 => ?_)
  have hv : (((lN (zg_dw R tl hd ln s t)).toUInt64 >>> ((48 : Int32).toInt64.toUInt64 &&& Int64.toUInt64 63)).toInt64).toInt32 = nI (zg_sum ln q) := by
    rw [zx_val (d := zg_dw R tl hd ln s t) (zg_d_U s t)]
    congr 1
    exact zx_len hR hnd hs a1 a2
  show post ((((lN (zg_dw R tl hd ln s t)).toUInt64 >>> ((48 : Int32).toInt64.toUInt64 &&& Int64.toUInt64 63)).toInt64).toInt32) _
  rw [hv]
  exact h1 q a1 a2 _ _ _ _ _ _ _ k1 a3
end
end
section
/-! the relation -/
def zz_R (R : Nat) (rr : Nat → Int32) (rs rc : Int32) (yr : Nat → Int32) (ys yt yz : Int32) : Prop :=
  (rc = -1 ∧ ys = 0) ∨ (∃ q : List Nat, q.length ≤ 16 ∧ rc = nI q.length ∧ ys = 1 ∧ yz = nI q.length ∧ yt = rs ∧ zg_Ro rr q ∧ zg_Ro yr q ∧ ∀ r, r ∈ q → r < R)
def zz_F (n R : Nat) (tl hd ln rk od W L : Nat → Nat) (va kp pe rr : Nat → Int32) (fl fb rs rc : Int32) (yr : Nat → Int32) (ys yt yz : Int32) : Prop :=
  2 ≤ n ∧ n ≤ 16 ∧ (∃ lim, fl = nI lim ∧ R ≤ lim ∧ lim ≤ 48) ∧ (∀ r, r < R → tl r < n ∧ hd r < n) ∧ (∀ r, r < R → ln r ≤ 999) ∧ (∀ i, W i ≤ zg_U) ∧ (∀ i, L i ≤ zg_U) ∧
  (fb = 0 ∨ (fb = 1 ∧ zx_Bt n R tl hd ln rk od W va kp pe)) ∧ zz_R R rr rs rc yr ys yt yz
def i_Rel (_ : Nat) (u : SX) (v : SY) : Prop :=
  ∃ (n R : Nat) (tl hd ln rk od W L pa sk : Nat → Nat) (va kp pe se pr rr yr yd yl : Nat → Int32) (fu : Int64) (fk fw fl fb me dp rs rc ys yt yz : Int32),
    u = (fu, fk, fw, (nI n), fl, (nI R), fb, me, dp, rs, rc, (zi_N tl), (zi_N hd), (zi_N ln), (zi_N rk), (zi_N od), pr, (zi_L W), va, kp, pe, (zi_L L), se, (zi_N pa), (zi_N sk), rr) ∧ v = ((nI n), fl, (nI R), fb, ys, yt, yz, (zi_N tl), (zi_N hd), (zi_N ln), yr, yd, yl) ∧ zz_F n R tl hd ln rk od W L va kp pe rr fl fb rs rc yr ys yt yz
theorem zz_in {k : Nat} {n R : Nat} {tl hd ln rk od W L pa sk : Nat → Nat} {va kp pe se pr rr yr yd yl : Nat → Int32} {fu : Int64} {fk fw fl fb me dp rs rc ys yt yz : Int32}
    (h : zz_F n R tl hd ln rk od W L va kp pe rr fl fb rs rc yr ys yt yz) : i_Rel k (fu, fk, fw, (nI n), fl, (nI R), fb, me, dp, rs, rc, (zi_N tl), (zi_N hd), (zi_N ln), (zi_N rk), (zi_N od), pr, (zi_L W), va, kp, pe, (zi_L L), se, (zi_N pa), (zi_N sk), rr) ((nI n), fl, (nI R), fb, ys, yt, yz, (zi_N tl), (zi_N hd), (zi_N ln), yr, yd, yl) :=
  ⟨n, R, tl, hd, ln, rk, od, W, L, pa, sk, va, kp, pe, se, pr, rr, yr, yd, yl, fu, fk, fw, fl, fb, me, dp, rs, rc, ys, yt, yz, rfl, rfl, h⟩
theorem zz_el {k : Nat} {u : SX} {v : SY} {P : SX → SY → Prop}
    (h : ∀ (n R : Nat) (tl hd ln rk od W L pa sk : Nat → Nat) (va kp pe se pr rr yr yd yl : Nat → Int32) (fu : Int64) (fk fw fl fb me dp rs rc ys yt yz : Int32),
      zz_F n R tl hd ln rk od W L va kp pe rr fl fb rs rc yr ys yt yz → P (fu, fk, fw, (nI n), fl, (nI R), fb, me, dp, rs, rc, (zi_N tl), (zi_N hd), (zi_N ln), (zi_N rk), (zi_N od), pr, (zi_L W), va, kp, pe, (zi_L L), se, (zi_N pa), (zi_N sk), rr) ((nI n), fl, (nI R), fb, ys, yt, yz, (zi_N tl), (zi_N hd), (zi_N ln), yr, yd, yl)) (I : i_Rel k u v) : P u v :=
  Exists.elim I (fun n I => Exists.elim I (fun R I => Exists.elim I (fun tl I => Exists.elim I (fun hd I => Exists.elim I (fun ln I => Exists.elim I (fun rk I => Exists.elim I (fun od I => Exists.elim I (fun W I => Exists.elim I (fun L I => Exists.elim I (fun pa I => Exists.elim I (fun sk I => Exists.elim I (fun va I => Exists.elim I (fun kp I => Exists.elim I (fun pe I => Exists.elim I (fun se I => Exists.elim I (fun pr I => Exists.elim I (fun rr I => Exists.elim I (fun yr I => Exists.elim I (fun yd I => Exists.elim I (fun yl I => Exists.elim I (fun fu I => Exists.elim I (fun fk I => Exists.elim I (fun fw I => Exists.elim I (fun fl I => Exists.elim I (fun fb I => Exists.elim I (fun me I => Exists.elim I (fun dp I => Exists.elim I (fun rs I => Exists.elim I (fun rc I => Exists.elim I (fun ys I => Exists.elim I (fun yt I => Exists.elim I (fun yz I => Eq.mpr (congrArg (fun z => P z v) I.1) (Eq.mpr (congrArg (fun z => P _ z) I.2.1) (h n R tl hd ln rk od W L pa sk va kp pe se pr rr yr yd yl fu fk fw fl fb me dp rs rc ys yt yz I.2.2))))))))))))))))))))))))))))))))))
theorem i_up {k : Nat} {u : SX} {v : SY} (h : i_Rel k u v) : i_Rel (k + 4) u v := h
end
section
/-! what is owed -/
theorem zz_nodes {x : Int32} {n : Nat} (hn : n ≤ 48) : x < 0 ∨ (¬ x < 0 ∧ nI n ≤ x) ∨ ∃ j, j < n ∧ x = nI j := by
  by_cases c : x < 0
  · exact Or.inl c
  · rcases pk_ix x (n := n) (by omega) with c1 | c1 | c1
    · exact absurd c1 c
    · exact Or.inr (Or.inl ⟨c, c1⟩)
    · exact Or.inr (Or.inr c1)
theorem i_vc0 (k0 : Int32) (k1 : Int32) : wpX_init (fun u => wpY_init (fun v => i_Rel 2 u v) k0 k1) k0 k1 := by
  have hL0 : ∀ i : Nat, (fun _ : Nat => 0) i ≤ zg_U := fun _ => Nat.zero_le _
  have fin : ∀ (j lim : Nat), 2 ≤ j → j ≤ 16 → lim ≤ 48 → i_Rel 2 (4218184000985890816, 16, 8, nI j, nI lim, 0, 0, 0, 0, 0, -1, (fun _ => 0), (fun _ => 0), (fun _ => 0), (fun _ => 0), (fun _ => 0), (fun _ => 0), (fun _ => 0), (fun _ => 0), (fun _ => 0), (fun _ => 0), (fun _ => 0), (fun _ => 0), (fun _ => 0), (fun _ => 0), (fun _ => 0))
      (nI j, nI lim, 0, 0, 0, 0, 0, (fun _ => 0), (fun _ => 0), (fun _ => 0), (fun _ => 0), (fun _ => 0), (fun _ => 0)) := by
    intro j lim h1 h2 h3
    exact ⟨j, 0, (fun _ => 0), (fun _ => 0), (fun _ => 0), (fun _ => 0), (fun _ => 0), (fun _ => 0), (fun _ => 0), (fun _ => 0), (fun _ => 0), (fun _ => 0), (fun _ => 0), (fun _ => 0), (fun _ => 0), (fun _ => 0), (fun _ => 0), (fun _ => 0), (fun _ => 0), (fun _ => 0), 4218184000985890816, 16, 8, nI lim, 0, 0, 0, 0, -1, 0, 0, 0, rfl, rfl,
      h1, h2, ⟨lim, rfl, Nat.zero_le _, h3⟩, fun r hr => by omega, fun r hr => by omega, hL0, hL0, Or.inl rfl, Or.inl ⟨rfl, rfl⟩⟩
  have main : ∀ (z : Int32) (j : Nat), z = nI j → 2 ≤ j → j ≤ 16 → (∀ P : SY → Prop, wY_init_74 P k1 z 0 0 0 0 0 0 0 (fun _ => 0) (fun _ => 0) (fun _ => 0) (fun _ => 0) (fun _ => 0) (fun _ => 0) → wpY_init P k0 k1) →
      wX_init_169 (fun u => wpY_init (fun v => i_Rel 2 u v) k0 k1) k1 z 4218184000985890816 16 8 0 0 0 0 0 0 0 0 (fun _ => 0) (fun _ => 0) (fun _ => 0) (fun _ => 0) (fun _ => 0) (fun _ => 0) (fun _ => 0) (fun _ => 0) (fun _ => 0) (fun _ => 0) (fun _ => 0) (fun _ => 0) (fun _ => 0) (fun _ => 0) (fun _ => 0) := by
    intro z j ez h1 h2 hY
    subst ez
    by_cases c1 : 1 ≤ k1
    · by_cases c2 : k1 ≤ 48
      · have h0 : ¬ k1 < 0 := fun c => absurd (Int32.lt_of_le_of_lt c1 c) (by decide)
        obtain ⟨lim, hl, rfl⟩ := nI_of2 (M := 48) (n := 48) (by decide) h0 c2
        exact br_t c1 (br_t c2 (hY _ (br_t c1 (br_t c2 (fin j lim h1 h2 hl)))))
      · exact br_t c1 (br_f c2 (hY _ (br_t c1 (br_f c2 (fin j 48 h1 h2 (by omega))))))
    · exact br_f c1 (hY _ (br_f c1 (fin j 1 h1 h2 (by omega))))
  by_cases c1 : 2 ≤ k0
  · by_cases c2 : k0 ≤ 16
    · have h0 : ¬ k0 < 0 := fun c => absurd (Int32.lt_of_le_of_lt c1 c) (by decide)
      obtain ⟨j, hj, rfl⟩ := nI_of2 (M := 16) (n := 16) (by decide) h0 c2
      have h2 : 2 ≤ j := (nI_leI (a := 2) (by omega) (by omega)).mp c1
      exact br_t c1 (br_t c2 (main _ j rfl h2 hj (fun P h => br_t c1 (br_t c2 h))))
    · exact br_t c1 (br_f c2 (main _ 16 rfl (by omega) (by omega) (fun P h => br_t c1 (br_f c2 h))))
  · exact br_f c1 (main _ 2 rfl (by omega) (by omega) (fun P h => br_f c1 h))
theorem i_vc_addRoad {k : Nat} {u : SX} {v : SY} (I : i_Rel k u v) (hk : k + 4 ≤ 2050) (v1 : Int32) (v2 : Int32) (v3 : Int32) : wpX_addRoad (fun r u' => wpY_addRoad (fun r' v' => r' = r ∧ i_Rel (k + 4) u' v') v v1 v2 v3) u v1 v2 v3 := by
  refine zz_el (P := fun u v => wpX_addRoad (fun r u' => wpY_addRoad (fun r' v' => r' = r ∧ i_Rel (k + 4) u' v') v v1 v2 v3) u v1 v2 v3) ?_ I
  intro n R tl hd ln rk od W L pa sk va kp pe se pr rr yr yd yl fu fk fw fl fb me dp rs rc ys yt yz hF
  have J : i_Rel (k + 4) (fu, fk, fw, (nI n), fl, (nI R), fb, me, dp, rs, rc, (zi_N tl), (zi_N hd), (zi_N ln), (zi_N rk), (zi_N od), pr, (zi_L W), va, kp, pe, (zi_L L), se, (zi_N pa), (zi_N sk), rr) ((nI n), fl, (nI R), fb, ys, yt, yz, (zi_N tl), (zi_N hd), (zi_N ln), yr, yd, yl) := zz_in hF
  obtain ⟨h2, hn, ⟨lim, hl1, hl2, hl3⟩, hnd, hln, hW, hL, hb, hro⟩ := hF
  rcases hb with hb | ⟨hb, hB⟩
  · refine br_t hb ?_
    rcases zz_nodes (x := v1) (n := n) (by omega) with c | ⟨c, c'⟩ | ⟨a, ha, rfl⟩
    · exact br_t c (br_t rfl (br_t hb (br_t c (br_t rfl ⟨rfl, J⟩))))
    · exact br_f c (br_t c' (br_t rfl (br_t hb (br_f c (br_t c' (br_t rfl ⟨rfl, J⟩))))))
    · refine zx_isNode hn ha (br_f (by decide) ?_)
      rcases zz_nodes (x := v2) (n := n) (by omega) with c | ⟨c, c'⟩ | ⟨b, hb2, rfl⟩
      · exact br_t c (br_t rfl (br_t hb (zy_isNode hn ha (br_f (by decide) (br_t c (br_t rfl ⟨rfl, J⟩))))))
      · exact br_f c (br_t c' (br_t rfl (br_t hb (zy_isNode hn ha (br_f (by decide) (br_f c (br_t c' (br_t rfl ⟨rfl, J⟩))))))))
      · refine zx_isNode hn hb2 (br_f (by decide) ?_)
        by_cases c1 : nI a = nI b
        · exact br_t c1 (br_t hb (zy_isNode hn ha (br_f (by decide) (zy_isNode hn hb2 (br_f (by decide) (br_t c1 ⟨rfl, J⟩))))))
        · by_cases c2 : v3 < 1
          · exact br_f c1 (br_t c2 (br_t hb (zy_isNode hn ha (br_f (by decide) (zy_isNode hn hb2 (br_f (by decide) (br_f c1 (br_t c2 ⟨rfl, J⟩))))))))
          · by_cases c3 : v3 ≤ 999
            · by_cases c4 : nI R < fl
              · have h0 : ¬ v3 < 0 := fun c => c2 (Int32.lt_trans c (by decide))
                obtain ⟨w, hw, rfl⟩ := nI_of2 (M := 999) (n := 999) (by decide) h0 c3
                have hRl : R < lim := by rw [hl1] at c4; exact (nI_ltI (by omega) (by omega)).mp c4
                have vR : vp_in (nI R) 48 := vp_in_nI (by omega) (by omega)
                have ec : (nI R).toNatClampNeg = R := nI_clamp (by omega)
                refine br_f c1 (br_f c2 (br_t c3 (br_t c4 ⟨vR, nm_r (zi_uN ec rfl) ⟨vR, nm_r (zi_uN ec rfl) ⟨vR, nm_r (zi_uN ec rfl) (nm_r (nI_1 R) ?_)⟩⟩⟩)))
                refine br_t hb (zy_isNode hn ha (br_f (by decide) (zy_isNode hn hb2 (br_f (by decide) (br_f c1 (br_f c2 (br_t c3 (br_t c4 ⟨vR, nm_r (zi_uN ec rfl) ⟨vR, nm_r (zi_uN ec rfl) ⟨vR, nm_r (zi_uN ec rfl) (nm_r (nI_1 R) ⟨rfl, zz_in ⟨h2, hn, ⟨lim, hl1, by omega, hl3⟩, fun r hr => ?_, fun r hr => ?_, hW, hL, Or.inl hb, ?_⟩⟩)⟩⟩⟩))))))))
                · by_cases q : r = R
                  · subst q; rw [zg_us, zg_us]; exact ⟨ha, hb2⟩
                  · rw [zg_un q, zg_un q]; exact hnd r (by omega)
                · by_cases q : r = R
                  · subst q; rw [zg_us]; exact hw
                  · rw [zg_un q]; exact hln r (by omega)
                · rcases hro with e | ⟨q, q1, q2, q3, q4, q5, q6, q7, q8⟩
                  · exact Or.inl e
                  · exact Or.inr ⟨q, q1, q2, q3, q4, q5, q6, q7, fun r hr => Nat.lt_succ_of_lt (q8 r hr)⟩
              · exact br_f c1 (br_f c2 (br_t c3 (br_f c4 (br_t hb (zy_isNode hn ha (br_f (by decide) (zy_isNode hn hb2 (br_f (by decide) (br_f c1 (br_f c2 (br_t c3 (br_f c4 ⟨rfl, J⟩))))))))))))
            · exact br_f c1 (br_f c2 (br_f c3 (br_t hb (zy_isNode hn ha (br_f (by decide) (zy_isNode hn hb2 (br_f (by decide) (br_f c1 (br_f c2 (br_f c3 ⟨rfl, J⟩))))))))))
  · have hb' : ¬ fb = 0 := by rw [hb]; decide
    exact br_f hb' (br_f hb' ⟨rfl, J⟩)
theorem i_vc_build {k : Nat} {u : SX} {v : SY} (I : i_Rel k u v) (hk : k + 4 ≤ 2050) : wpX_build (fun r u' => wpY_build (fun r' v' => r' = r ∧ i_Rel (k + 4) u' v') v) u := by
  refine zz_el (P := fun u v => wpX_build (fun r u' => wpY_build (fun r' v' => r' = r ∧ i_Rel (k + 4) u' v') v) u) ?_ I
  intro n R tl hd ln rk od W L pa sk va kp pe se pr rr yr yd yl fu fk fw fl fb me dp rs rc ys yt yz hF
  have J : i_Rel (k + 4) (fu, fk, fw, (nI n), fl, (nI R), fb, me, dp, rs, rc, (zi_N tl), (zi_N hd), (zi_N ln), (zi_N rk), (zi_N od), pr, (zi_L W), va, kp, pe, (zi_L L), se, (zi_N pa), (zi_N sk), rr) ((nI n), fl, (nI R), fb, ys, yt, yz, (zi_N tl), (zi_N hd), (zi_N ln), yr, yd, yl) := zz_in hF
  obtain ⟨h2, hn, ⟨lim, hl1, hl2, hl3⟩, hnd, hln, hW, hL, hb, hro⟩ := hF
  rcases hb with hb | ⟨hb, hB⟩
  · refine zx_build h2 hn (by omega) hnd hln hW hL hb ?_
    intro rk' od' pr' W' va' kp' pe' L' se' a1 a2 a3
    exact br_t hb ⟨rfl, zz_in ⟨h2, hn, ⟨lim, hl1, hl2, hl3⟩, hnd, hln, a1, a2, Or.inr ⟨rfl, a3⟩, hro⟩⟩
  · have hb' : ¬ fb = 0 := by rw [hb]; decide
    exact br_f hb' (br_f hb' ⟨rfl, J⟩)
theorem i_vc_thaw {k : Nat} {u : SX} {v : SY} (I : i_Rel k u v) (hk : k + 4 ≤ 2050) : wpX_thaw (fun r u' => wpY_thaw (fun r' v' => r' = r ∧ i_Rel (k + 4) u' v') v) u := by
  refine zz_el (P := fun u v => wpX_thaw (fun r u' => wpY_thaw (fun r' v' => r' = r ∧ i_Rel (k + 4) u' v') v) u) ?_ I
  intro n R tl hd ln rk od W L pa sk va kp pe se pr rr yr yd yl fu fk fw fl fb me dp rs rc ys yt yz hF
  have J : i_Rel (k + 4) (fu, fk, fw, (nI n), fl, (nI R), fb, me, dp, rs, rc, (zi_N tl), (zi_N hd), (zi_N ln), (zi_N rk), (zi_N od), pr, (zi_L W), va, kp, pe, (zi_L L), se, (zi_N pa), (zi_N sk), rr) ((nI n), fl, (nI R), fb, ys, yt, yz, (zi_N tl), (zi_N hd), (zi_N ln), yr, yd, yl) := zz_in hF
  obtain ⟨h2, hn, hlim, hnd, hln, hW, hL, hb, hro⟩ := hF
  exact br_c (fun c => br_t c ⟨rfl, J⟩) (fun c => br_f c ⟨rfl, zz_in ⟨h2, hn, hlim, hnd, hln, hW, hL, Or.inl rfl, Or.inl ⟨rfl, rfl⟩⟩⟩)
theorem i_vc_setLength {k : Nat} {u : SX} {v : SY} (I : i_Rel k u v) (hk : k + 4 ≤ 2050) (v1 : Int32) (v2 : Int32) : wpX_setLength (fun r u' => wpY_setLength (fun r' v' => r' = r ∧ i_Rel (k + 4) u' v') v v1 v2) u v1 v2 := by
  refine zz_el (P := fun u v => wpX_setLength (fun r u' => wpY_setLength (fun r' v' => r' = r ∧ i_Rel (k + 4) u' v') v v1 v2) u v1 v2) ?_ I
  intro n R tl hd ln rk od W L pa sk va kp pe se pr rr yr yd yl fu fk fw fl fb me dp rs rc ys yt yz hF
  have J : i_Rel (k + 4) (fu, fk, fw, (nI n), fl, (nI R), fb, me, dp, rs, rc, (zi_N tl), (zi_N hd), (zi_N ln), (zi_N rk), (zi_N od), pr, (zi_L W), va, kp, pe, (zi_L L), se, (zi_N pa), (zi_N sk), rr) ((nI n), fl, (nI R), fb, ys, yt, yz, (zi_N tl), (zi_N hd), (zi_N ln), yr, yd, yl) := zz_in hF
  obtain ⟨h2, hn, ⟨lim, hl1, hl2, hl3⟩, hnd, hln, hW, hL, hb, hro⟩ := hF
  rcases zz_nodes (x := v1) (n := R) (by omega) with c | ⟨c, c'⟩ | ⟨j, hj, rfl⟩
  · exact br_t c (br_t rfl (br_t c (br_t rfl ⟨rfl, J⟩)))
  · exact br_f c (br_t c' (br_t rfl (br_f c (br_t c' (br_t rfl ⟨rfl, J⟩)))))
  · have d1 : ¬ nI j < 0 := nI_pos (by omega)
    have d2 : ¬ nI R ≤ nI j := nI_ge hj (by omega)
    have vj : vp_in (nI j) 48 := vp_in_nI (by omega) (by omega)
    have ec : (nI j).toNatClampNeg = j := nI_clamp (by omega)
    have el : zi_N ln (nI j).toNatClampNeg = nI (ln j) := zi_Nc j rfl (by omega)
    by_cases c2 : v2 < 0
    · exact br_f d1 (br_f d2 (br_f (by decide) (br_t c2 (br_f d1 (br_f d2 (br_f (by decide) (br_t c2 ⟨rfl, J⟩)))))))
    · by_cases c3 : v2 ≤ 999
      · obtain ⟨w, hw, rfl⟩ := nI_of2 (M := 999) (n := 999) (by decide) c2 c3
        have hln' : ∀ r, r < R → zg_u ln j w r ≤ 999 := by
          intro r hr
          by_cases q : r = j
          · subst q; rw [zg_us]; exact hw
          · rw [zg_un q]; exact hln r hr
        have hY : ∀ u' : SX, i_Rel (k + 4) u' ((nI n), fl, (nI R), fb, ys, yt, yz, (zi_N tl), (zi_N hd), (zi_N (zg_u ln j w)), yr, yd, yl) → wpY_setLength (fun r' v' => r' = nI (ln j) ∧ i_Rel (k + 4) u' v') ((nI n), fl, (nI R), fb, ys, yt, yz, (zi_N tl), (zi_N hd), (zi_N ln), yr, yd, yl) (nI j) (nI w) :=
          fun u' q => br_f d1 (br_f d2 (br_f (by decide) (br_f c2 (br_t c3 ⟨vj, nm_r el ⟨vj, nm_r (zi_uN ec rfl) ⟨rfl, q⟩⟩⟩))))
        refine br_f d1 (br_f d2 (br_f (by decide) (br_f c2 (br_t c3 ⟨vj, nm_r el ⟨vj, nm_r (zi_uN ec rfl) ?_⟩⟩))))
        rcases hb with hb | ⟨hb, hB⟩
        · exact br_t hb (hY _ (zz_in ⟨h2, hn, ⟨lim, hl1, hl2, hl3⟩, hnd, hln', hW, hL, Or.inl hb, hro⟩))
        · have hb' : ¬ fb = 0 := by rw [hb]; decide
          have hnj := hnd j hj
          have hlj := hln j hj
          refine br_f hb' (ek_if (d := w = ln j) (nI_eq (by omega) (by omega)) (fun c => hY _ (zz_in ⟨h2, hn, ⟨lim, hl1, hl2, hl3⟩, hnd, hln', hW, hL, Or.inr ⟨hb, ?_⟩, hro⟩)) (fun c => ⟨vj, vj, ?_⟩))
          · have e : zg_u ln j w = ln := by
              funext r
              by_cases q : r = j
              · subst q; rw [zg_us]; exact c
              · exact zg_un q
            rw [e]; exact hB
          · refine zx_repair (u0 := tl j) (v0 := hd j) (ln0 := ln) hn (by omega) hnd hln' hW hL hnj.1 hnj.2 (fun q hq hne => zg_un (fun e => hne (by rw [e]; exact ⟨rfl, rfl⟩))) hB (zi_Nc j rfl (by omega)) (zi_Nc j rfl (by omega)) ?_
            intro W' va' kp' pe' L' se' a1 a2 a3
            exact hY _ (zz_in ⟨h2, hn, ⟨lim, hl1, hl2, hl3⟩, hnd, hln', a1, a2, Or.inr ⟨hb, a3⟩, hro⟩)
      · exact br_f d1 (br_f d2 (br_f (by decide) (br_f c2 (br_f c3 (br_f d1 (br_f d2 (br_f (by decide) (br_f c2 (br_f c3 ⟨rfl, J⟩)))))))))
theorem i_vc_query {k : Nat} {u : SX} {v : SY} (I : i_Rel k u v) (hk : k + 4 ≤ 2050) (v1 : Int32) (v2 : Int32) : wpX_query (fun r u' => wpY_query (fun r' v' => r' = r ∧ i_Rel (k + 4) u' v') v v1 v2) u v1 v2 := by
  refine zz_el (P := fun u v => wpX_query (fun r u' => wpY_query (fun r' v' => r' = r ∧ i_Rel (k + 4) u' v') v v1 v2) u v1 v2) ?_ I
  intro n R tl hd ln rk od W L pa sk va kp pe se pr rr yr yd yl fu fk fw fl fb me dp rs rc ys yt yz hF
  have J : i_Rel (k + 4) (fu, fk, fw, (nI n), fl, (nI R), fb, me, dp, rs, rc, (zi_N tl), (zi_N hd), (zi_N ln), (zi_N rk), (zi_N od), pr, (zi_L W), va, kp, pe, (zi_L L), se, (zi_N pa), (zi_N sk), rr) ((nI n), fl, (nI R), fb, ys, yt, yz, (zi_N tl), (zi_N hd), (zi_N ln), yr, yd, yl) := zz_in hF
  obtain ⟨h2, hn, ⟨lim, hl1, hl2, hl3⟩, hnd, hln, hW, hL, hb, hro⟩ := hF
  rcases hb with hb | ⟨hb, hB⟩
  · unfold wpX_query wpY_query
    exact br_t hb (br_f (by decide) (br_t hb (br_t rfl ⟨rfl, J⟩)))
  · have hb' : ¬ fb = 0 := by rw [hb]; decide
    rcases zz_nodes (x := v1) (n := n) (by omega) with c | ⟨c, c'⟩ | ⟨s, hs, rfl⟩
    · unfold wpX_query wpY_query
      exact br_f hb' (br_t c (br_t rfl (br_f (by decide) (br_f hb' (br_t c (br_t rfl (br_f (by decide) (br_t rfl ⟨rfl, J⟩))))))))
    · unfold wpX_query wpY_query
      exact br_f hb' (br_f c (br_t c' (br_t rfl (br_f (by decide) (br_f hb' (br_f c (br_t c' (br_t rfl (br_f (by decide) (br_t rfl ⟨rfl, J⟩))))))))))
    · rcases zz_nodes (x := v2) (n := n) (by omega) with c | ⟨c, c'⟩ | ⟨t, ht, rfl⟩
      · unfold wpX_query wpY_query
        exact br_f hb' (zx_isNode hn hs (br_f (by decide) (br_t c (br_t rfl (br_f (by decide) (br_f hb' (zy_isNode hn hs (br_f (by decide) (br_t c (br_t rfl (br_f (by decide) (br_t rfl ⟨rfl, J⟩))))))))))))
      · unfold wpX_query wpY_query
        exact br_f hb' (zx_isNode hn hs (br_f (by decide) (br_f c (br_t c' (br_t rfl (br_f (by decide) (br_f hb' (zy_isNode hn hs (br_f (by decide) (br_f c (br_t c' (br_t rfl (br_f (by decide) (br_t rfl ⟨rfl, J⟩))))))))))))))
      · refine zx_query hn (by omega) hnd hW hL hb' hB hs ht ?_ ?_
        · intro Q hQ hQ2 me' dp' rr' L' se' pa' sk' a1 a2
          have hlen := (zg_minlen hnd hs hQ hQ2).2
          refine zy_query1 (Q := Q) h2 hn (by omega) hnd hln hs ht hb' hQ hQ2 ?_
          intro yr' yd' yl' a3
          exact ⟨rfl, zz_in ⟨h2, hn, ⟨lim, hl1, hl2, hl3⟩, hnd, hln, hW, a1, Or.inr ⟨hb, hB⟩, Or.inr ⟨Q, by omega, rfl, rfl, rfl, rfl, a2, a3, fun r hr => (zg_wk_ok hQ r hr).1⟩⟩⟩
        · intro hd0 me' L' se' pa' a1
          refine zy_query0 hn (by omega) hnd hln hs ht hb' (zx_none hn (by omega) hnd hln hs hd0) ?_
          intro yd' yl'
          exact ⟨rfl, zz_in ⟨h2, hn, ⟨lim, hl1, hl2, hl3⟩, hnd, hln, hW, a1, Or.inr ⟨hb, hB⟩, Or.inl ⟨rfl, rfl⟩⟩⟩
theorem i_vc_distance {k : Nat} {u : SX} {v : SY} (I : i_Rel k u v) (hk : k + 4 ≤ 2050) (v1 : Int32) (v2 : Int32) : wpX_distance (fun r u' => wpY_distance (fun r' v' => r' = r ∧ i_Rel (k + 4) u' v') v v1 v2) u v1 v2 := by
  refine zz_el (P := fun u v => wpX_distance (fun r u' => wpY_distance (fun r' v' => r' = r ∧ i_Rel (k + 4) u' v') v v1 v2) u v1 v2) ?_ I
  intro n R tl hd ln rk od W L pa sk va kp pe se pr rr yr yd yl fu fk fw fl fb me dp rs rc ys yt yz hF
  have J : i_Rel (k + 4) (fu, fk, fw, (nI n), fl, (nI R), fb, me, dp, rs, rc, (zi_N tl), (zi_N hd), (zi_N ln), (zi_N rk), (zi_N od), pr, (zi_L W), va, kp, pe, (zi_L L), se, (zi_N pa), (zi_N sk), rr) ((nI n), fl, (nI R), fb, ys, yt, yz, (zi_N tl), (zi_N hd), (zi_N ln), yr, yd, yl) := zz_in hF
  obtain ⟨h2, hn, ⟨lim, hl1, hl2, hl3⟩, hnd, hln, hW, hL, hb, hro⟩ := hF
  rcases hb with hb | ⟨hb, hB⟩
  · unfold wpX_distance wpY_distance
    exact br_t hb (br_f (by decide) (br_t hb ⟨rfl, J⟩))
  · have hb' : ¬ fb = 0 := by rw [hb]; decide
    rcases zz_nodes (x := v1) (n := n) (by omega) with c | ⟨c, c'⟩ | ⟨s, hs, rfl⟩
    · unfold wpX_distance wpY_distance
      exact br_f hb' (br_t c (br_t rfl (br_f (by decide) (br_f hb' (br_t c (br_t rfl ⟨rfl, J⟩))))))
    · unfold wpX_distance wpY_distance
      exact br_f hb' (br_f c (br_t c' (br_t rfl (br_f (by decide) (br_f hb' (br_f c (br_t c' (br_t rfl ⟨rfl, J⟩))))))))
    · rcases zz_nodes (x := v2) (n := n) (by omega) with c | ⟨c, c'⟩ | ⟨t, ht, rfl⟩
      · unfold wpX_distance wpY_distance
        exact br_f hb' (zx_isNode hn hs (br_f (by decide) (br_t c (br_t rfl (br_f (by decide) (br_f hb' (zy_isNode hn hs (br_f (by decide) (br_t c (br_t rfl ⟨rfl, J⟩))))))))))
      · unfold wpX_distance wpY_distance
        exact br_f hb' (zx_isNode hn hs (br_f (by decide) (br_f c (br_t c' (br_t rfl (br_f (by decide) (br_f hb' (zy_isNode hn hs (br_f (by decide) (br_f c (br_t c' (br_t rfl ⟨rfl, J⟩))))))))))))
      · refine zx_distance hn (by omega) hnd hW hL hb' hB hs ht ?_ ?_
        · intro hd0 me' L' se' pa' a1
          obtain ⟨Q, hQ, hQ2⟩ := zx_Q hd0
          have hv := zx_len (by omega) hnd hs hQ hQ2
          refine zy_distance hn (by omega) hnd hln hs ht hb' ?_
          intro x yd' yl' _ hx
          refine ⟨?_, zz_in ⟨h2, hn, ⟨lim, hl1, hl2, hl3⟩, hnd, hln, hW, a1, Or.inr ⟨hb, hB⟩, hro⟩⟩
          rcases hx with ⟨_, e⟩ | ⟨c, l, e1, e2, e3, e4, e5⟩
          · exact absurd hQ (e Q)
          · have b1 := e5 Q hQ
            have b2 := zg_minL (by omega) hnd hs hQ hQ2 e3
            rw [e1, hv]
            congr 1
            omega
        · intro hd0 me' L' se' pa' a1
          refine zy_distance hn (by omega) hnd hln hs ht hb' ?_
          intro x yd' yl' _ hx
          refine ⟨?_, zz_in ⟨h2, hn, ⟨lim, hl1, hl2, hl3⟩, hnd, hln, hW, a1, Or.inr ⟨hb, hB⟩, hro⟩⟩
          rcases hx with ⟨e, _⟩ | ⟨c, l, e1, e2, e3, e4, e5⟩
          · exact e
          · exact absurd e3 (zx_none hn (by omega) hnd hln hs hd0 l)
theorem i_vc_isBuilt {k : Nat} {u : SX} {v : SY} (I : i_Rel k u v) (hk : k + 4 ≤ 2050) : wpX_isBuilt (fun r => wpY_isBuilt (fun r' => r' = r ∧ i_Rel (k + 4) u v) v) u := by
  refine zz_el (P := fun u v => wpX_isBuilt (fun r => wpY_isBuilt (fun r' => r' = r ∧ i_Rel (k + 4) u v) v) u) ?_ I
  intro n R tl hd ln rk od W L pa sk va kp pe se pr rr yr yd yl fu fk fw fl fb me dp rs rc ys yt yz hF
  have J : i_Rel (k + 4) (fu, fk, fw, (nI n), fl, (nI R), fb, me, dp, rs, rc, (zi_N tl), (zi_N hd), (zi_N ln), (zi_N rk), (zi_N od), pr, (zi_L W), va, kp, pe, (zi_L L), se, (zi_N pa), (zi_N sk), rr) ((nI n), fl, (nI R), fb, ys, yt, yz, (zi_N tl), (zi_N hd), (zi_N ln), yr, yd, yl) := zz_in hF
  have hb : narrow .boolean (.int fb) = .int fb := by
    rcases hF.2.2.2.2.2.2.2.1 with e | ⟨e, _⟩
    · rw [e]; rfl
    · rw [e]; rfl
  exact ⟨hb, hb, rfl, J⟩
theorem i_vc_count {k : Nat} {u : SX} {v : SY} (I : i_Rel k u v) (hk : k + 4 ≤ 2050) (v1 : Int32) : wpX_count (fun r => wpY_count (fun r' => r' = r ∧ i_Rel (k + 4) u v) v v1) u v1 := by
  refine zz_el (P := fun u v => wpX_count (fun r => wpY_count (fun r' => r' = r ∧ i_Rel (k + 4) u v) v v1) u v1) ?_ I
  intro n R tl hd ln rk od W L pa sk va kp pe se pr rr yr yd yl fu fk fw fl fb me dp rs rc ys yt yz hF
  have J : i_Rel (k + 4) (fu, fk, fw, (nI n), fl, (nI R), fb, me, dp, rs, rc, (zi_N tl), (zi_N hd), (zi_N ln), (zi_N rk), (zi_N od), pr, (zi_L W), va, kp, pe, (zi_L L), se, (zi_N pa), (zi_N sk), rr) ((nI n), fl, (nI R), fb, ys, yt, yz, (zi_N tl), (zi_N hd), (zi_N ln), yr, yd, yl) := zz_in hF
  exact br_c (fun c => br_t c ⟨rfl, J⟩) (fun c0 => br_c (fun c1 => br_f c0 (br_t c1 ⟨rfl, J⟩)) (fun c1 => br_c (fun c2 => br_f c0 (br_f c1 (br_t c2 ⟨rfl, J⟩))) (fun c2 => br_f c0 (br_f c1 (br_f c2 ⟨rfl, J⟩)))))
theorem i_vc_roadFrom {k : Nat} {u : SX} {v : SY} (I : i_Rel k u v) (hk : k + 4 ≤ 2050) (v1 : Int32) : wpX_roadFrom (fun r => wpY_roadFrom (fun r' => r' = r ∧ i_Rel (k + 4) u v) v v1) u v1 := by
  refine zz_el (P := fun u v => wpX_roadFrom (fun r => wpY_roadFrom (fun r' => r' = r ∧ i_Rel (k + 4) u v) v v1) u v1) ?_ I
  intro n R tl hd ln rk od W L pa sk va kp pe se pr rr yr yd yl fu fk fw fl fb me dp rs rc ys yt yz hF
  have J : i_Rel (k + 4) (fu, fk, fw, (nI n), fl, (nI R), fb, me, dp, rs, rc, (zi_N tl), (zi_N hd), (zi_N ln), (zi_N rk), (zi_N od), pr, (zi_L W), va, kp, pe, (zi_L L), se, (zi_N pa), (zi_N sk), rr) ((nI n), fl, (nI R), fb, ys, yt, yz, (zi_N tl), (zi_N hd), (zi_N ln), yr, yd, yl) := zz_in hF
  obtain ⟨h2, hn, ⟨lim, hl1, hl2, hl3⟩, _⟩ := hF
  rcases zz_nodes (x := v1) (n := R) (by omega) with c | ⟨c, c'⟩ | ⟨j, hj, rfl⟩
  · exact br_t c (br_t rfl (br_t c (br_t rfl ⟨rfl, J⟩)))
  · exact br_f c (br_t c' (br_t rfl (br_f c (br_t c' (br_t rfl ⟨rfl, J⟩)))))
  · have vj : vp_in (nI j) 48 := vp_in_nI (by omega) (by omega)
    exact br_f (nI_pos (by omega)) (br_f (nI_ge hj (by omega)) (br_f (by decide) ⟨vj, br_f (nI_pos (by omega)) (br_f (nI_ge hj (by omega)) (br_f (by decide) ⟨vj, rfl, J⟩))⟩))
theorem i_vc_roadTo {k : Nat} {u : SX} {v : SY} (I : i_Rel k u v) (hk : k + 4 ≤ 2050) (v1 : Int32) : wpX_roadTo (fun r => wpY_roadTo (fun r' => r' = r ∧ i_Rel (k + 4) u v) v v1) u v1 := by
  refine zz_el (P := fun u v => wpX_roadTo (fun r => wpY_roadTo (fun r' => r' = r ∧ i_Rel (k + 4) u v) v v1) u v1) ?_ I
  intro n R tl hd ln rk od W L pa sk va kp pe se pr rr yr yd yl fu fk fw fl fb me dp rs rc ys yt yz hF
  have J : i_Rel (k + 4) (fu, fk, fw, (nI n), fl, (nI R), fb, me, dp, rs, rc, (zi_N tl), (zi_N hd), (zi_N ln), (zi_N rk), (zi_N od), pr, (zi_L W), va, kp, pe, (zi_L L), se, (zi_N pa), (zi_N sk), rr) ((nI n), fl, (nI R), fb, ys, yt, yz, (zi_N tl), (zi_N hd), (zi_N ln), yr, yd, yl) := zz_in hF
  obtain ⟨h2, hn, ⟨lim, hl1, hl2, hl3⟩, _⟩ := hF
  rcases zz_nodes (x := v1) (n := R) (by omega) with c | ⟨c, c'⟩ | ⟨j, hj, rfl⟩
  · exact br_t c (br_t rfl (br_t c (br_t rfl ⟨rfl, J⟩)))
  · exact br_f c (br_t c' (br_t rfl (br_f c (br_t c' (br_t rfl ⟨rfl, J⟩)))))
  · have vj : vp_in (nI j) 48 := vp_in_nI (by omega) (by omega)
    exact br_f (nI_pos (by omega)) (br_f (nI_ge hj (by omega)) (br_f (by decide) ⟨vj, br_f (nI_pos (by omega)) (br_f (nI_ge hj (by omega)) (br_f (by decide) ⟨vj, rfl, J⟩))⟩))
theorem i_vc_roadLength {k : Nat} {u : SX} {v : SY} (I : i_Rel k u v) (hk : k + 4 ≤ 2050) (v1 : Int32) : wpX_roadLength (fun r => wpY_roadLength (fun r' => r' = r ∧ i_Rel (k + 4) u v) v v1) u v1 := by
  refine zz_el (P := fun u v => wpX_roadLength (fun r => wpY_roadLength (fun r' => r' = r ∧ i_Rel (k + 4) u v) v v1) u v1) ?_ I
  intro n R tl hd ln rk od W L pa sk va kp pe se pr rr yr yd yl fu fk fw fl fb me dp rs rc ys yt yz hF
  have J : i_Rel (k + 4) (fu, fk, fw, (nI n), fl, (nI R), fb, me, dp, rs, rc, (zi_N tl), (zi_N hd), (zi_N ln), (zi_N rk), (zi_N od), pr, (zi_L W), va, kp, pe, (zi_L L), se, (zi_N pa), (zi_N sk), rr) ((nI n), fl, (nI R), fb, ys, yt, yz, (zi_N tl), (zi_N hd), (zi_N ln), yr, yd, yl) := zz_in hF
  obtain ⟨h2, hn, ⟨lim, hl1, hl2, hl3⟩, _⟩ := hF
  rcases zz_nodes (x := v1) (n := R) (by omega) with c | ⟨c, c'⟩ | ⟨j, hj, rfl⟩
  · exact br_t c (br_t rfl (br_t c (br_t rfl ⟨rfl, J⟩)))
  · exact br_f c (br_t c' (br_t rfl (br_f c (br_t c' (br_t rfl ⟨rfl, J⟩)))))
  · have vj : vp_in (nI j) 48 := vp_in_nI (by omega) (by omega)
    exact br_f (nI_pos (by omega)) (br_f (nI_ge hj (by omega)) (br_f (by decide) ⟨vj, br_f (nI_pos (by omega)) (br_f (nI_ge hj (by omega)) (br_f (by decide) ⟨vj, rfl, J⟩))⟩))
theorem i_vc_routeSize {k : Nat} {u : SX} {v : SY} (I : i_Rel k u v) (hk : k + 4 ≤ 2050) : wpX_routeSize (fun r => wpY_routeSize (fun r' => r' = r ∧ i_Rel (k + 4) u v) v) u := by
  refine zz_el (P := fun u v => wpX_routeSize (fun r => wpY_routeSize (fun r' => r' = r ∧ i_Rel (k + 4) u v) v) u) ?_ I
  intro n R tl hd ln rk od W L pa sk va kp pe se pr rr yr yd yl fu fk fw fl fb me dp rs rc ys yt yz hF
  have J : i_Rel (k + 4) (fu, fk, fw, (nI n), fl, (nI R), fb, me, dp, rs, rc, (zi_N tl), (zi_N hd), (zi_N ln), (zi_N rk), (zi_N od), pr, (zi_L W), va, kp, pe, (zi_L L), se, (zi_N pa), (zi_N sk), rr) ((nI n), fl, (nI R), fb, ys, yt, yz, (zi_N tl), (zi_N hd), (zi_N ln), yr, yd, yl) := zz_in hF
  rcases hF.2.2.2.2.2.2.2.2 with ⟨rfl, rfl⟩ | ⟨q, q1, rfl, rfl, rfl, rfl, q6, q7, q8⟩
  · exact br_f (by decide) (br_t rfl ⟨rfl, J⟩)
  · exact br_t (nI_pos' (by omega)) (br_f (by decide) ⟨rfl, J⟩)
section
variable {n R : Nat} {tl hd ln rk od W L pa sk : Nat → Nat} {va kp pe se pr rr : Nat → Int32} {fu : Int64} {fk fw fl fb me dp rs rc : Int32}
variable {yr yd yl : Nat → Int32} {yb ys yt yz : Int32}
theorem zz_now {q : List Nat} (hR : R ≤ 48) (h16 : q.length ≤ 16) (hx : zg_Ro rr q) (hy : zg_Ro yr q) (hq : ∀ r, r ∈ q → r < R) : ∀ (d i : Nat) (x1 : Int32), i + d = q.length →
    ∃ r : Int32, (∀ post : Int32 → Prop, post r → wX_routeNow_13 post fu fk fw (nI n) fl (nI R) fb me dp rs (nI q.length) (zi_N tl) (zi_N hd) (zi_N ln) (zi_N rk) (zi_N od) pr (zi_L W) va kp pe (zi_L L) se (zi_N pa) (zi_N sk) rr (d + 1) x1 (nI i)) ∧ (∀ post : Int32 → Prop, post r → wY_routeNow_13 post (nI n) fl (nI R) yb ys yt (nI q.length) (zi_N tl) (zi_N hd) (zi_N ln) yr yd yl (d + 1) x1 (nI i)) := by
  intro d
  induction d with
  | zero =>
    intro i x1 hi
    have hi' : i = q.length := by omega
    subst hi'
    exact ⟨x1, fun post hp => br_t (nI_le (by omega) (by omega)) hp, fun post hp => br_t (nI_le (by omega) (by omega)) hp⟩
  | succ d ih =>
    intro i x1 hi
    have hil : i < q.length := by omega
    have hm : q[i]? = some q[i] := List.getElem?_eq_getElem hil
    have ex := hx i _ hm
    have ey := hy i _ hm
    have hr := hq q[i] (List.getElem_mem hil)
    have ei : (nI i).toNatClampNeg = i := nI_clamp (by omega)
    have ec : (nI q[i]).toNatClampNeg = q[i] := nI_clamp (by omega)
    have vi : vp_in (nI i) 16 := vp_in_nI (by omega) (by omega)
    have vx : vp_in (rr (nI i).toNatClampNeg) 48 := by rw [ei, ex]; exact vp_in_nI (by omega) (by omega)
    have vy : vp_in (yr (nI i).toNatClampNeg) 48 := by rw [ei, ey]; exact vp_in_nI (by omega) (by omega)
    have lx : zi_N ln (rr (nI i).toNatClampNeg).toNatClampNeg = nI (ln q[i]) := by rw [ei, ex, ec]; rfl
    have ly : zi_N ln (yr (nI i).toNatClampNeg).toNatClampNeg = nI (ln q[i]) := by rw [ei, ey, ec]; rfl
    have nl : ¬ nI q.length ≤ nI i := nI_ge hil (by omega)
    by_cases c : nI (ln q[i]) = 0
    · refine ⟨-10, fun post hp => br_f nl ⟨vi, vx, nm_r lx (br_t c hp)⟩, fun post hp => br_f nl ⟨vi, vy, br_t (by rw [ly]; exact c) hp⟩⟩
    · obtain ⟨r, k1, k2⟩ := ih (i + 1) (x1 + nI (ln q[i])) (by omega)
      refine ⟨r, fun post hp => br_f nl ⟨vi, vx, nm_r lx (br_f c (nm_e (nm_r (nI_1 i) (k1 post hp))))⟩, fun post hp => br_f nl ⟨vi, vy, br_f (by rw [ly]; exact c) ⟨vi, vy, nm_r (e' := x1 + nI (ln q[i])) (by rw [ly]) (nm_r (nI_1 i) (k2 post hp))⟩⟩⟩
end
theorem i_vc_routeNow {k : Nat} {u : SX} {v : SY} (I : i_Rel k u v) (hk : k + 4 ≤ 2050) : wpX_routeNow (fun r => wpY_routeNow (fun r' => r' = r ∧ i_Rel (k + 4) u v) v) u := by
  refine zz_el (P := fun u v => wpX_routeNow (fun r => wpY_routeNow (fun r' => r' = r ∧ i_Rel (k + 4) u v) v) u) ?_ I
  intro n R tl hd ln rk od W L pa sk va kp pe se pr rr yr yd yl fu fk fw fl fb me dp rs rc ys yt yz hF
  have J : i_Rel (k + 4) (fu, fk, fw, (nI n), fl, (nI R), fb, me, dp, rs, rc, (zi_N tl), (zi_N hd), (zi_N ln), (zi_N rk), (zi_N od), pr, (zi_L W), va, kp, pe, (zi_L L), se, (zi_N pa), (zi_N sk), rr) ((nI n), fl, (nI R), fb, ys, yt, yz, (zi_N tl), (zi_N hd), (zi_N ln), yr, yd, yl) := zz_in hF
  obtain ⟨h2, hn, ⟨lim, hl1, hl2, hl3⟩, hnd, hln, hW, hL, hb, hro⟩ := hF
  rcases hro with ⟨rfl, rfl⟩ | ⟨q, q1, rfl, rfl, rfl, rfl, q6, q7, q8⟩
  · exact br_f (by decide) (br_t rfl ⟨rfl, J⟩)
  · obtain ⟨r, k1, k2⟩ := zz_now (n := n) (R := R) (tl := tl) (hd := hd) (ln := ln) (rk := rk) (od := od) (W := W) (L := L) (pa := pa) (sk := sk) (va := va) (kp := kp) (pe := pe) (se := se) (pr := pr) (rr := rr) (fu := fu) (fk := fk) (fw := fw) (fl := fl) (fb := fb) (me := me) (dp := dp) (rs := yt) (yr := yr) (yd := yd) (yl := yl) (yb := fb) (ys := 1) (yt := yt) (by omega) q1 q6 q7 q8 q.length 0 0 (by omega)
    exact br_t (nI_pos' (by omega)) ⟨q.length + 1, k1 _ (br_f (by decide) ⟨q.length + 1, k2 _ ⟨rfl, J⟩⟩)⟩
theorem i_vc_routeRoad {k : Nat} {u : SX} {v : SY} (I : i_Rel k u v) (hk : k + 4 ≤ 2050) (v1 : Int32) : wpX_routeRoad (fun r => wpY_routeRoad (fun r' => r' = r ∧ i_Rel (k + 4) u v) v v1) u v1 := by
  refine zz_el (P := fun u v => wpX_routeRoad (fun r => wpY_routeRoad (fun r' => r' = r ∧ i_Rel (k + 4) u v) v v1) u v1) ?_ I
  intro n R tl hd ln rk od W L pa sk va kp pe se pr rr yr yd yl fu fk fw fl fb me dp rs rc ys yt yz hF
  have J : i_Rel (k + 4) (fu, fk, fw, (nI n), fl, (nI R), fb, me, dp, rs, rc, (zi_N tl), (zi_N hd), (zi_N ln), (zi_N rk), (zi_N od), pr, (zi_L W), va, kp, pe, (zi_L L), se, (zi_N pa), (zi_N sk), rr) ((nI n), fl, (nI R), fb, ys, yt, yz, (zi_N tl), (zi_N hd), (zi_N ln), yr, yd, yl) := zz_in hF
  obtain ⟨h2, hn, ⟨lim, hl1, hl2, hl3⟩, hnd, hln, hW, hL, hb, hro⟩ := hF
  rcases hro with ⟨rfl, rfl⟩ | ⟨q, q1, rfl, rfl, rfl, rfl, q6, q7, q8⟩
  · exact br_f (by decide) (br_t rfl ⟨rfl, J⟩)
  · have p0 : (0 : Int32) ≤ nI q.length := nI_pos' (by omega)
    rcases zz_nodes (x := v1) (n := q.length) (by omega) with c | ⟨c, c'⟩ | ⟨j, hj, rfl⟩
    · exact br_t p0 (br_t c (br_f (by decide) (br_t c ⟨rfl, J⟩)))
    · have c2 : ¬ v1 < nI q.length := Int32.not_lt.mpr c'
      exact br_t p0 (br_f c (br_f c2 (br_f (by decide) (br_f c (br_f c2 ⟨rfl, J⟩)))))
    · have hm : q[j]? = some q[j] := List.getElem?_eq_getElem hj
      have ej : (nI j).toNatClampNeg = j := nI_clamp (by omega)
      have vj : vp_in (nI j) 16 := vp_in_nI (by omega) (by omega)
      have c2 : nI j < nI q.length := nI_lt hj (by omega)
      exact br_t p0 (br_f (nI_pos (by omega)) (br_t c2 ⟨vj, br_f (by decide) (br_f (nI_pos (by omega)) (br_t c2 ⟨vj, by rw [ej, q6 j _ hm, q7 j _ hm], J⟩))⟩))
theorem i_vc_routeNode {k : Nat} {u : SX} {v : SY} (I : i_Rel k u v) (hk : k + 4 ≤ 2050) (v1 : Int32) : wpX_routeNode (fun r => wpY_routeNode (fun r' => r' = r ∧ i_Rel (k + 4) u v) v v1) u v1 := by
  refine zz_el (P := fun u v => wpX_routeNode (fun r => wpY_routeNode (fun r' => r' = r ∧ i_Rel (k + 4) u v) v v1) u v1) ?_ I
  intro n R tl hd ln rk od W L pa sk va kp pe se pr rr yr yd yl fu fk fw fl fb me dp rs rc ys yt yz hF
  have J : i_Rel (k + 4) (fu, fk, fw, (nI n), fl, (nI R), fb, me, dp, rs, rc, (zi_N tl), (zi_N hd), (zi_N ln), (zi_N rk), (zi_N od), pr, (zi_L W), va, kp, pe, (zi_L L), se, (zi_N pa), (zi_N sk), rr) ((nI n), fl, (nI R), fb, ys, yt, yz, (zi_N tl), (zi_N hd), (zi_N ln), yr, yd, yl) := zz_in hF
  obtain ⟨h2, hn, ⟨lim, hl1, hl2, hl3⟩, hnd, hln, hW, hL, hb, hro⟩ := hF
  rcases hro with ⟨rfl, rfl⟩ | ⟨q, q1, rfl, rfl, rfl, rfl, q6, q7, q8⟩
  · exact br_f (by decide) (br_t rfl ⟨rfl, J⟩)
  · have p0 : (0 : Int32) ≤ nI q.length := nI_pos' (by omega)
    rcases zz_nodes (x := v1) (n := q.length + 1) (by omega) with c | ⟨c, c'⟩ | ⟨j, hj, rfl⟩
    · exact br_t p0 (br_t c (br_f (by decide) (br_t c ⟨rfl, J⟩)))
    · have c2 : ¬ v1 ≤ nI q.length := fun e => absurd (Int32.le_trans c' e) (nI_ge (by omega) (by omega))
      exact br_t p0 (br_f c (br_f c2 (br_f (by decide) (br_f c (br_f c2 ⟨rfl, J⟩)))))
    · have c2 : nI j ≤ nI q.length := nI_le (by omega) (by omega)
      have cp : ¬ nI j < 0 := nI_pos (by omega)
      cases j with
      | zero => exact br_t p0 (br_f cp (br_t c2 (br_t rfl (br_f (by decide) (br_f cp (br_t c2 (br_t rfl ⟨rfl, J⟩)))))))
      | succ j =>
        have hm : q[j]? = some q[j] := List.getElem?_eq_getElem (by omega)
        have hr := q8 q[j] (List.getElem_mem (by omega))
        have e1 : nI (j + 1) - 1 = nI j := nI_pred j
        have ej : (nI (j + 1) - 1).toNatClampNeg = j := by rw [e1]; exact nI_clamp (by omega)
        have vj : vp_in (nI (j + 1) - 1) 16 := by rw [e1]; exact vp_in_nI (by omega) (by omega)
        have ex : rr (nI (j + 1) - 1).toNatClampNeg = nI q[j] := by rw [ej]; exact q6 j _ hm
        have ey : yr (nI (j + 1) - 1).toNatClampNeg = nI q[j] := by rw [ej]; exact q7 j _ hm
        have vq : vp_in (nI q[j]) 48 := vp_in_nI (by omega) (by omega)
        have cn : ¬ nI (j + 1) = 0 := nI_ne0 (by omega) (by omega)
        exact br_t p0 (br_f cp (br_t c2 (br_f cn ⟨vj, by rw [ex]; exact vq, br_f (by decide) (br_f cp (br_t c2 (br_f cn ⟨vj, by rw [ey]; exact vq, by rw [ex, ey], J⟩)))⟩)))
end
