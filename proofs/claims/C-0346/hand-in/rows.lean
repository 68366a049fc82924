section
/-! pure rows to paste: stores, nI and lN arithmetic, masks, shifts, narrowing, branches by naturals (pk_le, pk_lt, pk_eq), loops (lp1 .. lp16: the measure of the state; rp1 ..: recursion), negatives. Take what you need -/
theorem pk_us {f : Nat → Int32} {k : Nat} {x : Int32} : upd f k x k = x := if_pos rfl
theorem pk_un {f : Nat → Int32} {k j : Nat} {x : Int32} (h : j ≠ k) : upd f k x j = f j := if_neg h
theorem pk_uLs {f : Nat → Int64} {k : Nat} {x : Int64} : vp_updL f k x k = x := if_pos rfl
theorem pk_uLn {f : Nat → Int64} {k j : Nat} {x : Int64} (h : j ≠ k) : vp_updL f k x j = f j := if_neg h
theorem pk_sub {a b : Nat} (h : b ≤ a) : nI a - nI b = nI (a - b) := by
  obtain ⟨c, rfl⟩ : ∃ c, a = c + b := ⟨a - b, by omega⟩
  rw [← nI_add, Int32.add_sub_cancel, Nat.add_sub_cancel]
theorem pk_m1 (n : Nat) : nI (n + 1) + (-1) = nI n := by
  rw [← nI_1, Int32.add_assoc, show (1 : Int32) + (-1) = 0 from rfl, Int32.add_zero]
theorem pk_mul (a b : Nat) : nI a * nI b = nI (a * b) := (Int32.ofNat_mul a b).symm
theorem pk_div {a d : Nat} (ha : a < 2 ^ 31) (h0 : 0 < d) (hd : d < 2 ^ 31) : nI a / nI d = nI (a / d) := by
  apply Int32.toInt_inj.mp
  rw [lg_idiv_nonneg (by rw [nI_toInt ha]; omega) (by rw [nI_toInt hd]; omega), nI_toInt ha, nI_toInt hd, nI_toInt (Nat.lt_of_le_of_lt (Nat.div_le_self a d) ha)]
  first | rfl | exact (Int.natCast_ediv _ _).symm
theorem pk_rem {a d : Nat} (ha : a < 2 ^ 31) (h0 : 0 < d) (hd : d < 2 ^ 31) : nI a - nI a / nI d * nI d = nI (a % d) := by
  rw [pk_div ha h0 hd, pk_mul, pk_sub (Nat.div_mul_le_self a d)]
  exact congrArg nI (by have := Nat.div_add_mod' a d; omega)
theorem pk_sub_toInt {a b : Nat} (ha : a < 2 ^ 30) (hb : b < 2 ^ 30) : (nI a - nI b).toInt = (a : Int) - b := by
  rw [Int32.toInt_sub, nI_toInt (by omega), nI_toInt (by omega)]
  exact Int.bmod_eq_of_le (by omega) (by omega)
theorem pk_sneg {a b : Nat} (hb : b < 2 ^ 30) (h : a < b) : nI a - nI b < 0 := by
  rw [Int32.lt_iff_toInt_lt, pk_sub_toInt (by omega) hb, show (0 : Int32).toInt = 0 from by decide]
  omega
theorem pk_ix (x : Int32) {n : Nat} (hn : n < 2 ^ 31) : x < 0 ∨ nI n ≤ x ∨ ∃ j : Nat, j < n ∧ x = nI j := by
  by_cases h : x < 0
  · exact Or.inl h
  · obtain ⟨j, hj, rfl⟩ := nI_of h
    by_cases h2 : j < n
    · exact Or.inr (Or.inr ⟨j, h2, rfl⟩)
    · exact Or.inr (Or.inl (nI_le (by omega) hj))
theorem pk_le {x y : Int32} {A B : Prop} (a b : Nat) (f : a ≤ b → A) (g : b < a → B) (hx : x = nI a := by rfl) (hy : y = nI b := by rfl) (ha : a < 2 ^ 31 := by omega) (hb : b < 2 ^ 31 := by omega) : (x ≤ y → A) ∧ (¬ x ≤ y → B) := by
  subst hx hy
  rw [nI_leI ha hb]
  exact ⟨f, fun z => g (by omega)⟩
theorem pk_lt {x y : Int32} {A B : Prop} (a b : Nat) (f : a < b → A) (g : b ≤ a → B) (hx : x = nI a := by rfl) (hy : y = nI b := by rfl) (ha : a < 2 ^ 31 := by omega) (hb : b < 2 ^ 31 := by omega) : (x < y → A) ∧ (¬ x < y → B) := by
  subst hx hy
  rw [nI_ltI ha hb]
  exact ⟨f, fun z => g (by omega)⟩
theorem pk_eq {x y : Int32} {A B : Prop} (a b : Nat) (f : a = b → A) (g : a ≠ b → B) (hx : x = nI a := by rfl) (hy : y = nI b := by rfl) (ha : a < 2 ^ 31 := by omega) (hb : b < 2 ^ 31 := by omega) : (x = y → A) ∧ (¬ x = y → B) := by
  subst hx hy
  rw [nI_eq ha hb]
  exact ⟨f, g⟩
theorem pk_in {x : Int32} (n N : Nat) (h : n < N) (hx : x = nI n := by rfl) (hN : N < 2 ^ 31 := by omega) : vp_in x N := by
  subst hx
  exact vp_in_nI h hN
theorem pk_cl {x : Int32} (n : Nat) (hx : x = nI n := by rfl) (h : n < 2 ^ 31 := by omega) : x.toNatClampNeg = n := by
  subst hx
  exact nI_clamp h
theorem pk_tn {n : Nat} (h : n < 2 ^ 32) : (nI n).toBitVec.toNat = n := Nat.mod_eq_of_lt h
theorem pk_and (x : Int32) {m : Int32} (k : Nat) (hm : m.toBitVec.toNat = 2 ^ k - 1) : x &&& m = nI (x.toBitVec.toNat % 2 ^ k) := by
  apply Int32.toBitVec_inj.mp
  apply BitVec.eq_of_toNat_eq
  rw [Int32.toBitVec_and, BitVec.toNat_and, hm, Nat.and_two_pow_sub_one_eq_mod]
  show _ = (BitVec.ofNat 32 _).toNat
  rw [BitVec.toNat_ofNat]
  exact (Nat.mod_eq_of_lt (Nat.lt_of_le_of_lt (Nat.mod_le _ _) x.toBitVec.isLt)).symm
theorem pk_andN {n : Nat} (h : n < 2 ^ 32) {m : Int32} (k : Nat) (hm : m.toBitVec.toNat = 2 ^ k - 1) : nI n &&& m = nI (n % 2 ^ k) := by
  rw [pk_and _ k hm, pk_tn h]
theorem pk_andE (x : Int32) {m : Int32} (k : Nat) (hm : m.toBitVec.toNat = 2 ^ k - 1) : ∃ j : Nat, j < 2 ^ k ∧ x &&& m = nI j := ⟨_, Nat.mod_lt _ (Nat.two_pow_pos k), pk_and x k hm⟩
theorem pk_andIn (x : Int32) {m : Int32} (k : Nat) (hm : m.toBitVec.toNat = 2 ^ k - 1) (hk : k ≤ 30) : vp_in (x &&& m) (2 ^ k) := by
  obtain ⟨j, hj, e⟩ := pk_andE x k hm
  rw [e]
  exact vp_in_nI hj (Nat.lt_of_le_of_lt (Nat.pow_le_pow_right (by decide) hk) (by decide))
theorem pk_shl (a s : Int32) (k : Nat) (hs : (s.toBitVec.smod 32).toNat = k) : (a <<< s).toBitVec.toNat = a.toBitVec.toNat * 2 ^ k % 2 ^ 32 := by
  show (a.toBitVec <<< (s.toBitVec.smod 32).toNat).toNat = _
  rw [hs, BitVec.toNat_shiftLeft, Nat.shiftLeft_eq]
theorem pk_shlN {n : Nat} (s : Int32) (k : Nat) (hs : (s.toBitVec.smod 32).toNat = k) (h : n * 2 ^ k < 2 ^ 32) : nI n <<< s = nI (n * 2 ^ k) := by
  apply Int32.toBitVec_inj.mp
  apply BitVec.eq_of_toNat_eq
  have hn : n < 2 ^ 32 := Nat.lt_of_le_of_lt (Nat.le_mul_of_pos_right n (Nat.two_pow_pos k)) h
  rw [pk_shl _ _ k hs, pk_tn hn, pk_tn h, Nat.mod_eq_of_lt h]
theorem pk_shr (a s : Int32) (k : Nat) (hs : (s.toBitVec.smod 32).toNat = k) : (a >>> s).toInt = a.toInt >>> k := by
  show (a.toBitVec.sshiftRight (s.toBitVec.smod 32).toNat).toInt = _
  rw [hs, BitVec.toInt_sshiftRight]
  rfl
theorem pk_shrN {n : Nat} (h : n < 2 ^ 31) (s : Int32) (k : Nat) (hs : (s.toBitVec.smod 32).toNat = k) : nI n >>> s = nI (n / 2 ^ k) := by
  apply Int32.toInt_inj.mp
  have h2 : n / 2 ^ k ≤ n := Nat.div_le_self _ _
  rw [pk_shr _ _ k hs, nI_toInt h, nI_toInt (by omega), Int.shiftRight_eq_div_pow]
  rfl
theorem pk_ushr (x s : Int32) (k : Nat) (hs : ((s.toUInt32 &&& Int32.toUInt32 31).toBitVec % 32).toNat = k) : (x.toUInt32 >>> (s.toUInt32 &&& Int32.toUInt32 31)).toInt32.toBitVec.toNat = x.toBitVec.toNat / 2 ^ k := by
  have e : (x.toUInt32 >>> (s.toUInt32 &&& Int32.toUInt32 31)).toInt32.toBitVec = x.toBitVec >>> k := by
    rw [← hs]
    exact UInt32.toBitVec_shiftRight _ _
  rw [e, BitVec.toNat_ushiftRight, Nat.shiftRight_eq_div_pow]
theorem pk_ushrN {n : Nat} (hn : n < 2 ^ 32) (s : Int32) (k : Nat) (hs : ((s.toUInt32 &&& Int32.toUInt32 31).toBitVec % 32).toNat = k) : ((nI n).toUInt32 >>> (s.toUInt32 &&& Int32.toUInt32 31)).toInt32 = nI (n / 2 ^ k) := by
  apply Int32.toBitVec_inj.mp
  apply BitVec.eq_of_toNat_eq
  rw [pk_ushr _ s k hs, pk_tn hn, pk_tn (Nat.lt_of_le_of_lt (Nat.div_le_self _ _) hn)]
theorem pk_nb (z : Int32) : narrow .byte (.int z.toInt8.toInt32) = .int z.toInt8.toInt32 := congrArg Value.int (by simp)
theorem pk_ns (z : Int32) : narrow .short (.int z.toInt16.toInt32) = .int z.toInt16.toInt32 := congrArg Value.int (by simp)
theorem pk_fb (r : Int32) : fits .byte (.int r.toInt8.toInt32) = true := by
  have ⟨a, b⟩ := lg_i2b_range r
  have h1 : (-128 : Int32).toInt = -128 := by decide
  have h2 : (127 : Int32).toInt = 127 := by decide
  simp only [fits, Bool.and_eq_true, decide_eq_true_eq, Int32.le_iff_toInt_le, h1, h2]
  omega
theorem pk_fs (r : Int32) : fits .short (.int r.toInt16.toInt32) = true := by
  have ⟨a, b⟩ := lg_i2s_range r
  have h1 : (-32768 : Int32).toInt = -32768 := by decide
  have h2 : (32767 : Int32).toInt = 32767 := by decide
  simp only [fits, Bool.and_eq_true, decide_eq_true_eq, Int32.le_iff_toInt_le, h1, h2]
  omega
theorem pk_charN {q : Nat} (hq : q < 65536) : narrow .char (.int (nI q)) = .int (nI q) ∧ fits .char (.int (nI q)) = true := by
  constructor
  · have e : (nI q).toUInt32.toUInt16.toUInt32.toInt32 = nI q := by
      apply Int32.toBitVec_inj.mp
      apply BitVec.eq_of_toNat_eq
      show (nI q).toUInt32.toUInt16.toUInt32.toNat = q % 2 ^ 32
      rw [UInt16.toNat_toUInt32, UInt32.toNat_toUInt16, show (nI q).toUInt32.toNat = q % 2 ^ 32 from rfl]
      omega
    exact congrArg Value.int e
  · have a : (0 : Int32) ≤ nI q := nI_pos' (by omega)
    have b : nI q ≤ 65535 := nI_le (b := 65535) (by omega) (by decide)
    show (decide ((0 : Int32) ≤ nI q) && decide (nI q ≤ 65535)) = true
    rw [decide_eq_true a, decide_eq_true b]
    rfl
theorem pk_char (x : Int32) : (x.toUInt32 % 65536).toInt32 = nI (x.toBitVec.toNat % 65536) := by
  apply Int32.toBitVec_inj.mp
  apply BitVec.eq_of_toNat_eq
  rw [pk_tn (by omega)]
  show (x.toUInt32 % 65536).toNat = _
  rw [UInt32.toNat_mod]
  rfl
theorem pk_nc (x : Int32) : narrow .char (.int (x.toUInt32 % 65536).toInt32) = .int (x.toUInt32 % 65536).toInt32 := by
  rw [pk_char]
  exact (pk_charN (Nat.mod_lt _ (by decide))).1
theorem pk_fc (x : Int32) : fits .char (.int (x.toUInt32 % 65536).toInt32) = true := by
  rw [pk_char]
  exact (pk_charN (Nat.mod_lt _ (by decide))).2
theorem pk_vb (z : Int32) : vp_nar .byte z.toInt8.toInt32 = z.toInt8.toInt32 := by rw [vp_nar_byte]; simp
theorem pk_vs (z : Int32) : vp_nar .short z.toInt16.toInt32 = z.toInt16.toInt32 := by rw [vp_nar_short]; simp
theorem pk_vc (z : Int32) : vp_nar .char (z.toUInt32 % 65536).toInt32 = (z.toUInt32 % 65536).toInt32 := Value.int.inj (pk_nc z)
theorem pk_lT {n : Nat} (h : n < 2 ^ 63) : (lN n).toInt = (n : Int) := lg_ofNat_toInt h
theorem pk_lLT {a b : Nat} (ha : a < 2 ^ 63) (hb : b < 2 ^ 63) : lN a < lN b ↔ a < b := by
  rw [Int64.lt_iff_toInt_lt, pk_lT ha, pk_lT hb]; omega
theorem pk_lLE {a b : Nat} (ha : a < 2 ^ 63) (hb : b < 2 ^ 63) : lN a ≤ lN b ↔ a ≤ b := by
  rw [Int64.le_iff_toInt_le, pk_lT ha, pk_lT hb]; omega
theorem pk_lEQ {a b : Nat} (ha : a < 2 ^ 63) (hb : b < 2 ^ 63) : lN a = lN b ↔ a = b := by
  rw [← Int64.toInt_inj, pk_lT ha, pk_lT hb]; omega
theorem pk_lOf {x : Int64} (h : ¬ x < 0) : ∃ k : Nat, k < 2 ^ 63 ∧ x = lN k := by
  rw [Int64.lt_iff_toInt_lt] at h
  have h0 : (0 : Int64).toInt = 0 := by decide
  have hx := Int64.toInt_lt x
  refine ⟨x.toInt.toNat, by omega, Int64.toInt_inj.mp ?_⟩
  rw [pk_lT (by omega)]
  omega
theorem pk_lDiv {a b : Nat} (ha : a < 2 ^ 63) (h0 : 0 < b) (hb : b < 2 ^ 63) : lN a / lN b = lN (a / b) := by
  apply Int64.toInt_inj.mp
  rw [lg_ldiv_nonneg (by rw [pk_lT ha]; omega) (by rw [pk_lT hb]; omega), pk_lT ha, pk_lT hb, pk_lT (Nat.lt_of_le_of_lt (Nat.div_le_self a b) ha)]
  rfl
theorem pk_lRem {a b : Nat} (ha : a < 2 ^ 63) (h0 : 0 < b) (hb : b < 2 ^ 63) : lN a - lN a / lN b * lN b = lN (a % b) := by
  rw [pk_lDiv ha h0 hb, lN_mul, lN_sub (Nat.div_mul_le_self a b)]
  exact congrArg lN (by have := Nat.div_add_mod' a b; omega)
theorem pk_loop {σ : Type} (W : Nat → Nat → σ → Prop) (I : Nat → σ → Prop) (e i0 : Nat) (s : σ) (hi : i0 ≤ e) (h0 : I i0 s) (hx : ∀ n s, I e s → W (n + 1) e s)
    (hs : ∀ n i s, i < e → I i s → (∀ s', I (i + 1) s' → W n (i + 1) s') → W (n + 1) i s) : ∃ n, W n i0 s :=
  ⟨e + 1, loop_i W I e hx hs (e + 1) i0 s hi (by omega) h0⟩
theorem pk_loopD {σ : Type} (W : Nat → Nat → σ → Prop) (I : Nat → σ → Prop) (hx : ∀ n s, I 0 s → W (n + 1) 0 s)
    (hs : ∀ n i s, I (i + 1) s → (∀ s', I i s' → W n i s') → W (n + 1) (i + 1) s) : ∀ (e : Nat) (s : σ), I e s → W (e + 1) e s := by
  intro e
  induction e with
  | zero => exact fun s h => hx 0 s h
  | succ e ih => exact fun s h => hs (e + 1) e s h (fun s' h' => ih s' h')
theorem lp1 {A1 : Type} (W : Nat → A1 → Prop) (I : A1 → Prop) (μ : A1 → Nat) (hs : ∀ (n : Nat) (a1 : A1), I a1 → (∀ (b1 : A1), I b1 → μ b1 < μ a1 → W n b1) → W (n + 1) a1) (a1 : A1) (h : I a1) : ∃ n, W n a1 :=
  loop_m (σ := A1) (fun n s => W n s) (fun s => I s) (fun s => μ s) (fun n s hI hk => hs n s hI (fun b1 h9 hm => hk b1 h9 hm)) a1 h
theorem lp2 {A1 A2 : Type} (W : Nat → A1 → A2 → Prop) (I : A1 → A2 → Prop) (μ : A1 → A2 → Nat) (hs : ∀ (n : Nat) (a1 : A1) (a2 : A2), I a1 a2 → (∀ (b1 : A1) (b2 : A2), I b1 b2 → μ b1 b2 < μ a1 a2 → W n b1 b2) → W (n + 1) a1 a2) (a1 : A1) (a2 : A2) (h : I a1 a2) : ∃ n, W n a1 a2 :=
  loop_m (σ := A1 × A2) (fun n s => W n s.1 s.2) (fun s => I s.1 s.2) (fun s => μ s.1 s.2) (fun n s hI hk => hs n s.1 s.2 hI (fun b1 b2 h9 hm => hk (b1, b2) h9 hm)) (a1, a2) h
theorem lp3 {A1 A2 A3 : Type} (W : Nat → A1 → A2 → A3 → Prop) (I : A1 → A2 → A3 → Prop) (μ : A1 → A2 → A3 → Nat) (hs : ∀ (n : Nat) (a1 : A1) (a2 : A2) (a3 : A3), I a1 a2 a3 → (∀ (b1 : A1) (b2 : A2) (b3 : A3), I b1 b2 b3 → μ b1 b2 b3 < μ a1 a2 a3 → W n b1 b2 b3) → W (n + 1) a1 a2 a3) (a1 : A1) (a2 : A2) (a3 : A3) (h : I a1 a2 a3) : ∃ n, W n a1 a2 a3 :=
  loop_m (σ := A1 × A2 × A3) (fun n s => W n s.1 s.2.1 s.2.2) (fun s => I s.1 s.2.1 s.2.2) (fun s => μ s.1 s.2.1 s.2.2) (fun n s hI hk => hs n s.1 s.2.1 s.2.2 hI (fun b1 b2 b3 h9 hm => hk (b1, b2, b3) h9 hm)) (a1, a2, a3) h
theorem lp4 {A1 A2 A3 A4 : Type} (W : Nat → A1 → A2 → A3 → A4 → Prop) (I : A1 → A2 → A3 → A4 → Prop) (μ : A1 → A2 → A3 → A4 → Nat) (hs : ∀ (n : Nat) (a1 : A1) (a2 : A2) (a3 : A3) (a4 : A4), I a1 a2 a3 a4 → (∀ (b1 : A1) (b2 : A2) (b3 : A3) (b4 : A4), I b1 b2 b3 b4 → μ b1 b2 b3 b4 < μ a1 a2 a3 a4 → W n b1 b2 b3 b4) → W (n + 1) a1 a2 a3 a4) (a1 : A1) (a2 : A2) (a3 : A3) (a4 : A4) (h : I a1 a2 a3 a4) : ∃ n, W n a1 a2 a3 a4 :=
  loop_m (σ := A1 × A2 × A3 × A4) (fun n s => W n s.1 s.2.1 s.2.2.1 s.2.2.2) (fun s => I s.1 s.2.1 s.2.2.1 s.2.2.2) (fun s => μ s.1 s.2.1 s.2.2.1 s.2.2.2) (fun n s hI hk => hs n s.1 s.2.1 s.2.2.1 s.2.2.2 hI (fun b1 b2 b3 b4 h9 hm => hk (b1, b2, b3, b4) h9 hm)) (a1, a2, a3, a4) h
theorem lp5 {A1 A2 A3 A4 A5 : Type} (W : Nat → A1 → A2 → A3 → A4 → A5 → Prop) (I : A1 → A2 → A3 → A4 → A5 → Prop) (μ : A1 → A2 → A3 → A4 → A5 → Nat) (hs : ∀ (n : Nat) (a1 : A1) (a2 : A2) (a3 : A3) (a4 : A4) (a5 : A5), I a1 a2 a3 a4 a5 → (∀ (b1 : A1) (b2 : A2) (b3 : A3) (b4 : A4) (b5 : A5), I b1 b2 b3 b4 b5 → μ b1 b2 b3 b4 b5 < μ a1 a2 a3 a4 a5 → W n b1 b2 b3 b4 b5) → W (n + 1) a1 a2 a3 a4 a5) (a1 : A1) (a2 : A2) (a3 : A3) (a4 : A4) (a5 : A5) (h : I a1 a2 a3 a4 a5) : ∃ n, W n a1 a2 a3 a4 a5 :=
  loop_m (σ := A1 × A2 × A3 × A4 × A5) (fun n s => W n s.1 s.2.1 s.2.2.1 s.2.2.2.1 s.2.2.2.2) (fun s => I s.1 s.2.1 s.2.2.1 s.2.2.2.1 s.2.2.2.2) (fun s => μ s.1 s.2.1 s.2.2.1 s.2.2.2.1 s.2.2.2.2) (fun n s hI hk => hs n s.1 s.2.1 s.2.2.1 s.2.2.2.1 s.2.2.2.2 hI (fun b1 b2 b3 b4 b5 h9 hm => hk (b1, b2, b3, b4, b5) h9 hm)) (a1, a2, a3, a4, a5) h
theorem lp6 {A1 A2 A3 A4 A5 A6 : Type} (W : Nat → A1 → A2 → A3 → A4 → A5 → A6 → Prop) (I : A1 → A2 → A3 → A4 → A5 → A6 → Prop) (μ : A1 → A2 → A3 → A4 → A5 → A6 → Nat) (hs : ∀ (n : Nat) (a1 : A1) (a2 : A2) (a3 : A3) (a4 : A4) (a5 : A5) (a6 : A6), I a1 a2 a3 a4 a5 a6 → (∀ (b1 : A1) (b2 : A2) (b3 : A3) (b4 : A4) (b5 : A5) (b6 : A6), I b1 b2 b3 b4 b5 b6 → μ b1 b2 b3 b4 b5 b6 < μ a1 a2 a3 a4 a5 a6 → W n b1 b2 b3 b4 b5 b6) → W (n + 1) a1 a2 a3 a4 a5 a6) (a1 : A1) (a2 : A2) (a3 : A3) (a4 : A4) (a5 : A5) (a6 : A6) (h : I a1 a2 a3 a4 a5 a6) : ∃ n, W n a1 a2 a3 a4 a5 a6 :=
  loop_m (σ := A1 × A2 × A3 × A4 × A5 × A6) (fun n s => W n s.1 s.2.1 s.2.2.1 s.2.2.2.1 s.2.2.2.2.1 s.2.2.2.2.2) (fun s => I s.1 s.2.1 s.2.2.1 s.2.2.2.1 s.2.2.2.2.1 s.2.2.2.2.2) (fun s => μ s.1 s.2.1 s.2.2.1 s.2.2.2.1 s.2.2.2.2.1 s.2.2.2.2.2) (fun n s hI hk => hs n s.1 s.2.1 s.2.2.1 s.2.2.2.1 s.2.2.2.2.1 s.2.2.2.2.2 hI (fun b1 b2 b3 b4 b5 b6 h9 hm => hk (b1, b2, b3, b4, b5, b6) h9 hm)) (a1, a2, a3, a4, a5, a6) h
theorem lp7 {A1 A2 A3 A4 A5 A6 A7 : Type} (W : Nat → A1 → A2 → A3 → A4 → A5 → A6 → A7 → Prop) (I : A1 → A2 → A3 → A4 → A5 → A6 → A7 → Prop) (μ : A1 → A2 → A3 → A4 → A5 → A6 → A7 → Nat) (hs : ∀ (n : Nat) (a1 : A1) (a2 : A2) (a3 : A3) (a4 : A4) (a5 : A5) (a6 : A6) (a7 : A7), I a1 a2 a3 a4 a5 a6 a7 → (∀ (b1 : A1) (b2 : A2) (b3 : A3) (b4 : A4) (b5 : A5) (b6 : A6) (b7 : A7), I b1 b2 b3 b4 b5 b6 b7 → μ b1 b2 b3 b4 b5 b6 b7 < μ a1 a2 a3 a4 a5 a6 a7 → W n b1 b2 b3 b4 b5 b6 b7) → W (n + 1) a1 a2 a3 a4 a5 a6 a7) (a1 : A1) (a2 : A2) (a3 : A3) (a4 : A4) (a5 : A5) (a6 : A6) (a7 : A7) (h : I a1 a2 a3 a4 a5 a6 a7) : ∃ n, W n a1 a2 a3 a4 a5 a6 a7 :=
  loop_m (σ := A1 × A2 × A3 × A4 × A5 × A6 × A7) (fun n s => W n s.1 s.2.1 s.2.2.1 s.2.2.2.1 s.2.2.2.2.1 s.2.2.2.2.2.1 s.2.2.2.2.2.2) (fun s => I s.1 s.2.1 s.2.2.1 s.2.2.2.1 s.2.2.2.2.1 s.2.2.2.2.2.1 s.2.2.2.2.2.2) (fun s => μ s.1 s.2.1 s.2.2.1 s.2.2.2.1 s.2.2.2.2.1 s.2.2.2.2.2.1 s.2.2.2.2.2.2) (fun n s hI hk => hs n s.1 s.2.1 s.2.2.1 s.2.2.2.1 s.2.2.2.2.1 s.2.2.2.2.2.1 s.2.2.2.2.2.2 hI (fun b1 b2 b3 b4 b5 b6 b7 h9 hm => hk (b1, b2, b3, b4, b5, b6, b7) h9 hm)) (a1, a2, a3, a4, a5, a6, a7) h
theorem lp8 {A1 A2 A3 A4 A5 A6 A7 A8 : Type} (W : Nat → A1 → A2 → A3 → A4 → A5 → A6 → A7 → A8 → Prop) (I : A1 → A2 → A3 → A4 → A5 → A6 → A7 → A8 → Prop) (μ : A1 → A2 → A3 → A4 → A5 → A6 → A7 → A8 → Nat) (hs : ∀ (n : Nat) (a1 : A1) (a2 : A2) (a3 : A3) (a4 : A4) (a5 : A5) (a6 : A6) (a7 : A7) (a8 : A8), I a1 a2 a3 a4 a5 a6 a7 a8 → (∀ (b1 : A1) (b2 : A2) (b3 : A3) (b4 : A4) (b5 : A5) (b6 : A6) (b7 : A7) (b8 : A8), I b1 b2 b3 b4 b5 b6 b7 b8 → μ b1 b2 b3 b4 b5 b6 b7 b8 < μ a1 a2 a3 a4 a5 a6 a7 a8 → W n b1 b2 b3 b4 b5 b6 b7 b8) → W (n + 1) a1 a2 a3 a4 a5 a6 a7 a8) (a1 : A1) (a2 : A2) (a3 : A3) (a4 : A4) (a5 : A5) (a6 : A6) (a7 : A7) (a8 : A8) (h : I a1 a2 a3 a4 a5 a6 a7 a8) : ∃ n, W n a1 a2 a3 a4 a5 a6 a7 a8 :=
  loop_m (σ := A1 × A2 × A3 × A4 × A5 × A6 × A7 × A8) (fun n s => W n s.1 s.2.1 s.2.2.1 s.2.2.2.1 s.2.2.2.2.1 s.2.2.2.2.2.1 s.2.2.2.2.2.2.1 s.2.2.2.2.2.2.2) (fun s => I s.1 s.2.1 s.2.2.1 s.2.2.2.1 s.2.2.2.2.1 s.2.2.2.2.2.1 s.2.2.2.2.2.2.1 s.2.2.2.2.2.2.2) (fun s => μ s.1 s.2.1 s.2.2.1 s.2.2.2.1 s.2.2.2.2.1 s.2.2.2.2.2.1 s.2.2.2.2.2.2.1 s.2.2.2.2.2.2.2) (fun n s hI hk => hs n s.1 s.2.1 s.2.2.1 s.2.2.2.1 s.2.2.2.2.1 s.2.2.2.2.2.1 s.2.2.2.2.2.2.1 s.2.2.2.2.2.2.2 hI (fun b1 b2 b3 b4 b5 b6 b7 b8 h9 hm => hk (b1, b2, b3, b4, b5, b6, b7, b8) h9 hm)) (a1, a2, a3, a4, a5, a6, a7, a8) h
theorem lp9 {A1 A2 A3 A4 A5 A6 A7 A8 A9 : Type} (W : Nat → A1 → A2 → A3 → A4 → A5 → A6 → A7 → A8 → A9 → Prop) (I : A1 → A2 → A3 → A4 → A5 → A6 → A7 → A8 → A9 → Prop) (μ : A1 → A2 → A3 → A4 → A5 → A6 → A7 → A8 → A9 → Nat) (hs : ∀ (n : Nat) (a1 : A1) (a2 : A2) (a3 : A3) (a4 : A4) (a5 : A5) (a6 : A6) (a7 : A7) (a8 : A8) (a9 : A9), I a1 a2 a3 a4 a5 a6 a7 a8 a9 → (∀ (b1 : A1) (b2 : A2) (b3 : A3) (b4 : A4) (b5 : A5) (b6 : A6) (b7 : A7) (b8 : A8) (b9 : A9), I b1 b2 b3 b4 b5 b6 b7 b8 b9 → μ b1 b2 b3 b4 b5 b6 b7 b8 b9 < μ a1 a2 a3 a4 a5 a6 a7 a8 a9 → W n b1 b2 b3 b4 b5 b6 b7 b8 b9) → W (n + 1) a1 a2 a3 a4 a5 a6 a7 a8 a9) (a1 : A1) (a2 : A2) (a3 : A3) (a4 : A4) (a5 : A5) (a6 : A6) (a7 : A7) (a8 : A8) (a9 : A9) (h : I a1 a2 a3 a4 a5 a6 a7 a8 a9) : ∃ n, W n a1 a2 a3 a4 a5 a6 a7 a8 a9 :=
  loop_m (σ := A1 × A2 × A3 × A4 × A5 × A6 × A7 × A8 × A9) (fun n s => W n s.1 s.2.1 s.2.2.1 s.2.2.2.1 s.2.2.2.2.1 s.2.2.2.2.2.1 s.2.2.2.2.2.2.1 s.2.2.2.2.2.2.2.1 s.2.2.2.2.2.2.2.2) (fun s => I s.1 s.2.1 s.2.2.1 s.2.2.2.1 s.2.2.2.2.1 s.2.2.2.2.2.1 s.2.2.2.2.2.2.1 s.2.2.2.2.2.2.2.1 s.2.2.2.2.2.2.2.2) (fun s => μ s.1 s.2.1 s.2.2.1 s.2.2.2.1 s.2.2.2.2.1 s.2.2.2.2.2.1 s.2.2.2.2.2.2.1 s.2.2.2.2.2.2.2.1 s.2.2.2.2.2.2.2.2) (fun n s hI hk => hs n s.1 s.2.1 s.2.2.1 s.2.2.2.1 s.2.2.2.2.1 s.2.2.2.2.2.1 s.2.2.2.2.2.2.1 s.2.2.2.2.2.2.2.1 s.2.2.2.2.2.2.2.2 hI (fun b1 b2 b3 b4 b5 b6 b7 b8 b9 h9 hm => hk (b1, b2, b3, b4, b5, b6, b7, b8, b9) h9 hm)) (a1, a2, a3, a4, a5, a6, a7, a8, a9) h
theorem lp10 {A1 A2 A3 A4 A5 A6 A7 A8 A9 A10 : Type} (W : Nat → A1 → A2 → A3 → A4 → A5 → A6 → A7 → A8 → A9 → A10 → Prop) (I : A1 → A2 → A3 → A4 → A5 → A6 → A7 → A8 → A9 → A10 → Prop) (μ : A1 → A2 → A3 → A4 → A5 → A6 → A7 → A8 → A9 → A10 → Nat) (hs : ∀ (n : Nat) (a1 : A1) (a2 : A2) (a3 : A3) (a4 : A4) (a5 : A5) (a6 : A6) (a7 : A7) (a8 : A8) (a9 : A9) (a10 : A10), I a1 a2 a3 a4 a5 a6 a7 a8 a9 a10 → (∀ (b1 : A1) (b2 : A2) (b3 : A3) (b4 : A4) (b5 : A5) (b6 : A6) (b7 : A7) (b8 : A8) (b9 : A9) (b10 : A10), I b1 b2 b3 b4 b5 b6 b7 b8 b9 b10 → μ b1 b2 b3 b4 b5 b6 b7 b8 b9 b10 < μ a1 a2 a3 a4 a5 a6 a7 a8 a9 a10 → W n b1 b2 b3 b4 b5 b6 b7 b8 b9 b10) → W (n + 1) a1 a2 a3 a4 a5 a6 a7 a8 a9 a10) (a1 : A1) (a2 : A2) (a3 : A3) (a4 : A4) (a5 : A5) (a6 : A6) (a7 : A7) (a8 : A8) (a9 : A9) (a10 : A10) (h : I a1 a2 a3 a4 a5 a6 a7 a8 a9 a10) : ∃ n, W n a1 a2 a3 a4 a5 a6 a7 a8 a9 a10 :=
  loop_m (σ := A1 × A2 × A3 × A4 × A5 × A6 × A7 × A8 × A9 × A10) (fun n s => W n s.1 s.2.1 s.2.2.1 s.2.2.2.1 s.2.2.2.2.1 s.2.2.2.2.2.1 s.2.2.2.2.2.2.1 s.2.2.2.2.2.2.2.1 s.2.2.2.2.2.2.2.2.1 s.2.2.2.2.2.2.2.2.2) (fun s => I s.1 s.2.1 s.2.2.1 s.2.2.2.1 s.2.2.2.2.1 s.2.2.2.2.2.1 s.2.2.2.2.2.2.1 s.2.2.2.2.2.2.2.1 s.2.2.2.2.2.2.2.2.1 s.2.2.2.2.2.2.2.2.2) (fun s => μ s.1 s.2.1 s.2.2.1 s.2.2.2.1 s.2.2.2.2.1 s.2.2.2.2.2.1 s.2.2.2.2.2.2.1 s.2.2.2.2.2.2.2.1 s.2.2.2.2.2.2.2.2.1 s.2.2.2.2.2.2.2.2.2) (fun n s hI hk => hs n s.1 s.2.1 s.2.2.1 s.2.2.2.1 s.2.2.2.2.1 s.2.2.2.2.2.1 s.2.2.2.2.2.2.1 s.2.2.2.2.2.2.2.1 s.2.2.2.2.2.2.2.2.1 s.2.2.2.2.2.2.2.2.2 hI (fun b1 b2 b3 b4 b5 b6 b7 b8 b9 b10 h9 hm => hk (b1, b2, b3, b4, b5, b6, b7, b8, b9, b10) h9 hm)) (a1, a2, a3, a4, a5, a6, a7, a8, a9, a10) h
theorem lp11 {A1 A2 A3 A4 A5 A6 A7 A8 A9 A10 A11 : Type} (W : Nat → A1 → A2 → A3 → A4 → A5 → A6 → A7 → A8 → A9 → A10 → A11 → Prop) (I : A1 → A2 → A3 → A4 → A5 → A6 → A7 → A8 → A9 → A10 → A11 → Prop) (μ : A1 → A2 → A3 → A4 → A5 → A6 → A7 → A8 → A9 → A10 → A11 → Nat) (hs : ∀ (n : Nat) (a1 : A1) (a2 : A2) (a3 : A3) (a4 : A4) (a5 : A5) (a6 : A6) (a7 : A7) (a8 : A8) (a9 : A9) (a10 : A10) (a11 : A11), I a1 a2 a3 a4 a5 a6 a7 a8 a9 a10 a11 → (∀ (b1 : A1) (b2 : A2) (b3 : A3) (b4 : A4) (b5 : A5) (b6 : A6) (b7 : A7) (b8 : A8) (b9 : A9) (b10 : A10) (b11 : A11), I b1 b2 b3 b4 b5 b6 b7 b8 b9 b10 b11 → μ b1 b2 b3 b4 b5 b6 b7 b8 b9 b10 b11 < μ a1 a2 a3 a4 a5 a6 a7 a8 a9 a10 a11 → W n b1 b2 b3 b4 b5 b6 b7 b8 b9 b10 b11) → W (n + 1) a1 a2 a3 a4 a5 a6 a7 a8 a9 a10 a11) (a1 : A1) (a2 : A2) (a3 : A3) (a4 : A4) (a5 : A5) (a6 : A6) (a7 : A7) (a8 : A8) (a9 : A9) (a10 : A10) (a11 : A11) (h : I a1 a2 a3 a4 a5 a6 a7 a8 a9 a10 a11) : ∃ n, W n a1 a2 a3 a4 a5 a6 a7 a8 a9 a10 a11 :=
  loop_m (σ := A1 × A2 × A3 × A4 × A5 × A6 × A7 × A8 × A9 × A10 × A11) (fun n s => W n s.1 s.2.1 s.2.2.1 s.2.2.2.1 s.2.2.2.2.1 s.2.2.2.2.2.1 s.2.2.2.2.2.2.1 s.2.2.2.2.2.2.2.1 s.2.2.2.2.2.2.2.2.1 s.2.2.2.2.2.2.2.2.2.1 s.2.2.2.2.2.2.2.2.2.2) (fun s => I s.1 s.2.1 s.2.2.1 s.2.2.2.1 s.2.2.2.2.1 s.2.2.2.2.2.1 s.2.2.2.2.2.2.1 s.2.2.2.2.2.2.2.1 s.2.2.2.2.2.2.2.2.1 s.2.2.2.2.2.2.2.2.2.1 s.2.2.2.2.2.2.2.2.2.2) (fun s => μ s.1 s.2.1 s.2.2.1 s.2.2.2.1 s.2.2.2.2.1 s.2.2.2.2.2.1 s.2.2.2.2.2.2.1 s.2.2.2.2.2.2.2.1 s.2.2.2.2.2.2.2.2.1 s.2.2.2.2.2.2.2.2.2.1 s.2.2.2.2.2.2.2.2.2.2) (fun n s hI hk => hs n s.1 s.2.1 s.2.2.1 s.2.2.2.1 s.2.2.2.2.1 s.2.2.2.2.2.1 s.2.2.2.2.2.2.1 s.2.2.2.2.2.2.2.1 s.2.2.2.2.2.2.2.2.1 s.2.2.2.2.2.2.2.2.2.1 s.2.2.2.2.2.2.2.2.2.2 hI (fun b1 b2 b3 b4 b5 b6 b7 b8 b9 b10 b11 h9 hm => hk (b1, b2, b3, b4, b5, b6, b7, b8, b9, b10, b11) h9 hm)) (a1, a2, a3, a4, a5, a6, a7, a8, a9, a10, a11) h
theorem lp12 {A1 A2 A3 A4 A5 A6 A7 A8 A9 A10 A11 A12 : Type} (W : Nat → A1 → A2 → A3 → A4 → A5 → A6 → A7 → A8 → A9 → A10 → A11 → A12 → Prop) (I : A1 → A2 → A3 → A4 → A5 → A6 → A7 → A8 → A9 → A10 → A11 → A12 → Prop) (μ : A1 → A2 → A3 → A4 → A5 → A6 → A7 → A8 → A9 → A10 → A11 → A12 → Nat) (hs : ∀ (n : Nat) (a1 : A1) (a2 : A2) (a3 : A3) (a4 : A4) (a5 : A5) (a6 : A6) (a7 : A7) (a8 : A8) (a9 : A9) (a10 : A10) (a11 : A11) (a12 : A12), I a1 a2 a3 a4 a5 a6 a7 a8 a9 a10 a11 a12 → (∀ (b1 : A1) (b2 : A2) (b3 : A3) (b4 : A4) (b5 : A5) (b6 : A6) (b7 : A7) (b8 : A8) (b9 : A9) (b10 : A10) (b11 : A11) (b12 : A12), I b1 b2 b3 b4 b5 b6 b7 b8 b9 b10 b11 b12 → μ b1 b2 b3 b4 b5 b6 b7 b8 b9 b10 b11 b12 < μ a1 a2 a3 a4 a5 a6 a7 a8 a9 a10 a11 a12 → W n b1 b2 b3 b4 b5 b6 b7 b8 b9 b10 b11 b12) → W (n + 1) a1 a2 a3 a4 a5 a6 a7 a8 a9 a10 a11 a12) (a1 : A1) (a2 : A2) (a3 : A3) (a4 : A4) (a5 : A5) (a6 : A6) (a7 : A7) (a8 : A8) (a9 : A9) (a10 : A10) (a11 : A11) (a12 : A12) (h : I a1 a2 a3 a4 a5 a6 a7 a8 a9 a10 a11 a12) : ∃ n, W n a1 a2 a3 a4 a5 a6 a7 a8 a9 a10 a11 a12 :=
  loop_m (σ := A1 × A2 × A3 × A4 × A5 × A6 × A7 × A8 × A9 × A10 × A11 × A12) (fun n s => W n s.1 s.2.1 s.2.2.1 s.2.2.2.1 s.2.2.2.2.1 s.2.2.2.2.2.1 s.2.2.2.2.2.2.1 s.2.2.2.2.2.2.2.1 s.2.2.2.2.2.2.2.2.1 s.2.2.2.2.2.2.2.2.2.1 s.2.2.2.2.2.2.2.2.2.2.1 s.2.2.2.2.2.2.2.2.2.2.2) (fun s => I s.1 s.2.1 s.2.2.1 s.2.2.2.1 s.2.2.2.2.1 s.2.2.2.2.2.1 s.2.2.2.2.2.2.1 s.2.2.2.2.2.2.2.1 s.2.2.2.2.2.2.2.2.1 s.2.2.2.2.2.2.2.2.2.1 s.2.2.2.2.2.2.2.2.2.2.1 s.2.2.2.2.2.2.2.2.2.2.2) (fun s => μ s.1 s.2.1 s.2.2.1 s.2.2.2.1 s.2.2.2.2.1 s.2.2.2.2.2.1 s.2.2.2.2.2.2.1 s.2.2.2.2.2.2.2.1 s.2.2.2.2.2.2.2.2.1 s.2.2.2.2.2.2.2.2.2.1 s.2.2.2.2.2.2.2.2.2.2.1 s.2.2.2.2.2.2.2.2.2.2.2) (fun n s hI hk => hs n s.1 s.2.1 s.2.2.1 s.2.2.2.1 s.2.2.2.2.1 s.2.2.2.2.2.1 s.2.2.2.2.2.2.1 s.2.2.2.2.2.2.2.1 s.2.2.2.2.2.2.2.2.1 s.2.2.2.2.2.2.2.2.2.1 s.2.2.2.2.2.2.2.2.2.2.1 s.2.2.2.2.2.2.2.2.2.2.2 hI (fun b1 b2 b3 b4 b5 b6 b7 b8 b9 b10 b11 b12 h9 hm => hk (b1, b2, b3, b4, b5, b6, b7, b8, b9, b10, b11, b12) h9 hm)) (a1, a2, a3, a4, a5, a6, a7, a8, a9, a10, a11, a12) h
theorem lp13 {A1 A2 A3 A4 A5 A6 A7 A8 A9 A10 A11 A12 A13 : Type} (W : Nat → A1 → A2 → A3 → A4 → A5 → A6 → A7 → A8 → A9 → A10 → A11 → A12 → A13 → Prop) (I : A1 → A2 → A3 → A4 → A5 → A6 → A7 → A8 → A9 → A10 → A11 → A12 → A13 → Prop) (μ : A1 → A2 → A3 → A4 → A5 → A6 → A7 → A8 → A9 → A10 → A11 → A12 → A13 → Nat) (hs : ∀ (n : Nat) (a1 : A1) (a2 : A2) (a3 : A3) (a4 : A4) (a5 : A5) (a6 : A6) (a7 : A7) (a8 : A8) (a9 : A9) (a10 : A10) (a11 : A11) (a12 : A12) (a13 : A13), I a1 a2 a3 a4 a5 a6 a7 a8 a9 a10 a11 a12 a13 → (∀ (b1 : A1) (b2 : A2) (b3 : A3) (b4 : A4) (b5 : A5) (b6 : A6) (b7 : A7) (b8 : A8) (b9 : A9) (b10 : A10) (b11 : A11) (b12 : A12) (b13 : A13), I b1 b2 b3 b4 b5 b6 b7 b8 b9 b10 b11 b12 b13 → μ b1 b2 b3 b4 b5 b6 b7 b8 b9 b10 b11 b12 b13 < μ a1 a2 a3 a4 a5 a6 a7 a8 a9 a10 a11 a12 a13 → W n b1 b2 b3 b4 b5 b6 b7 b8 b9 b10 b11 b12 b13) → W (n + 1) a1 a2 a3 a4 a5 a6 a7 a8 a9 a10 a11 a12 a13) (a1 : A1) (a2 : A2) (a3 : A3) (a4 : A4) (a5 : A5) (a6 : A6) (a7 : A7) (a8 : A8) (a9 : A9) (a10 : A10) (a11 : A11) (a12 : A12) (a13 : A13) (h : I a1 a2 a3 a4 a5 a6 a7 a8 a9 a10 a11 a12 a13) : ∃ n, W n a1 a2 a3 a4 a5 a6 a7 a8 a9 a10 a11 a12 a13 :=
  loop_m (σ := A1 × A2 × A3 × A4 × A5 × A6 × A7 × A8 × A9 × A10 × A11 × A12 × A13) (fun n s => W n s.1 s.2.1 s.2.2.1 s.2.2.2.1 s.2.2.2.2.1 s.2.2.2.2.2.1 s.2.2.2.2.2.2.1 s.2.2.2.2.2.2.2.1 s.2.2.2.2.2.2.2.2.1 s.2.2.2.2.2.2.2.2.2.1 s.2.2.2.2.2.2.2.2.2.2.1 s.2.2.2.2.2.2.2.2.2.2.2.1 s.2.2.2.2.2.2.2.2.2.2.2.2) (fun s => I s.1 s.2.1 s.2.2.1 s.2.2.2.1 s.2.2.2.2.1 s.2.2.2.2.2.1 s.2.2.2.2.2.2.1 s.2.2.2.2.2.2.2.1 s.2.2.2.2.2.2.2.2.1 s.2.2.2.2.2.2.2.2.2.1 s.2.2.2.2.2.2.2.2.2.2.1 s.2.2.2.2.2.2.2.2.2.2.2.1 s.2.2.2.2.2.2.2.2.2.2.2.2) (fun s => μ s.1 s.2.1 s.2.2.1 s.2.2.2.1 s.2.2.2.2.1 s.2.2.2.2.2.1 s.2.2.2.2.2.2.1 s.2.2.2.2.2.2.2.1 s.2.2.2.2.2.2.2.2.1 s.2.2.2.2.2.2.2.2.2.1 s.2.2.2.2.2.2.2.2.2.2.1 s.2.2.2.2.2.2.2.2.2.2.2.1 s.2.2.2.2.2.2.2.2.2.2.2.2) (fun n s hI hk => hs n s.1 s.2.1 s.2.2.1 s.2.2.2.1 s.2.2.2.2.1 s.2.2.2.2.2.1 s.2.2.2.2.2.2.1 s.2.2.2.2.2.2.2.1 s.2.2.2.2.2.2.2.2.1 s.2.2.2.2.2.2.2.2.2.1 s.2.2.2.2.2.2.2.2.2.2.1 s.2.2.2.2.2.2.2.2.2.2.2.1 s.2.2.2.2.2.2.2.2.2.2.2.2 hI (fun b1 b2 b3 b4 b5 b6 b7 b8 b9 b10 b11 b12 b13 h9 hm => hk (b1, b2, b3, b4, b5, b6, b7, b8, b9, b10, b11, b12, b13) h9 hm)) (a1, a2, a3, a4, a5, a6, a7, a8, a9, a10, a11, a12, a13) h
theorem lp14 {A1 A2 A3 A4 A5 A6 A7 A8 A9 A10 A11 A12 A13 A14 : Type} (W : Nat → A1 → A2 → A3 → A4 → A5 → A6 → A7 → A8 → A9 → A10 → A11 → A12 → A13 → A14 → Prop) (I : A1 → A2 → A3 → A4 → A5 → A6 → A7 → A8 → A9 → A10 → A11 → A12 → A13 → A14 → Prop) (μ : A1 → A2 → A3 → A4 → A5 → A6 → A7 → A8 → A9 → A10 → A11 → A12 → A13 → A14 → Nat) (hs : ∀ (n : Nat) (a1 : A1) (a2 : A2) (a3 : A3) (a4 : A4) (a5 : A5) (a6 : A6) (a7 : A7) (a8 : A8) (a9 : A9) (a10 : A10) (a11 : A11) (a12 : A12) (a13 : A13) (a14 : A14), I a1 a2 a3 a4 a5 a6 a7 a8 a9 a10 a11 a12 a13 a14 → (∀ (b1 : A1) (b2 : A2) (b3 : A3) (b4 : A4) (b5 : A5) (b6 : A6) (b7 : A7) (b8 : A8) (b9 : A9) (b10 : A10) (b11 : A11) (b12 : A12) (b13 : A13) (b14 : A14), I b1 b2 b3 b4 b5 b6 b7 b8 b9 b10 b11 b12 b13 b14 → μ b1 b2 b3 b4 b5 b6 b7 b8 b9 b10 b11 b12 b13 b14 < μ a1 a2 a3 a4 a5 a6 a7 a8 a9 a10 a11 a12 a13 a14 → W n b1 b2 b3 b4 b5 b6 b7 b8 b9 b10 b11 b12 b13 b14) → W (n + 1) a1 a2 a3 a4 a5 a6 a7 a8 a9 a10 a11 a12 a13 a14) (a1 : A1) (a2 : A2) (a3 : A3) (a4 : A4) (a5 : A5) (a6 : A6) (a7 : A7) (a8 : A8) (a9 : A9) (a10 : A10) (a11 : A11) (a12 : A12) (a13 : A13) (a14 : A14) (h : I a1 a2 a3 a4 a5 a6 a7 a8 a9 a10 a11 a12 a13 a14) : ∃ n, W n a1 a2 a3 a4 a5 a6 a7 a8 a9 a10 a11 a12 a13 a14 :=
  loop_m (σ := A1 × A2 × A3 × A4 × A5 × A6 × A7 × A8 × A9 × A10 × A11 × A12 × A13 × A14) (fun n s => W n s.1 s.2.1 s.2.2.1 s.2.2.2.1 s.2.2.2.2.1 s.2.2.2.2.2.1 s.2.2.2.2.2.2.1 s.2.2.2.2.2.2.2.1 s.2.2.2.2.2.2.2.2.1 s.2.2.2.2.2.2.2.2.2.1 s.2.2.2.2.2.2.2.2.2.2.1 s.2.2.2.2.2.2.2.2.2.2.2.1 s.2.2.2.2.2.2.2.2.2.2.2.2.1 s.2.2.2.2.2.2.2.2.2.2.2.2.2) (fun s => I s.1 s.2.1 s.2.2.1 s.2.2.2.1 s.2.2.2.2.1 s.2.2.2.2.2.1 s.2.2.2.2.2.2.1 s.2.2.2.2.2.2.2.1 s.2.2.2.2.2.2.2.2.1 s.2.2.2.2.2.2.2.2.2.1 s.2.2.2.2.2.2.2.2.2.2.1 s.2.2.2.2.2.2.2.2.2.2.2.1 s.2.2.2.2.2.2.2.2.2.2.2.2.1 s.2.2.2.2.2.2.2.2.2.2.2.2.2) (fun s => μ s.1 s.2.1 s.2.2.1 s.2.2.2.1 s.2.2.2.2.1 s.2.2.2.2.2.1 s.2.2.2.2.2.2.1 s.2.2.2.2.2.2.2.1 s.2.2.2.2.2.2.2.2.1 s.2.2.2.2.2.2.2.2.2.1 s.2.2.2.2.2.2.2.2.2.2.1 s.2.2.2.2.2.2.2.2.2.2.2.1 s.2.2.2.2.2.2.2.2.2.2.2.2.1 s.2.2.2.2.2.2.2.2.2.2.2.2.2) (fun n s hI hk => hs n s.1 s.2.1 s.2.2.1 s.2.2.2.1 s.2.2.2.2.1 s.2.2.2.2.2.1 s.2.2.2.2.2.2.1 s.2.2.2.2.2.2.2.1 s.2.2.2.2.2.2.2.2.1 s.2.2.2.2.2.2.2.2.2.1 s.2.2.2.2.2.2.2.2.2.2.1 s.2.2.2.2.2.2.2.2.2.2.2.1 s.2.2.2.2.2.2.2.2.2.2.2.2.1 s.2.2.2.2.2.2.2.2.2.2.2.2.2 hI (fun b1 b2 b3 b4 b5 b6 b7 b8 b9 b10 b11 b12 b13 b14 h9 hm => hk (b1, b2, b3, b4, b5, b6, b7, b8, b9, b10, b11, b12, b13, b14) h9 hm)) (a1, a2, a3, a4, a5, a6, a7, a8, a9, a10, a11, a12, a13, a14) h
theorem lp15 {A1 A2 A3 A4 A5 A6 A7 A8 A9 A10 A11 A12 A13 A14 A15 : Type} (W : Nat → A1 → A2 → A3 → A4 → A5 → A6 → A7 → A8 → A9 → A10 → A11 → A12 → A13 → A14 → A15 → Prop) (I : A1 → A2 → A3 → A4 → A5 → A6 → A7 → A8 → A9 → A10 → A11 → A12 → A13 → A14 → A15 → Prop) (μ : A1 → A2 → A3 → A4 → A5 → A6 → A7 → A8 → A9 → A10 → A11 → A12 → A13 → A14 → A15 → Nat) (hs : ∀ (n : Nat) (a1 : A1) (a2 : A2) (a3 : A3) (a4 : A4) (a5 : A5) (a6 : A6) (a7 : A7) (a8 : A8) (a9 : A9) (a10 : A10) (a11 : A11) (a12 : A12) (a13 : A13) (a14 : A14) (a15 : A15), I a1 a2 a3 a4 a5 a6 a7 a8 a9 a10 a11 a12 a13 a14 a15 → (∀ (b1 : A1) (b2 : A2) (b3 : A3) (b4 : A4) (b5 : A5) (b6 : A6) (b7 : A7) (b8 : A8) (b9 : A9) (b10 : A10) (b11 : A11) (b12 : A12) (b13 : A13) (b14 : A14) (b15 : A15), I b1 b2 b3 b4 b5 b6 b7 b8 b9 b10 b11 b12 b13 b14 b15 → μ b1 b2 b3 b4 b5 b6 b7 b8 b9 b10 b11 b12 b13 b14 b15 < μ a1 a2 a3 a4 a5 a6 a7 a8 a9 a10 a11 a12 a13 a14 a15 → W n b1 b2 b3 b4 b5 b6 b7 b8 b9 b10 b11 b12 b13 b14 b15) → W (n + 1) a1 a2 a3 a4 a5 a6 a7 a8 a9 a10 a11 a12 a13 a14 a15) (a1 : A1) (a2 : A2) (a3 : A3) (a4 : A4) (a5 : A5) (a6 : A6) (a7 : A7) (a8 : A8) (a9 : A9) (a10 : A10) (a11 : A11) (a12 : A12) (a13 : A13) (a14 : A14) (a15 : A15) (h : I a1 a2 a3 a4 a5 a6 a7 a8 a9 a10 a11 a12 a13 a14 a15) : ∃ n, W n a1 a2 a3 a4 a5 a6 a7 a8 a9 a10 a11 a12 a13 a14 a15 :=
  loop_m (σ := A1 × A2 × A3 × A4 × A5 × A6 × A7 × A8 × A9 × A10 × A11 × A12 × A13 × A14 × A15) (fun n s => W n s.1 s.2.1 s.2.2.1 s.2.2.2.1 s.2.2.2.2.1 s.2.2.2.2.2.1 s.2.2.2.2.2.2.1 s.2.2.2.2.2.2.2.1 s.2.2.2.2.2.2.2.2.1 s.2.2.2.2.2.2.2.2.2.1 s.2.2.2.2.2.2.2.2.2.2.1 s.2.2.2.2.2.2.2.2.2.2.2.1 s.2.2.2.2.2.2.2.2.2.2.2.2.1 s.2.2.2.2.2.2.2.2.2.2.2.2.2.1 s.2.2.2.2.2.2.2.2.2.2.2.2.2.2) (fun s => I s.1 s.2.1 s.2.2.1 s.2.2.2.1 s.2.2.2.2.1 s.2.2.2.2.2.1 s.2.2.2.2.2.2.1 s.2.2.2.2.2.2.2.1 s.2.2.2.2.2.2.2.2.1 s.2.2.2.2.2.2.2.2.2.1 s.2.2.2.2.2.2.2.2.2.2.1 s.2.2.2.2.2.2.2.2.2.2.2.1 s.2.2.2.2.2.2.2.2.2.2.2.2.1 s.2.2.2.2.2.2.2.2.2.2.2.2.2.1 s.2.2.2.2.2.2.2.2.2.2.2.2.2.2) (fun s => μ s.1 s.2.1 s.2.2.1 s.2.2.2.1 s.2.2.2.2.1 s.2.2.2.2.2.1 s.2.2.2.2.2.2.1 s.2.2.2.2.2.2.2.1 s.2.2.2.2.2.2.2.2.1 s.2.2.2.2.2.2.2.2.2.1 s.2.2.2.2.2.2.2.2.2.2.1 s.2.2.2.2.2.2.2.2.2.2.2.1 s.2.2.2.2.2.2.2.2.2.2.2.2.1 s.2.2.2.2.2.2.2.2.2.2.2.2.2.1 s.2.2.2.2.2.2.2.2.2.2.2.2.2.2) (fun n s hI hk => hs n s.1 s.2.1 s.2.2.1 s.2.2.2.1 s.2.2.2.2.1 s.2.2.2.2.2.1 s.2.2.2.2.2.2.1 s.2.2.2.2.2.2.2.1 s.2.2.2.2.2.2.2.2.1 s.2.2.2.2.2.2.2.2.2.1 s.2.2.2.2.2.2.2.2.2.2.1 s.2.2.2.2.2.2.2.2.2.2.2.1 s.2.2.2.2.2.2.2.2.2.2.2.2.1 s.2.2.2.2.2.2.2.2.2.2.2.2.2.1 s.2.2.2.2.2.2.2.2.2.2.2.2.2.2 hI (fun b1 b2 b3 b4 b5 b6 b7 b8 b9 b10 b11 b12 b13 b14 b15 h9 hm => hk (b1, b2, b3, b4, b5, b6, b7, b8, b9, b10, b11, b12, b13, b14, b15) h9 hm)) (a1, a2, a3, a4, a5, a6, a7, a8, a9, a10, a11, a12, a13, a14, a15) h
theorem lp16 {A1 A2 A3 A4 A5 A6 A7 A8 A9 A10 A11 A12 A13 A14 A15 A16 : Type} (W : Nat → A1 → A2 → A3 → A4 → A5 → A6 → A7 → A8 → A9 → A10 → A11 → A12 → A13 → A14 → A15 → A16 → Prop) (I : A1 → A2 → A3 → A4 → A5 → A6 → A7 → A8 → A9 → A10 → A11 → A12 → A13 → A14 → A15 → A16 → Prop) (μ : A1 → A2 → A3 → A4 → A5 → A6 → A7 → A8 → A9 → A10 → A11 → A12 → A13 → A14 → A15 → A16 → Nat) (hs : ∀ (n : Nat) (a1 : A1) (a2 : A2) (a3 : A3) (a4 : A4) (a5 : A5) (a6 : A6) (a7 : A7) (a8 : A8) (a9 : A9) (a10 : A10) (a11 : A11) (a12 : A12) (a13 : A13) (a14 : A14) (a15 : A15) (a16 : A16), I a1 a2 a3 a4 a5 a6 a7 a8 a9 a10 a11 a12 a13 a14 a15 a16 → (∀ (b1 : A1) (b2 : A2) (b3 : A3) (b4 : A4) (b5 : A5) (b6 : A6) (b7 : A7) (b8 : A8) (b9 : A9) (b10 : A10) (b11 : A11) (b12 : A12) (b13 : A13) (b14 : A14) (b15 : A15) (b16 : A16), I b1 b2 b3 b4 b5 b6 b7 b8 b9 b10 b11 b12 b13 b14 b15 b16 → μ b1 b2 b3 b4 b5 b6 b7 b8 b9 b10 b11 b12 b13 b14 b15 b16 < μ a1 a2 a3 a4 a5 a6 a7 a8 a9 a10 a11 a12 a13 a14 a15 a16 → W n b1 b2 b3 b4 b5 b6 b7 b8 b9 b10 b11 b12 b13 b14 b15 b16) → W (n + 1) a1 a2 a3 a4 a5 a6 a7 a8 a9 a10 a11 a12 a13 a14 a15 a16) (a1 : A1) (a2 : A2) (a3 : A3) (a4 : A4) (a5 : A5) (a6 : A6) (a7 : A7) (a8 : A8) (a9 : A9) (a10 : A10) (a11 : A11) (a12 : A12) (a13 : A13) (a14 : A14) (a15 : A15) (a16 : A16) (h : I a1 a2 a3 a4 a5 a6 a7 a8 a9 a10 a11 a12 a13 a14 a15 a16) : ∃ n, W n a1 a2 a3 a4 a5 a6 a7 a8 a9 a10 a11 a12 a13 a14 a15 a16 :=
  loop_m (σ := A1 × A2 × A3 × A4 × A5 × A6 × A7 × A8 × A9 × A10 × A11 × A12 × A13 × A14 × A15 × A16) (fun n s => W n s.1 s.2.1 s.2.2.1 s.2.2.2.1 s.2.2.2.2.1 s.2.2.2.2.2.1 s.2.2.2.2.2.2.1 s.2.2.2.2.2.2.2.1 s.2.2.2.2.2.2.2.2.1 s.2.2.2.2.2.2.2.2.2.1 s.2.2.2.2.2.2.2.2.2.2.1 s.2.2.2.2.2.2.2.2.2.2.2.1 s.2.2.2.2.2.2.2.2.2.2.2.2.1 s.2.2.2.2.2.2.2.2.2.2.2.2.2.1 s.2.2.2.2.2.2.2.2.2.2.2.2.2.2.1 s.2.2.2.2.2.2.2.2.2.2.2.2.2.2.2) (fun s => I s.1 s.2.1 s.2.2.1 s.2.2.2.1 s.2.2.2.2.1 s.2.2.2.2.2.1 s.2.2.2.2.2.2.1 s.2.2.2.2.2.2.2.1 s.2.2.2.2.2.2.2.2.1 s.2.2.2.2.2.2.2.2.2.1 s.2.2.2.2.2.2.2.2.2.2.1 s.2.2.2.2.2.2.2.2.2.2.2.1 s.2.2.2.2.2.2.2.2.2.2.2.2.1 s.2.2.2.2.2.2.2.2.2.2.2.2.2.1 s.2.2.2.2.2.2.2.2.2.2.2.2.2.2.1 s.2.2.2.2.2.2.2.2.2.2.2.2.2.2.2) (fun s => μ s.1 s.2.1 s.2.2.1 s.2.2.2.1 s.2.2.2.2.1 s.2.2.2.2.2.1 s.2.2.2.2.2.2.1 s.2.2.2.2.2.2.2.1 s.2.2.2.2.2.2.2.2.1 s.2.2.2.2.2.2.2.2.2.1 s.2.2.2.2.2.2.2.2.2.2.1 s.2.2.2.2.2.2.2.2.2.2.2.1 s.2.2.2.2.2.2.2.2.2.2.2.2.1 s.2.2.2.2.2.2.2.2.2.2.2.2.2.1 s.2.2.2.2.2.2.2.2.2.2.2.2.2.2.1 s.2.2.2.2.2.2.2.2.2.2.2.2.2.2.2) (fun n s hI hk => hs n s.1 s.2.1 s.2.2.1 s.2.2.2.1 s.2.2.2.2.1 s.2.2.2.2.2.1 s.2.2.2.2.2.2.1 s.2.2.2.2.2.2.2.1 s.2.2.2.2.2.2.2.2.1 s.2.2.2.2.2.2.2.2.2.1 s.2.2.2.2.2.2.2.2.2.2.1 s.2.2.2.2.2.2.2.2.2.2.2.1 s.2.2.2.2.2.2.2.2.2.2.2.2.1 s.2.2.2.2.2.2.2.2.2.2.2.2.2.1 s.2.2.2.2.2.2.2.2.2.2.2.2.2.2.1 s.2.2.2.2.2.2.2.2.2.2.2.2.2.2.2 hI (fun b1 b2 b3 b4 b5 b6 b7 b8 b9 b10 b11 b12 b13 b14 b15 b16 h9 hm => hk (b1, b2, b3, b4, b5, b6, b7, b8, b9, b10, b11, b12, b13, b14, b15, b16) h9 hm)) (a1, a2, a3, a4, a5, a6, a7, a8, a9, a10, a11, a12, a13, a14, a15, a16) h
theorem pk_least (P : Nat → Prop) (h : ∃ k, P k) : ∃ k, P k ∧ ∀ j, j < k → ¬ P j := by
  obtain ⟨k, hk⟩ := h
  induction k using Nat.strongRecOn with
  | ind k ih =>
    by_cases e : ∃ j, j < k ∧ P j
    · obtain ⟨j, hj, pj⟩ := e
      exact ih j hj pj
    · exact ⟨k, hk, fun j hj pj => e ⟨j, hj, pj⟩⟩
theorem rp1 {ρ A1 : Type} (W : Nat → (ρ → Prop) → A1 → Prop) (ok : A1 → Prop) (μ : A1 → Nat) (val : A1 → ρ)
    (hs : ∀ (d : Nat) (post : ρ → Prop) (a1 : A1), ok a1 → post (val a1) → (∀ (post' : ρ → Prop) (b1 : A1), ok b1 → μ b1 < μ a1 → post' (val b1) → W d post' b1) → W (d + 1) post a1) :
    ∀ (d : Nat) (post : ρ → Prop) (a1 : A1), ok a1 → μ a1 < d → post (val a1) → W d post a1 := by
  intro d
  induction d with
  | zero => intro post a1 _ h; omega
  | succ d ih =>
    intro post a1 ho hm hp
    exact hs d post a1 ho hp (fun post' b1 ho' hm' hp' => ih post' b1 ho' (by omega) hp')
theorem rp2 {ρ A1 A2 : Type} (W : Nat → (ρ → Prop) → A1 → A2 → Prop) (ok : A1 → A2 → Prop) (μ : A1 → A2 → Nat) (val : A1 → A2 → ρ)
    (hs : ∀ (d : Nat) (post : ρ → Prop) (a1 : A1) (a2 : A2), ok a1 a2 → post (val a1 a2) → (∀ (post' : ρ → Prop) (b1 : A1) (b2 : A2), ok b1 b2 → μ b1 b2 < μ a1 a2 → post' (val b1 b2) → W d post' b1 b2) → W (d + 1) post a1 a2) :
    ∀ (d : Nat) (post : ρ → Prop) (a1 : A1) (a2 : A2), ok a1 a2 → μ a1 a2 < d → post (val a1 a2) → W d post a1 a2 := by
  intro d
  induction d with
  | zero => intro post a1 a2 _ h; omega
  | succ d ih =>
    intro post a1 a2 ho hm hp
    exact hs d post a1 a2 ho hp (fun post' b1 b2 ho' hm' hp' => ih post' b1 b2 ho' (by omega) hp')
theorem rp3 {ρ A1 A2 A3 : Type} (W : Nat → (ρ → Prop) → A1 → A2 → A3 → Prop) (ok : A1 → A2 → A3 → Prop) (μ : A1 → A2 → A3 → Nat) (val : A1 → A2 → A3 → ρ)
    (hs : ∀ (d : Nat) (post : ρ → Prop) (a1 : A1) (a2 : A2) (a3 : A3), ok a1 a2 a3 → post (val a1 a2 a3) → (∀ (post' : ρ → Prop) (b1 : A1) (b2 : A2) (b3 : A3), ok b1 b2 b3 → μ b1 b2 b3 < μ a1 a2 a3 → post' (val b1 b2 b3) → W d post' b1 b2 b3) → W (d + 1) post a1 a2 a3) :
    ∀ (d : Nat) (post : ρ → Prop) (a1 : A1) (a2 : A2) (a3 : A3), ok a1 a2 a3 → μ a1 a2 a3 < d → post (val a1 a2 a3) → W d post a1 a2 a3 := by
  intro d
  induction d with
  | zero => intro post a1 a2 a3 _ h; omega
  | succ d ih =>
    intro post a1 a2 a3 ho hm hp
    exact hs d post a1 a2 a3 ho hp (fun post' b1 b2 b3 ho' hm' hp' => ih post' b1 b2 b3 ho' (by omega) hp')
theorem rp4 {ρ A1 A2 A3 A4 : Type} (W : Nat → (ρ → Prop) → A1 → A2 → A3 → A4 → Prop) (ok : A1 → A2 → A3 → A4 → Prop) (μ : A1 → A2 → A3 → A4 → Nat) (val : A1 → A2 → A3 → A4 → ρ)
    (hs : ∀ (d : Nat) (post : ρ → Prop) (a1 : A1) (a2 : A2) (a3 : A3) (a4 : A4), ok a1 a2 a3 a4 → post (val a1 a2 a3 a4) → (∀ (post' : ρ → Prop) (b1 : A1) (b2 : A2) (b3 : A3) (b4 : A4), ok b1 b2 b3 b4 → μ b1 b2 b3 b4 < μ a1 a2 a3 a4 → post' (val b1 b2 b3 b4) → W d post' b1 b2 b3 b4) → W (d + 1) post a1 a2 a3 a4) :
    ∀ (d : Nat) (post : ρ → Prop) (a1 : A1) (a2 : A2) (a3 : A3) (a4 : A4), ok a1 a2 a3 a4 → μ a1 a2 a3 a4 < d → post (val a1 a2 a3 a4) → W d post a1 a2 a3 a4 := by
  intro d
  induction d with
  | zero => intro post a1 a2 a3 a4 _ h; omega
  | succ d ih =>
    intro post a1 a2 a3 a4 ho hm hp
    exact hs d post a1 a2 a3 a4 ho hp (fun post' b1 b2 b3 b4 ho' hm' hp' => ih post' b1 b2 b3 b4 ho' (by omega) hp')
theorem rp5 {ρ A1 A2 A3 A4 A5 : Type} (W : Nat → (ρ → Prop) → A1 → A2 → A3 → A4 → A5 → Prop) (ok : A1 → A2 → A3 → A4 → A5 → Prop) (μ : A1 → A2 → A3 → A4 → A5 → Nat) (val : A1 → A2 → A3 → A4 → A5 → ρ)
    (hs : ∀ (d : Nat) (post : ρ → Prop) (a1 : A1) (a2 : A2) (a3 : A3) (a4 : A4) (a5 : A5), ok a1 a2 a3 a4 a5 → post (val a1 a2 a3 a4 a5) → (∀ (post' : ρ → Prop) (b1 : A1) (b2 : A2) (b3 : A3) (b4 : A4) (b5 : A5), ok b1 b2 b3 b4 b5 → μ b1 b2 b3 b4 b5 < μ a1 a2 a3 a4 a5 → post' (val b1 b2 b3 b4 b5) → W d post' b1 b2 b3 b4 b5) → W (d + 1) post a1 a2 a3 a4 a5) :
    ∀ (d : Nat) (post : ρ → Prop) (a1 : A1) (a2 : A2) (a3 : A3) (a4 : A4) (a5 : A5), ok a1 a2 a3 a4 a5 → μ a1 a2 a3 a4 a5 < d → post (val a1 a2 a3 a4 a5) → W d post a1 a2 a3 a4 a5 := by
  intro d
  induction d with
  | zero => intro post a1 a2 a3 a4 a5 _ h; omega
  | succ d ih =>
    intro post a1 a2 a3 a4 a5 ho hm hp
    exact hs d post a1 a2 a3 a4 a5 ho hp (fun post' b1 b2 b3 b4 b5 ho' hm' hp' => ih post' b1 b2 b3 b4 b5 ho' (by omega) hp')
theorem rp6 {ρ A1 A2 A3 A4 A5 A6 : Type} (W : Nat → (ρ → Prop) → A1 → A2 → A3 → A4 → A5 → A6 → Prop) (ok : A1 → A2 → A3 → A4 → A5 → A6 → Prop) (μ : A1 → A2 → A3 → A4 → A5 → A6 → Nat) (val : A1 → A2 → A3 → A4 → A5 → A6 → ρ)
    (hs : ∀ (d : Nat) (post : ρ → Prop) (a1 : A1) (a2 : A2) (a3 : A3) (a4 : A4) (a5 : A5) (a6 : A6), ok a1 a2 a3 a4 a5 a6 → post (val a1 a2 a3 a4 a5 a6) → (∀ (post' : ρ → Prop) (b1 : A1) (b2 : A2) (b3 : A3) (b4 : A4) (b5 : A5) (b6 : A6), ok b1 b2 b3 b4 b5 b6 → μ b1 b2 b3 b4 b5 b6 < μ a1 a2 a3 a4 a5 a6 → post' (val b1 b2 b3 b4 b5 b6) → W d post' b1 b2 b3 b4 b5 b6) → W (d + 1) post a1 a2 a3 a4 a5 a6) :
    ∀ (d : Nat) (post : ρ → Prop) (a1 : A1) (a2 : A2) (a3 : A3) (a4 : A4) (a5 : A5) (a6 : A6), ok a1 a2 a3 a4 a5 a6 → μ a1 a2 a3 a4 a5 a6 < d → post (val a1 a2 a3 a4 a5 a6) → W d post a1 a2 a3 a4 a5 a6 := by
  intro d
  induction d with
  | zero => intro post a1 a2 a3 a4 a5 a6 _ h; omega
  | succ d ih =>
    intro post a1 a2 a3 a4 a5 a6 ho hm hp
    exact hs d post a1 a2 a3 a4 a5 a6 ho hp (fun post' b1 b2 b3 b4 b5 b6 ho' hm' hp' => ih post' b1 b2 b3 b4 b5 b6 ho' (by omega) hp')
theorem rec_p {σ ρ : Type} (W : Nat → (ρ → Prop) → σ → Prop) (ok : σ → Prop) (μ : σ → Nat) (val : σ → ρ)
    (hs : ∀ d s post, ok s → post (val s) → (∀ s' post', ok s' → μ s' < μ s → post' (val s') → W d post' s') → W (d + 1) post s) :
    ∀ d s post, ok s → μ s < d → post (val s) → W d post s := by
  intro d
  induction d with
  | zero => intro s post _ h; omega
  | succ d ih =>
    intro s post ho hm hp
    exact hs d s post ho hp (fun s' post' ho' hm' hp' => ih s' post' ho' (by omega) hp')
theorem rec_q {σ ρ : Type} (W : Nat → (ρ → Prop) → σ → Prop) (ok : σ → Prop) (μ : σ → Nat) (Q : σ → ρ → Prop)
    (hs : ∀ d s post, ok s → (∀ r, Q s r → post r) → (∀ s' post', ok s' → μ s' < μ s → (∀ r, Q s' r → post' r) → W d post' s') → W (d + 1) post s) :
    ∀ d s post, ok s → μ s < d → (∀ r, Q s r → post r) → W d post s := by
  intro d
  induction d with
  | zero => intro s post _ h; omega
  | succ d ih =>
    intro s post ho hm hp
    exact hs d s post ho hp (fun s' post' ho' hm' hp' => ih s' post' ho' (by omega) hp')
def bx_sum (f : Nat → Int32) : Nat → Int32
  | 0 => 0
  | n + 1 => bx_sum f n + f n
theorem ek_u {A : Prop} {B : Nat → Prop} {k N : Nat} (hk : k < N) (h : B k) : (some k = none → A) ∧ (∀ y : Nat, some k = some y → (y < N ∧ B y)) :=
  ⟨fun z => absurd z (Option.some_ne_none k), fun _ e => (by cases e; exact ⟨hk, h⟩)⟩
theorem ek_nu {A : Prop} {B : Nat → Prop} (h : A) : ((none : Option Nat) = none → A) ∧ (∀ y : Nat, (none : Option Nat) = some y → B y) :=
  ⟨fun _ => h, fun _ e => (by cases e)⟩
theorem ek_if {c d A B : Prop} (e : c ↔ d) (f : d → A) (g : ¬ d → B) : (c → A) ∧ (¬ c → B) :=
  ⟨fun z => f (e.mp z), fun z => g (fun y => z (e.mpr y))⟩
theorem ek_v {α : Sort _} {P : α → Prop} {a b : α} (e : a = b) (h : P b) : P a := e ▸ h
theorem co_some {x : Option Nat} {A : Prop} {B : Nat → Prop} (i : Nat) (h : B i) (hx : x = some i := by rfl) : (x = none → A) ∧ (∀ y : Nat, x = some y → B y) := by
  subst hx
  exact ⟨fun e => (nomatch e), fun y e => Option.some.inj e ▸ h⟩
theorem co_none {x : Option Nat} {A : Prop} {B : Nat → Prop} (h : A) (hx : x = none := by rfl) : (x = none → A) ∧ (∀ y : Nat, x = some y → B y) := by
  subst hx
  exact ⟨fun _ => h, fun y e => (nomatch e)⟩
theorem co_any {x : Option Nat} {A : Prop} {B : Nat → Prop} (hn : x = none → A) (hs : ∀ i : Nat, x = some i → B i) : (x = none → A) ∧ (∀ y : Nat, x = some y → B y) := ⟨hn, hs⟩
theorem co_2 {P : Nat → Prop} (h0 : P 0) (h1 : P 1) {i : Nat} (hi : i < 2) : P i :=
  match i, hi with
  | 0, _ => h0
  | 1, _ => h1
theorem co_3 {P : Nat → Prop} (h0 : P 0) (h1 : P 1) (h2 : P 2) {i : Nat} (hi : i < 3) : P i :=
  match i, hi with
  | 0, _ => h0
  | 1, _ => h1
  | 2, _ => h2
theorem co_4 {P : Nat → Prop} (h0 : P 0) (h1 : P 1) (h2 : P 2) (h3 : P 3) {i : Nat} (hi : i < 4) : P i :=
  match i, hi with
  | 0, _ => h0
  | 1, _ => h1
  | 2, _ => h2
  | 3, _ => h3
theorem co_dec {N : Nat} {P : Nat → Prop} [DecidablePred P] (h : (List.range N).all (fun i => decide (P i)) = true) {i : Nat} (hi : i < N) : P i := by
  have := List.all_eq_true.mp h i (List.mem_range.mpr hi)
  exact of_decide_eq_true this
theorem co_tab {α : Type} {l : List α} {d : α} {P : α → Prop} (h : ∀ a, a ∈ l → P a) {i : Nat} (hi : i < l.length) : P (l.getD i d) := by
  rw [List.getD_eq_getElem?_getD, List.getElem?_eq_getElem hi]
  exact h _ (List.getElem_mem hi)
theorem pk_mu {x : Int32} {L : Nat} (h0 : ¬ x < 0) (h : ¬ nI L ≤ x) (hL : L < 2 ^ 31) : ∃ j : Nat, j < L ∧ x = nI j ∧ x + 1 = nI (j + 1) ∧ x.toNatClampNeg = j ∧ L - (x + 1).toNatClampNeg < L - x.toNatClampNeg := by
  obtain ⟨j, hj, rfl⟩ := nI_of h0
  have hl : j < L := Nat.not_le.mp fun q => h (nI_le q hj)
  refine ⟨j, hl, rfl, nI_1 j, nI_clamp hj, ?_⟩
  rw [nI_1, nI_clamp (by omega), nI_clamp hj]
  omega
theorem op_s {α : Type} {r : Option α} {A : Prop} {B : α → Prop} {y : α} (h : r = some y) (b : B y) : (r = none → A) ∧ ∀ z, r = some z → B z :=
  ⟨fun e => (by rw [h] at e; cases e), fun z e => (by rw [h] at e; cases e; exact b)⟩
def l_holds {α : Type} (a : Nat → Option Nat) (LP : List Nat) (p : Nat → α) (c : Nat) (b : Nat → α) : Prop :=
  ∀ j, j < c → ∃ y, a j = some y ∧ y ∈ LP ∧ p y = b j
theorem l_holds_0 {α : Type} {a : Nat → Option Nat} {LP : List Nat} {p b : Nat → α} : l_holds a LP p 0 b := fun j h => absurd h (Nat.not_lt_zero j)
theorem l_in_new (LP : List Nat) (q : Nat) : q ∈ LP ++ [q] := List.mem_append.mpr (Or.inr (List.mem_singleton.mpr rfl))
def l_sum (b : Nat → Int32) : Nat → Int32
  | 0 => 0
  | k + 1 => l_sum b k + b k
theorem sb_shr0 (x : Int32) : x >>> ((0 : Int32) &&& 31) = x := by
  rw [show ((0 : Int32) &&& 31) = 0 by decide]
  simp
theorem sb_shl0 (x : Int32) : x <<< ((0 : Int32) &&& 31) = x := by
  rw [show ((0 : Int32) &&& 31) = 0 by decide]
  simp
theorem sb_cl0 : (0 : Int32).toNatClampNeg = 0 := by decide
theorem sb_m1 {p : Nat} (h : 0 < p) : nI p + (-1) = nI (p - 1) := by
  obtain ⟨q, rfl⟩ : ∃ q, p = q + 1 := ⟨p - 1, by omega⟩
  exact pk_m1 q
def sb_b (c : Nat) : Int32 := (nI c).toInt8.toInt32
theorem sb_byte : ∀ c, c < 256 → sb_b c &&& 255 = nI c ∧ ((nI c).toUInt32 % 65536).toInt32 = nI c ∧ nI c ≤ 255 := by decide +kernel
def sb_Fit (a : Nat → Int32) : Prop := ∀ j, fits .byte (.int (a j)) = true
def sb_Lat (t : Nat → Nat) (n : Nat) (a : Nat → Int32) : Prop := ∀ j, j < n → t j < 256 ∧ a j = sb_b (t j)
theorem sb_fitB (c : Nat) : fits .byte (.int (sb_b c)) = true := pk_fb _
theorem sb_fit0 : sb_Fit (fun _ => 0) := fun _ => by
  show fits .byte (.int 0) = true
  decide
theorem sb_fitU {a : Nat → Int32} {k : Nat} {x : Int32} (h : sb_Fit a) (hx : fits .byte (.int x) = true) : sb_Fit (upd a k x) := by
  intro j
  by_cases e : j = k
  · subst e
    rw [pk_us]
    exact hx
  · rw [pk_un e]
    exact h j
def sb_cat (t : Nat → Nat) (n : Nat) (s : Nat → Nat) : Nat → Nat := fun j => if j < n then t j else s (j - n)
theorem sb_cat_lo {t s : Nat → Nat} {n j : Nat} (h : j < n) : sb_cat t n s j = t j := if_pos h
theorem sb_cat_hi {t s : Nat → Nat} {n j : Nat} : sb_cat t n s (n + j) = s j := by
  show (if n + j < n then t (n + j) else s (n + j - n)) = s j
  rw [if_neg (by omega), Nat.add_sub_cancel_left]
theorem sb_latPut {t s : Nat → Nat} {n w : Nat} {a a' : Nat → Int32} (h : sb_Lat t n a) (hk : ∀ j, j < n → a' j = a j) (hs : ∀ i, i < w → s i < 256 ∧ a' (n + i) = sb_b (s i)) : sb_Lat (sb_cat t n s) (n + w) a' := by
  intro j hj
  by_cases e : j < n
  · rw [sb_cat_lo e, hk j e]
    exact h j e
  · obtain ⟨i, rfl⟩ : ∃ i, j = n + i := ⟨j - n, by omega⟩
    rw [sb_cat_hi]
    exact hs i (by omega)
theorem sb_latKeep {t : Nat → Nat} {n : Nat} {a a' : Nat → Int32} (h : sb_Lat t n a) (hk : ∀ j, j < n → a' j = a j) : sb_Lat t n a' := fun j hj => by
  rw [hk j hj]
  exact h j hj
def sb_cap (q m : Nat) : Nat := if q ≤ m then m else if 2 * m + 2 < q then q else 2 * m + 2
def sb_Room (q m mc ms : Nat) : Prop := q ≤ m ∨ (1 ≤ mc ∧ sb_cap q m ≤ ms ∧ sb_cap q m ≤ 65536)
theorem sb_cap_ge (q m : Nat) : q ≤ sb_cap q m := by
  unfold sb_cap
  split
  · omega
  · split <;> omega
theorem sb_cap_gem (q m : Nat) : m ≤ sb_cap q m := by
  unfold sb_cap
  split
  · omega
  · split <;> omega
theorem sb_cap_le {q m mc ms : Nat} (hm : m ≤ 65536) (hr : sb_Room q m mc ms) : sb_cap q m ≤ 65536 := by
  rcases hr with h | h
  · rw [sb_cap, if_pos h]
    exact hm
  · exact h.2.2
theorem sb_at {P : Int32 → Prop} {x y : Int32} (e : x = y) (h : P y) : P x := e ▸ h
def sb_dg (w : Nat) : Nat := if w < 10 then 1 else if w < 100 then 2 else if w < 1000 then 3 else if w < 10000 then 4 else if w < 100000 then 5 else if w < 1000000 then 6 else if w < 10000000 then 7 else if w < 100000000 then 8 else if w < 1000000000 then 9 else 10
def sb_dec (v : Nat) : Nat → Nat := fun i => 48 + v / 10 ^ (sb_dg v - 1 - i) % 10
theorem sb_dg_in (w : Nat) : 1 ≤ sb_dg w ∧ sb_dg w ≤ 10 := by
  unfold sb_dg
  constructor <;> (repeat' split) <;> omega
theorem sb_dg100 {w : Nat} (h : 100 ≤ w) (hw : w < 2 ^ 31) : sb_dg w = sb_dg (w / 100) + 2 := by
  rw [sb_dg, sb_dg, if_neg (show ¬ w < 10 by omega), if_neg (show ¬ w < 100 by omega)]
  by_cases h3 : w < 1000
  · rw [if_pos h3, if_pos (show w / 100 < 10 by omega)]
  rw [if_neg h3, if_neg (show ¬ w / 100 < 10 by omega)]
  by_cases h4 : w < 10000
  · rw [if_pos h4, if_pos (show w / 100 < 100 by omega)]
  rw [if_neg h4, if_neg (show ¬ w / 100 < 100 by omega)]
  by_cases h5 : w < 100000
  · rw [if_pos h5, if_pos (show w / 100 < 1000 by omega)]
  rw [if_neg h5, if_neg (show ¬ w / 100 < 1000 by omega)]
  by_cases h6 : w < 1000000
  · rw [if_pos h6, if_pos (show w / 100 < 10000 by omega)]
  rw [if_neg h6, if_neg (show ¬ w / 100 < 10000 by omega)]
  by_cases h7 : w < 10000000
  · rw [if_pos h7, if_pos (show w / 100 < 100000 by omega)]
  rw [if_neg h7, if_neg (show ¬ w / 100 < 100000 by omega)]
  by_cases h8 : w < 100000000
  · rw [if_pos h8, if_pos (show w / 100 < 1000000 by omega)]
  rw [if_neg h8, if_neg (show ¬ w / 100 < 1000000 by omega)]
  by_cases h9 : w < 1000000000
  · rw [if_pos h9, if_pos (show w / 100 < 10000000 by omega)]
  rw [if_neg h9, if_neg (show ¬ w / 100 < 10000000 by omega)]
  rw [if_pos (show w / 100 < 100000000 by omega)]
theorem sb_negT {w : Nat} (h : w < 2 ^ 31) : (-nI w).toInt = -(w : Int) := by
  rw [Int32.toInt_neg, nI_toInt h]
  exact Int.bmod_eq_of_le (by omega) (by omega)
theorem sb_nle {a b : Nat} (ha : a < 2 ^ 31) (hb : b < 2 ^ 31) : -nI a ≤ -nI b ↔ b ≤ a := by
  rw [Int32.le_iff_toInt_le, sb_negT ha, sb_negT hb]
  omega
theorem sb_nlt {a b : Nat} (ha : a < 2 ^ 31) (hb : b < 2 ^ 31) : -nI a < -nI b ↔ b < a := by
  rw [Int32.lt_iff_toInt_lt, sb_negT ha, sb_negT hb]
  omega
theorem sb_cmp {A B : Prop} {x : Int32} (v c : Nat) (f : c ≤ v → A) (g : v < c → B) (hv : v < 2 ^ 31) (hx : x = -nI c := by rfl) (hc : c < 2 ^ 31 := by omega) : (-nI v ≤ x → A) ∧ (¬ -nI v ≤ x → B) := by
  subst hx
  rw [sb_nle hv hc]
  exact ⟨f, fun z => g (by omega)⟩
theorem sb_ndiv {w : Nat} (hw : w < 2 ^ 31) : (-nI w) / 100 = -nI (w / 100) := by
  apply Int32.toInt_inj.mp
  have h100 : (100 : Int32).toInt = 100 := by decide
  rw [Int32.toInt_div, sb_negT hw, h100, sb_negT (by omega), Int.neg_tdiv, Int.tdiv_eq_ediv_of_nonneg (by omega), Int.bmod_eq_of_le (by omega) (by omega)]
  omega
theorem sb_nrem {w : Nat} (hw : w < 2 ^ 31) : (-nI (w / 100)) * 100 - (-nI w) = nI (w % 100) := by
  have h := pk_rem (a := w) (d := 100) hw (by decide) (by decide)
  rw [pk_div hw (by decide) (by decide)] at h
  rw [← h]
  show (-nI (w / 100)) * nI 100 - (-nI w) = nI w - nI (w / 100) * nI 100
  rw [Int32.neg_mul, Int32.sub_neg, Int32.add_comm, ← Int32.sub_eq_add_neg]
end
section
/-! numbers: an Int as an Int32, as an Int64 -/
def zi_n (z : Int) : Int32 := Int32.ofInt z
def zl_n (z : Int) : Int64 := Int64.ofInt z
theorem zi_add (a b : Int) : zi_n a + zi_n b = zi_n (a + b) := (Int32.ofInt_add a b).symm
theorem zi_sub (a b : Int) : zi_n a - zi_n b = zi_n (a - b) := (Int32.ofInt_sub a b).symm
theorem zi_mul (a b : Int) : zi_n a * zi_n b = zi_n (a * b) := (Int32.ofInt_mul a b).symm
theorem zi_neg (a : Int) : -zi_n a = zi_n (-a) := (Int32.ofInt_neg a).symm
theorem zl_add (a b : Int) : zl_n a + zl_n b = zl_n (a + b) := (Int64.ofInt_add a b).symm
theorem zl_sub (a b : Int) : zl_n a - zl_n b = zl_n (a - b) := (Int64.ofInt_sub a b).symm
theorem zl_mul (a b : Int) : zl_n a * zl_n b = zl_n (a * b) := (Int64.ofInt_mul a b).symm
theorem zl_neg (a : Int) : -zl_n a = zl_n (-a) := (Int64.ofInt_neg a).symm
theorem zi_nat (n : Nat) : nI n = zi_n (n : Int) := Int32.ofInt_eq_ofNat.symm
theorem zl_nat (n : Nat) : lN n = zl_n (n : Int) := Int64.ofInt_eq_ofNat.symm
theorem zi_self (x : Int32) : x = zi_n x.toInt := (Int32.ofInt_toInt x).symm
theorem zl_self (x : Int64) : x = zl_n x.toInt := (Int64.ofInt_toInt x).symm
theorem zi_toInt {z : Int} (h1 : -2147483648 ≤ z) (h2 : z < 2147483648) : (zi_n z).toInt = z := Int32.toInt_ofInt_of_le (by omega) (by omega)
theorem zl_toInt {z : Int} (h1 : -9223372036854775808 ≤ z) (h2 : z < 9223372036854775808) : (zl_n z).toInt = z := Int64.toInt_ofInt_of_le (by omega) (by omega)
theorem zi_le {a b : Int} (a1 : -2147483648 ≤ a) (a2 : a < 2147483648) (b1 : -2147483648 ≤ b) (b2 : b < 2147483648) : zi_n a ≤ zi_n b ↔ a ≤ b := by
  rw [Int32.le_iff_toInt_le, zi_toInt a1 a2, zi_toInt b1 b2]
theorem zi_lt {a b : Int} (a1 : -2147483648 ≤ a) (a2 : a < 2147483648) (b1 : -2147483648 ≤ b) (b2 : b < 2147483648) : zi_n a < zi_n b ↔ a < b := by
  rw [Int32.lt_iff_toInt_lt, zi_toInt a1 a2, zi_toInt b1 b2]
theorem zi_eq {a b : Int} (a1 : -2147483648 ≤ a) (a2 : a < 2147483648) (b1 : -2147483648 ≤ b) (b2 : b < 2147483648) : zi_n a = zi_n b ↔ a = b := by
  rw [← Int32.toInt_inj, zi_toInt a1 a2, zi_toInt b1 b2]
theorem zl_le {a b : Int} (a1 : -9223372036854775808 ≤ a) (a2 : a < 9223372036854775808) (b1 : -9223372036854775808 ≤ b) (b2 : b < 9223372036854775808) : zl_n a ≤ zl_n b ↔ a ≤ b := by
  rw [Int64.le_iff_toInt_le, zl_toInt a1 a2, zl_toInt b1 b2]
theorem zl_lt {a b : Int} (a1 : -9223372036854775808 ≤ a) (a2 : a < 9223372036854775808) (b1 : -9223372036854775808 ≤ b) (b2 : b < 9223372036854775808) : zl_n a < zl_n b ↔ a < b := by
  rw [Int64.lt_iff_toInt_lt, zl_toInt a1 a2, zl_toInt b1 b2]
theorem zl_eq {a b : Int} (a1 : -9223372036854775808 ≤ a) (a2 : a < 9223372036854775808) (b1 : -9223372036854775808 ≤ b) (b2 : b < 9223372036854775808) : zl_n a = zl_n b ↔ a = b := by
  rw [← Int64.toInt_inj, zl_toInt a1 a2, zl_toInt b1 b2]
theorem zi_mn : Int32.minValue.toInt = -2147483648 := by decide
theorem zi_mx : Int32.maxValue.toInt = 2147483647 := by decide
theorem zl_mn : Int64.minValue.toInt = -9223372036854775808 := by decide
theorem zl_mx : Int64.maxValue.toInt = 9223372036854775807 := by decide
theorem zi_div {a b : Int} (a1 : -2147483648 ≤ a) (a2 : a < 2147483648) (b1 : -2147483648 ≤ b) (b2 : b < 2147483648) : zi_n a / zi_n b = zi_n (a.tdiv b) :=
  (Int32.ofInt_tdiv (by rw [zi_mn]; omega) (by rw [zi_mx]; omega) (by rw [zi_mn]; omega) (by rw [zi_mx]; omega)).symm
theorem zl_div {a b : Int} (a1 : -9223372036854775808 ≤ a) (a2 : a < 9223372036854775808) (b1 : -9223372036854775808 ≤ b) (b2 : b < 9223372036854775808) : zl_n a / zl_n b = zl_n (a.tdiv b) :=
  (Int64.ofInt_tdiv (by rw [zl_mn]; omega) (by rw [zl_mx]; omega) (by rw [zl_mn]; omega) (by rw [zl_mx]; omega)).symm
theorem zi_l {z : Int} (h1 : -2147483648 ≤ z) (h2 : z < 2147483648) : (zi_n z).toInt64 = zl_n z :=
  Int32.toInt64_ofInt (by rw [zi_mn]; omega) (by rw [zi_mx]; omega)
theorem zl_i (z : Int) : (zl_n z).toInt32 = zi_n z := Int64.toInt32_ofInt
theorem zi_byte {z : Int} (h1 : -128 ≤ z) (h2 : z < 128) : (zi_n z).toInt8.toInt32 = zi_n z := by
  rw [← Int32.toInt_inj, Int8.toInt_toInt32, Int32.toInt_toInt8, zi_toInt (by omega) (by omega)]
  exact Int.bmod_eq_of_le (by omega) (by omega)
theorem zi_nar {z : Int} (h1 : -128 ≤ z) (h2 : z < 128) : vp_nar .byte (zi_n z) = zi_n z := by
  rw [vp_nar_byte, zi_byte h1 h2]
theorem zi_nar2 {z : Int} (h1 : -128 ≤ z) (h2 : z < 128) : vp_nar .byte (zi_n z).toInt8.toInt32 = zi_n z := by
  rw [zi_byte h1 h2, zi_nar h1 h2]
theorem nI_nar {n : Nat} (h : n < 128) : vp_nar .byte (nI n) = nI n := by
  rw [zi_nat]; exact zi_nar (by omega) (by omega)
theorem nI_nar2 {n : Nat} (h : n < 128) : vp_nar .byte (nI n).toInt8.toInt32 = nI n := by
  rw [zi_nat]; exact zi_nar2 (by omega) (by omega)
end
section
/-! cones: rays (three numbers of a mix and the loss), constraints 0 .. 2 (numbers) and 3 .. 5 (losses) -/
abbrev dd_R : Type := Int × Int × Int × Int
def dd_0 : dd_R := (0, 0, 0, 0)
def dd_g (A : Nat → Nat → Int) (t : Nat) (q : dd_R) : Int :=
  match t with
  | 0 => q.1
  | 1 => q.2.1
  | 2 => q.2.2.1
  | (o + 3) => q.2.2.2 - (q.1 * A 0 o + q.2.1 * A 1 o + q.2.2.1 * A 2 o)
def dd_lin (a : Int) (q : dd_R) (b : Int) (r : dd_R) : dd_R :=
  (a * q.1 + b * r.1, a * q.2.1 + b * r.2.1, a * q.2.2.1 + b * r.2.2.1, a * q.2.2.2 + b * r.2.2.2)
def dd_sc (a : Int) (q : dd_R) : dd_R := (a * q.1, a * q.2.1, a * q.2.2.1, a * q.2.2.2)
theorem dd_g_lin (A : Nat → Nat → Int) (t : Nat) (a : Int) (q : dd_R) (b : Int) (r : dd_R) : dd_g A t (dd_lin a q b r) = a * dd_g A t q + b * dd_g A t r := by
  match t with
  | 0 => rfl
  | 1 => rfl
  | 2 => rfl
  | (o + 3) => simp only [dd_g, dd_lin]; grind
theorem dd_g_sc (A : Nat → Nat → Int) (t : Nat) (a : Int) (q : dd_R) : dd_g A t (dd_sc a q) = a * dd_g A t q := by
  match t with
  | 0 => rfl
  | 1 => rfl
  | 2 => rfl
  | (o + 3) => simp only [dd_g, dd_sc]; grind
theorem dd_g_0 (A : Nat → Nat → Int) (t : Nat) : dd_g A t dd_0 = 0 := by
  match t with
  | 0 => rfl
  | 1 => rfl
  | 2 => rfl
  | (o + 3) => simp only [dd_g, dd_0]; grind
/-! arithmetic -/
theorem ar_np {b x : Int} (hb : b ≤ 0) (hx : 0 ≤ x) : b * x ≤ 0 := by
  have h := Int.mul_nonneg (a := -b) (b := x) (by omega) hx
  rw [Int.neg_mul] at h
  omega
theorem ar_z {a x : Int} (ha : 0 < a) (hx : 0 ≤ x) (h : a * x ≤ 0) : x = 0 := by
  by_cases e : x = 0
  · exact e
  · have := Int.mul_pos ha (show 0 < x by omega)
    omega
theorem ar_z' {a x : Int} (ha : a ≠ 0) (h : a * x = 0) : x = 0 := by
  rcases Int.mul_eq_zero.mp h with h | h
  · exact absurd h ha
  · exact h
theorem ar_2z {a b x y : Int} (ha : 0 < a) (hb : 0 < b) (hx : 0 ≤ x) (hy : 0 ≤ y) (h : a * x + b * y = 0) : x = 0 ∧ y = 0 := by
  have h1 := Int.mul_nonneg (Int.le_of_lt ha) hx
  have h2 := Int.mul_nonneg (Int.le_of_lt hb) hy
  exact ⟨ar_z ha hx (by omega), ar_z hb hy (by omega)⟩
theorem dd_min (P : Nat → Prop) (a b : Nat → Int) (hb : ∀ t, P t → 0 < b t) : ∀ n, (∃ t, t < n ∧ P t) → ∃ t, t < n ∧ P t ∧ ∀ s, s < n → P s → a t * b s ≤ a s * b t := by
  intro n
  induction n with
  | zero => intro ⟨t, h, _⟩; omega
  | succ n ih =>
    intro ⟨t0, h0, p0⟩
    by_cases e : ∃ t, t < n ∧ P t
    · obtain ⟨t, ht, pt, hm⟩ := ih e
      by_cases pn : P n
      · by_cases c : a t * b n ≤ a n * b t
        · refine ⟨t, by omega, pt, fun s hs ps => ?_⟩
          by_cases es : s = n
          · subst es; exact c
          · exact hm s (by omega) ps
        · refine ⟨n, by omega, pn, fun s hs ps => ?_⟩
          by_cases es : s = n
          · subst es; exact Int.le_refl _
          · have h1 := hm s (by omega) ps
            have bs := hb s ps
            have bt := hb t pt
            have bn := hb n pn
            have c' : a n * b t ≤ a t * b n := by omega
            have h2 : (a n * b t) * b s ≤ (a t * b n) * b s := Int.mul_le_mul_of_nonneg_right c' (Int.le_of_lt bs)
            have h3 : (a t * b s) * b n ≤ (a s * b t) * b n := Int.mul_le_mul_of_nonneg_right h1 (Int.le_of_lt bn)
            have e1 : (a n * b s) * b t = (a n * b t) * b s := Int.mul_right_comm _ _ _
            have e2 : (a t * b n) * b s = (a t * b s) * b n := Int.mul_right_comm _ _ _
            have e3 : (a s * b t) * b n = (a s * b n) * b t := Int.mul_right_comm _ _ _
            have h4 : (a n * b s) * b t ≤ (a s * b n) * b t := by omega
            exact Int.le_of_mul_le_mul_right h4 bt
      · refine ⟨t, by omega, pt, fun s hs ps => ?_⟩
        by_cases es : s = n
        · subst es; exact absurd ps pn
        · exact hm s (by omega) ps
    · have et : t0 = n := by
        apply Classical.byContradiction
        intro hne
        exact e ⟨t0, by omega, p0⟩
      subst et
      refine ⟨t0, by omega, p0, fun s hs ps => ?_⟩
      by_cases es : s = t0
      · subst es; exact Int.le_refl _
      · exact absurd ⟨s, by omega, ps⟩ e
def dd_cnt (f : Nat → Bool) : Nat → Nat
  | 0 => 0
  | n + 1 => dd_cnt f n + (if f n = true then 1 else 0)
theorem dd_cnt_le (f h : Nat → Bool) : ∀ n, (∀ t, t < n → f t = true → h t = true) → dd_cnt f n ≤ dd_cnt h n := by
  intro n
  induction n with
  | zero => intro _; exact Nat.le_refl _
  | succ n ih =>
    intro H
    have h1 := ih (fun t ht => H t (by omega))
    simp only [dd_cnt]
    by_cases e : f n = true
    · rw [if_pos e, if_pos (H n (by omega) e)]; omega
    · rw [if_neg e]; omega
theorem dd_cnt_lt (f h : Nat → Bool) (t0 : Nat) (h0 : h t0 = true) (f0 : f t0 = false) : ∀ n, t0 < n → (∀ t, t < n → f t = true → h t = true) → dd_cnt f n < dd_cnt h n := by
  intro n
  induction n with
  | zero => intro h _; omega
  | succ n ih =>
    intro hn H
    simp only [dd_cnt]
    by_cases en : t0 = n
    · subst en
      have h1 := dd_cnt_le f h t0 (fun t ht => H t (by omega))
      rw [if_pos h0, if_neg (by rw [f0]; decide)]
      omega
    · have h1 := ih (by omega) (fun t ht => H t (by omega))
      by_cases e : f n = true
      · rw [if_pos e, if_pos (H n (by omega) e)]; omega
      · rw [if_neg e]; omega
/-! the cone -/
def dd_Z (A : Nat → Nat → Int) (W : Nat → Bool) (q : dd_R) : Prop := ∀ t, t < 3 → W t = false → dd_g A t q = 0
def dd_In (A : Nat → Nat → Int) (W K : Nat → Bool) (q : dd_R) : Prop := dd_Z A W q ∧ ∀ t, t < 6 → K t = true → 0 ≤ dd_g A t q
def dd_TI (A : Nat → Nat → Int) (K : Nat → Bool) (q q' : dd_R) : Prop := ∀ t, t < 6 → K t = true → dd_g A t q = 0 → dd_g A t q' = 0
def dd_par (q' q : dd_R) : Prop := ∃ a b : Int, 0 < a ∧ 0 < b ∧ dd_sc a q' = dd_sc b q
def dd_Ext (A : Nat → Nat → Int) (W K : Nat → Bool) (q : dd_R) : Prop := dd_In A W K q ∧ q ≠ dd_0 ∧ ∀ q', dd_In A W K q' → q' ≠ dd_0 → dd_TI A K q q' → dd_par q' q
def dd_Pt (A : Nat → Nat → Int) (W K : Nat → Bool) : Prop := ∀ q, dd_Z A W q → (∀ t, t < 6 → K t = true → dd_g A t q = 0) → q = dd_0
theorem dd_ext {q r : dd_R} (h1 : q.1 = r.1) (h2 : q.2.1 = r.2.1) (h3 : q.2.2.1 = r.2.2.1) (h4 : q.2.2.2 = r.2.2.2) : q = r :=
  Prod.ext h1 (Prod.ext h2 (Prod.ext h3 h4))
theorem dd_Z_lin {A : Nat → Nat → Int} {W : Nat → Bool} {q r : dd_R} (hq : dd_Z A W q) (hr : dd_Z A W r) (a b : Int) : dd_Z A W (dd_lin a q b r) := by
  intro t ht hw
  rw [dd_g_lin, hq t ht hw, hr t ht hw, Int.mul_zero, Int.mul_zero]
  rfl
theorem dd_sc_g {A : Nat → Nat → Int} {a b : Int} {q r : dd_R} (h : dd_sc a q = dd_sc b r) (t : Nat) : a * dd_g A t q = b * dd_g A t r := by
  have := congrArg (dd_g A t) h
  rwa [dd_g_sc, dd_g_sc] at this
theorem dd_par_refl (q : dd_R) : dd_par q q := ⟨1, 1, by decide, by decide, rfl⟩
theorem dd_par_symm {q r : dd_R} (h : dd_par q r) : dd_par r q := by
  obtain ⟨a, b, ha, hb, e⟩ := h
  exact ⟨b, a, hb, ha, e.symm⟩
theorem dd_sc_sc (a b : Int) (q : dd_R) : dd_sc a (dd_sc b q) = dd_sc (a * b) q := by
  refine dd_ext ?_ ?_ ?_ ?_ <;> simp only [dd_sc, Int.mul_assoc]
theorem dd_par_trans {q r s : dd_R} (h : dd_par q r) (h' : dd_par r s) : dd_par q s := by
  obtain ⟨a, b, ha, hb, e⟩ := h
  obtain ⟨c, d, hc, hd, e'⟩ := h'
  refine ⟨c * a, b * d, Int.mul_pos hc ha, Int.mul_pos hb hd, ?_⟩
  rw [← dd_sc_sc, e, dd_sc_sc, Int.mul_comm c b, ← dd_sc_sc, e', dd_sc_sc]
theorem dd_par_pos {A : Nat → Nat → Int} {q r : dd_R} (h : dd_par q r) (t : Nat) (hr : 0 < dd_g A t r) : 0 < dd_g A t q := by
  obtain ⟨a, b, ha, hb, e⟩ := h
  have e1 := dd_sc_g (A := A) e t
  have h1 := Int.mul_pos hb hr
  by_cases c : 0 < dd_g A t q
  · exact c
  · have := ar_np (b := dd_g A t q) (x := a) (by omega) (by omega)
    rw [Int.mul_comm] at this
    omega
theorem dd_par_neg {A : Nat → Nat → Int} {q r : dd_R} (h : dd_par q r) (t : Nat) (hr : dd_g A t r < 0) : dd_g A t q < 0 := by
  obtain ⟨a, b, ha, hb, e⟩ := h
  have e1 := dd_sc_g (A := A) e t
  have h1 := Int.mul_pos hb (show 0 < -dd_g A t r by omega)
  rw [Int.mul_neg] at h1
  by_cases c : dd_g A t q < 0
  · exact c
  · have := Int.mul_nonneg (Int.le_of_lt ha) (show 0 ≤ dd_g A t q by omega)
    omega
theorem dd_par_zero {A : Nat → Nat → Int} {q r : dd_R} (h : dd_par q r) (t : Nat) : dd_g A t q = 0 ↔ dd_g A t r = 0 := by
  obtain ⟨a, b, ha, hb, e⟩ := h
  have e1 := dd_sc_g (A := A) e t
  constructor
  · intro h
    rw [h, Int.mul_zero] at e1
    exact ar_z' (by omega) e1.symm
  · intro h
    rw [h, Int.mul_zero] at e1
    exact ar_z' (by omega) e1
theorem dd_sc0 {a : Int} (ha : a ≠ 0) {q : dd_R} (h : dd_sc a q = dd_0) : q = dd_0 :=
  dd_ext (ar_z' ha (congrArg (fun x : dd_R => x.1) h)) (ar_z' ha (congrArg (fun x : dd_R => x.2.1) h)) (ar_z' ha (congrArg (fun x : dd_R => x.2.2.1) h)) (ar_z' ha (congrArg (fun x : dd_R => x.2.2.2) h))
section
variable {A : Nat → Nat → Int} {W K : Nat → Bool}
theorem dd_par_In {q r : dd_R} (h : dd_par q r) (hr : dd_In A W K r) : dd_In A W K q := by
  refine ⟨fun t ht hw => (dd_par_zero h t).mpr (hr.1 t ht hw), fun t ht kt => ?_⟩
  have h1 := hr.2 t ht kt
  by_cases e : dd_g A t r = 0
  · rw [(dd_par_zero h t).mpr e]; exact Int.le_refl _
  · exact Int.le_of_lt (dd_par_pos h t (by omega))
theorem dd_par_0 {q r : dd_R} (h : dd_par q r) (hr : r ≠ dd_0) : q ≠ dd_0 := by
  intro e
  obtain ⟨a, b, ha, hb, e'⟩ := h
  apply hr
  apply dd_sc0 (a := b) (by omega)
  rw [← e', e]
  refine dd_ext ?_ ?_ ?_ ?_ <;> exact Int.mul_zero _
theorem dd_par_Ext {q r : dd_R} (h : dd_par q r) (hr : dd_Ext A W K r) : dd_Ext A W K q := by
  refine ⟨dd_par_In h hr.1, dd_par_0 h hr.2.1, fun q' i' z' ti => ?_⟩
  refine dd_par_trans (hr.2.2 q' i' z' ?_) (dd_par_symm h)
  intro t ht kt e
  exact ti t ht kt ((dd_par_zero h t).mpr e)
theorem dd_par_of (hP : dd_Pt A W K) {q q' : dd_R} (hq : dd_In A W K q) (hq' : dd_In A W K q') (h0 : q' ≠ dd_0) {a b : Int} (ha : 0 < a) (e : dd_sc a q' = dd_sc b q) : dd_par q' q := by
  refine ⟨a, b, ha, ?_, e⟩
  apply Classical.byContradiction
  intro hb
  apply h0
  apply hP q' hq'.1
  intro t ht kt
  have e1 := dd_sc_g (A := A) e t
  have h1 := hq.2 t ht kt
  have h2 := hq'.2 t ht kt
  have h3 := ar_np (b := b) (x := dd_g A t q) (by omega) h1
  exact ar_z ha h2 (by omega)
theorem dd_pull (hP : dd_Pt A W K) {q p : dd_R} (hq : dd_In A W K q) (hp : dd_In A W K p) (h0 : p ≠ dd_0) :
    ∃ t, t < 6 ∧ K t = true ∧ 0 < dd_g A t p ∧ dd_In A W K (dd_lin (dd_g A t p) q (-(dd_g A t q)) p) ∧ dd_g A t (dd_lin (dd_g A t p) q (-(dd_g A t q)) p) = 0 := by
  have hex : ∃ t, t < 6 ∧ (K t = true ∧ 0 < dd_g A t p) := by
    apply Classical.byContradiction
    intro hn
    apply h0
    apply hP p hp.1
    intro t ht kt
    have := hp.2 t ht kt
    by_cases e : 0 < dd_g A t p
    · exact absurd ⟨t, ht, kt, e⟩ hn
    · omega
  obtain ⟨t, ht, ⟨kt, gt⟩, hm⟩ := dd_min (fun t => K t = true ∧ 0 < dd_g A t p) (fun t => dd_g A t q) (fun t => dd_g A t p) (fun _ h => h.2) 6 hex
  refine ⟨t, ht, kt, gt, ⟨dd_Z_lin hq.1 hp.1 _ _, ?_⟩, ?_⟩
  · intro s hs ks
    rw [dd_g_lin, Int.neg_mul]
    have hqs := hq.2 s hs ks
    have hps := hp.2 s hs ks
    by_cases e : 0 < dd_g A s p
    · have h1 : dd_g A t q * dd_g A s p ≤ dd_g A s q * dd_g A t p := hm s hs ⟨ks, e⟩
      rw [Int.mul_comm (dd_g A s q)] at h1
      omega
    · have e0 : dd_g A s p = 0 := by omega
      have h1 := Int.mul_nonneg (Int.le_of_lt gt) hqs
      rw [e0, Int.mul_zero]
      omega
  · rw [dd_g_lin, Int.neg_mul, Int.mul_comm (dd_g A t q)]
    omega
theorem dd_TI_refl (q : dd_R) : dd_TI A K q q := fun _ _ _ h => h
theorem dd_TI_trans {q r s : dd_R} (h : dd_TI A K q r) (h' : dd_TI A K r s) : dd_TI A K q s := fun t ht kt e => h' t ht kt (h t ht kt e)
theorem dd_TI_lin {q r s : dd_R} (h : dd_TI A K q r) (h' : dd_TI A K q s) (a b : Int) : dd_TI A K q (dd_lin a r b s) := by
  intro t ht kt e
  rw [dd_g_lin, h t ht kt e, h' t ht kt e, Int.mul_zero, Int.mul_zero]
  rfl
def dd_nt (A : Nat → Nat → Int) (K : Nat → Bool) (q : dd_R) : Nat → Bool := fun t => K t && decide (dd_g A t q ≠ 0)
theorem dd_nt_iff {q : dd_R} {t : Nat} : dd_nt A K q t = true ↔ K t = true ∧ dd_g A t q ≠ 0 := by
  simp only [dd_nt, Bool.and_eq_true, decide_eq_true_eq]
theorem dd_lin0 {a b : Int} {q p : dd_R} (h : dd_lin a q (-b) p = dd_0) : dd_sc b p = dd_sc a q := by
  have h1 : a * q.1 + -b * p.1 = 0 := congrArg (fun x : dd_R => x.1) h
  have h2 : a * q.2.1 + -b * p.2.1 = 0 := congrArg (fun x : dd_R => x.2.1) h
  have h3 : a * q.2.2.1 + -b * p.2.2.1 = 0 := congrArg (fun x : dd_R => x.2.2.1) h
  have h4 : a * q.2.2.2 + -b * p.2.2.2 = 0 := congrArg (fun x : dd_R => x.2.2.2) h
  rw [Int.neg_mul] at h1 h2 h3 h4
  refine dd_ext ?_ ?_ ?_ ?_ <;> simp only [dd_sc] <;> omega
theorem dd_face (hP : dd_Pt A W K) : ∀ n q, dd_cnt (dd_nt A K q) 6 ≤ n → dd_In A W K q → q ≠ dd_0 → ∃ m, dd_Ext A W K m ∧ dd_TI A K q m := by
  intro n
  induction n with
  | zero =>
    intro q hn hq h0
    exfalso
    apply h0
    apply hP q hq.1
    intro t ht kt
    apply Classical.byContradiction
    intro e
    have := dd_cnt_lt (fun _ => false) (dd_nt A K q) t (dd_nt_iff.mpr ⟨kt, e⟩) rfl 6 ht (fun s _ h => by simp at h)
    omega
  | succ n ih =>
    intro q hn hq h0
    by_cases he : dd_Ext A W K q
    · exact ⟨q, he, dd_TI_refl q⟩
    · have hex : ∃ q', dd_In A W K q' ∧ q' ≠ dd_0 ∧ dd_TI A K q q' ∧ ¬ dd_par q' q := by
        apply Classical.byContradiction
        intro hno
        apply he
        refine ⟨hq, h0, fun q' i' z' ti => ?_⟩
        apply Classical.byContradiction
        intro hp
        exact hno ⟨q', i', z', ti, hp⟩
      obtain ⟨q', i', z', ti, np⟩ := hex
      obtain ⟨t, ht, kt, gt, i1, g1⟩ := dd_pull hP hq i' z'
      have gq : 0 < dd_g A t q := by
        have h1 := hq.2 t ht kt
        by_cases e : dd_g A t q = 0
        · have := ti t ht kt e
          omega
        · omega
      have tq1 : dd_TI A K q (dd_lin (dd_g A t q') q (-(dd_g A t q)) q') := dd_TI_lin (dd_TI_refl q) ti _ _
      obtain ⟨m, em, tm⟩ := ih (dd_lin (dd_g A t q') q (-(dd_g A t q)) q') (by
          have := dd_cnt_lt (dd_nt A K (dd_lin (dd_g A t q') q (-(dd_g A t q)) q')) (dd_nt A K q) t (dd_nt_iff.mpr ⟨kt, by omega⟩) (by
            cases hb : dd_nt A K (dd_lin (dd_g A t q') q (-(dd_g A t q)) q') t with
            | false => rfl
            | true => exact absurd g1 (dd_nt_iff.mp hb).2) 6 ht (fun s hs hf => by
              obtain ⟨ks, gs⟩ := dd_nt_iff.mp hf
              exact dd_nt_iff.mpr ⟨ks, fun e => gs (tq1 s hs ks e)⟩)
          omega) i1 (by
          intro e
          exact np ⟨_, _, gq, gt, dd_lin0 e⟩)
      exact ⟨m, em, dd_TI_trans tq1 tm⟩
theorem dd_pert {q d : dd_R} (hq : dd_Ext A W K q) (hd : dd_Z A W d) (hT : dd_TI A K q d) : ∃ a b : Int, 0 < a ∧ dd_sc a d = dd_sc b q := by
  have hN : ∃ N : Int, 0 < N ∧ ∀ t, t < 6 → 0 ≤ N + dd_g A t d := by
    refine ⟨1 + (dd_g A 0 d).natAbs + (dd_g A 1 d).natAbs + (dd_g A 2 d).natAbs + (dd_g A 3 d).natAbs + (dd_g A 4 d).natAbs + (dd_g A 5 d).natAbs, by omega, ?_⟩
    intro t ht
    match t, ht with
    | 0, _ => omega
    | 1, _ => omega
    | 2, _ => omega
    | 3, _ => omega
    | 4, _ => omega
    | 5, _ => omega
  obtain ⟨N, n0, hN⟩ := hN
  have i1 : dd_In A W K (dd_lin N q 1 d) := by
    refine ⟨dd_Z_lin hq.1.1 hd _ _, fun t ht kt => ?_⟩
    rw [dd_g_lin]
    have h1 := hq.1.2 t ht kt
    by_cases e : dd_g A t q = 0
    · rw [e, hT t ht kt e]
      simp
    · have h2 := hN t ht
      have h3 : N * 1 ≤ N * dd_g A t q := Int.mul_le_mul_of_nonneg_left (by omega) (by omega)
      omega
  by_cases z : dd_lin N q 1 d = dd_0
  · have h1 : N * q.1 + 1 * d.1 = 0 := congrArg (fun x : dd_R => x.1) z
    have h2 : N * q.2.1 + 1 * d.2.1 = 0 := congrArg (fun x : dd_R => x.2.1) z
    have h3 : N * q.2.2.1 + 1 * d.2.2.1 = 0 := congrArg (fun x : dd_R => x.2.2.1) z
    have h4 : N * q.2.2.2 + 1 * d.2.2.2 = 0 := congrArg (fun x : dd_R => x.2.2.2) z
    refine ⟨1, -N, by decide, ?_⟩
    refine dd_ext ?_ ?_ ?_ ?_ <;> simp only [dd_sc, Int.neg_mul] <;> omega
  · obtain ⟨a, b, ha, hb, e⟩ := hq.2.2 _ i1 z (dd_TI_lin (dd_TI_refl q) hT _ _)
    have h1 : a * (N * q.1 + 1 * d.1) = b * q.1 := congrArg (fun x : dd_R => x.1) e
    have h2 : a * (N * q.2.1 + 1 * d.2.1) = b * q.2.1 := congrArg (fun x : dd_R => x.2.1) e
    have h3 : a * (N * q.2.2.1 + 1 * d.2.2.1) = b * q.2.2.1 := congrArg (fun x : dd_R => x.2.2.1) e
    have h4 : a * (N * q.2.2.2 + 1 * d.2.2.2) = b * q.2.2.2 := congrArg (fun x : dd_R => x.2.2.2) e
    refine ⟨a, b - a * N, ha, ?_⟩
    refine dd_ext ?_ ?_ ?_ ?_ <;> simp only [dd_sc]
    · grind
    · grind
    · grind
    · grind
end
end
section
/-! one more constraint: what becomes of the extreme rays -/
def dd_K (K : Nat → Bool) (h : Nat) : Nat → Bool := fun t => K t || (t == h)
theorem dd_K_iff {K : Nat → Bool} {h t : Nat} : dd_K K h t = true ↔ K t = true ∨ t = h := by
  simp only [dd_K, Bool.or_eq_true, beq_iff_eq]
theorem dd_sc_neg {a b : Int} {q r : dd_R} (h : dd_sc a q = dd_sc b r) : dd_sc (-a) q = dd_sc (-b) r := by
  have e := congrArg (dd_sc (-1)) h
  rwa [dd_sc_sc, dd_sc_sc, Int.neg_mul, Int.neg_mul, Int.one_mul, Int.one_mul] at e
theorem dd_sc_0 (q : dd_R) : dd_sc 0 q = dd_0 := by
  refine dd_ext ?_ ?_ ?_ ?_ <;> exact Int.zero_mul _
def dd_Adj (A : Nat → Nat → Int) (K : Nat → Bool) (L : List dd_R) (p n : dd_R) : Prop :=
  ∀ m, m ∈ L → (∀ t, t < 6 → K t = true → dd_g A t p = 0 → dd_g A t n = 0 → dd_g A t m = 0) → m = p ∨ m = n
def dd_Good (A : Nat → Nat → Int) (W K : Nat → Bool) (L : List dd_R) : Prop :=
  (∀ r, r ∈ L → dd_Ext A W K r) ∧ (∀ q, dd_Ext A W K q → ∃ r, r ∈ L ∧ dd_par r q) ∧ (∀ r s, r ∈ L → s ∈ L → dd_par r s → r = s)
def dd_x (A : Nat → Nat → Int) (h : Nat) (p n : dd_R) : dd_R := dd_lin (-(dd_g A h n)) p (dd_g A h p) n
theorem ar_fin {w sn tp tq hp hn x y z v : Int} (eh : w * hn = sn * -(tq * hp)) (f1 : w * y = sn * z) (f2 : tp * v + -tq * x = z) : hp * (sn * tp) * v = w * (-hn * x + hp * y) := by
  subst f2
  grind
section
variable {A : Nat → Nat → Int} {W K : Nat → Bool} {h : Nat}
theorem dd_In_K (h6 : h < 6) {q : dd_R} : dd_In A W (dd_K K h) q ↔ dd_In A W K q ∧ 0 ≤ dd_g A h q := by
  constructor
  · intro i
    exact ⟨⟨i.1, fun t ht kt => i.2 t ht (dd_K_iff.mpr (Or.inl kt))⟩, i.2 h h6 (dd_K_iff.mpr (Or.inr rfl))⟩
  · intro i
    refine ⟨i.1.1, fun t ht kt => ?_⟩
    rcases dd_K_iff.mp kt with kt | kt
    · exact i.1.2 t ht kt
    · rw [kt]; exact i.2
theorem dd_TI_K (h6 : h < 6) {q q' : dd_R} : dd_TI A (dd_K K h) q q' ↔ dd_TI A K q q' ∧ (dd_g A h q = 0 → dd_g A h q' = 0) := by
  constructor
  · intro i
    exact ⟨fun t ht kt => i t ht (dd_K_iff.mpr (Or.inl kt)), i h h6 (dd_K_iff.mpr (Or.inr rfl))⟩
  · intro i t ht kt
    rcases dd_K_iff.mp kt with kt | kt
    · exact i.1 t ht kt
    · rw [kt]; exact i.2
theorem dd_Pt_K (hP : dd_Pt A W K) : dd_Pt A W (dd_K K h) := fun q z a => hP q z (fun t ht kt => a t ht (dd_K_iff.mpr (Or.inl kt)))
theorem dd_notExt {q : dd_R} (hq : dd_In A W K q) (h0 : q ≠ dd_0) (he : ¬ dd_Ext A W K q) : ∃ q', dd_In A W K q' ∧ q' ≠ dd_0 ∧ dd_TI A K q q' ∧ ¬ dd_par q' q := by
  apply Classical.byContradiction
  intro hno
  apply he
  refine ⟨hq, h0, fun q' i' z' ti => ?_⟩
  apply Classical.byContradiction
  intro hp
  exact hno ⟨q', i', z', ti, hp⟩
theorem dd_star (h6 : h < 6) {q d : dd_R} (hq : dd_Ext A W (dd_K K h) q) (hd : dd_Z A W d) (hT : dd_TI A K q d) (hh : dd_g A h d = 0) : ∃ a b : Int, 0 < a ∧ dd_sc a d = dd_sc b q :=
  dd_pert hq hd ((dd_TI_K h6).mpr ⟨hT, fun _ => hh⟩)
theorem dd_E (hP : dd_Pt A W K) (h6 : h < 6) {q q1 : dd_R} (hq : dd_Ext A W (dd_K K h) q) (i1 : dd_In A W K q1) (z1 : q1 ≠ dd_0) (t1 : dd_TI A K q q1) (h1 : dd_g A h q1 ≠ 0) {t : Nat} (ht : t < 6) (kt : K t = true) (g1 : dd_g A t q1 = 0) (gq : 0 < dd_g A t q) : dd_Ext A W K q1 := by
  refine ⟨i1, z1, fun q' i' z' ti => ?_⟩
  have hT : dd_TI A K q q' := dd_TI_trans t1 ti
  obtain ⟨a, b, ha, e⟩ := dd_star h6 hq (dd_Z_lin i'.1 i1.1 (dd_g A h q1) (-(dd_g A h q'))) (dd_TI_lin hT t1 _ _) (by
    rw [dd_g_lin, Int.neg_mul, Int.mul_comm (dd_g A h q1)]; omega)
  have e1 := dd_sc_g (A := A) e t
  have gd : dd_g A t (dd_lin (dd_g A h q1) q' (-(dd_g A h q')) q1) = 0 := by
    rw [dd_g_lin, g1, ti t ht kt g1, Int.mul_zero, Int.mul_zero]; rfl
  rw [gd, Int.mul_zero] at e1
  have b0 : b = 0 := by
    rcases Int.mul_eq_zero.mp e1.symm with h | h
    · exact h
    · omega
  have d0 : dd_lin (dd_g A h q1) q' (-(dd_g A h q')) q1 = dd_0 := by
    apply dd_sc0 (a := a) (by omega)
    rw [e, b0, dd_sc_0]
  have e2 := dd_lin0 d0
  by_cases c : 0 < dd_g A h q1
  · exact dd_par_of hP i1 i' z' c e2.symm
  · exact dd_par_of hP i1 i' z' (show 0 < -dd_g A h q1 by omega) (dd_sc_neg e2.symm)
theorem dd_x_g (t : Nat) (p n : dd_R) : dd_g A t (dd_x A h p n) = -(dd_g A h n) * dd_g A t p + dd_g A h p * dd_g A t n := dd_g_lin _ _ _ _ _ _
theorem dd_x_h (p n : dd_R) : dd_g A h (dd_x A h p n) = 0 := by
  rw [dd_x_g, Int.neg_mul, Int.mul_comm (dd_g A h n)]; omega
theorem dd_x_zero {p n : dd_R} (hp : dd_In A W K p) (hn : dd_In A W K n) (p0 : 0 < dd_g A h p) (n0 : dd_g A h n < 0) {t : Nat} (ht : t < 6) (kt : K t = true) : dd_g A t (dd_x A h p n) = 0 ↔ dd_g A t p = 0 ∧ dd_g A t n = 0 := by
  rw [dd_x_g]
  constructor
  · intro e
    exact ar_2z (by omega) p0 (hp.2 t ht kt) (hn.2 t ht kt) e
  · intro e
    rw [e.1, e.2, Int.mul_zero, Int.mul_zero]; rfl
theorem dd_x_In {p n : dd_R} (hp : dd_In A W K p) (hn : dd_In A W K n) (p0 : 0 < dd_g A h p) (n0 : dd_g A h n < 0) : dd_In A W K (dd_x A h p n) := by
  refine ⟨dd_Z_lin hp.1 hn.1 _ _, fun t ht kt => ?_⟩
  rw [dd_x_g]
  have h1 := Int.mul_nonneg (show 0 ≤ -dd_g A h n by omega) (hp.2 t ht kt)
  have h2 := Int.mul_nonneg (Int.le_of_lt p0) (hn.2 t ht kt)
  omega
theorem dd_x_0 (hP : dd_Pt A W K) {p n : dd_R} (hp : dd_In A W K p) (hn : dd_In A W K n) (z : p ≠ dd_0) (p0 : 0 < dd_g A h p) (n0 : dd_g A h n < 0) : dd_x A h p n ≠ dd_0 := by
  intro e
  apply z
  apply hP p hp.1
  intro t ht kt
  have h1 : dd_g A t (dd_x A h p n) = 0 := by rw [e, dd_g_0]
  exact ((dd_x_zero hp hn p0 n0 ht kt).mp h1).1
theorem dd_sndK (h6 : h < 6) {r : dd_R} (hr : dd_Ext A W K r) (hh : 0 ≤ dd_g A h r) : dd_Ext A W (dd_K K h) r :=
  ⟨(dd_In_K h6).mpr ⟨hr.1, hh⟩, hr.2.1, fun q' i' z' ti => hr.2.2 q' ((dd_In_K h6).mp i').1 z' ((dd_TI_K h6).mp ti).1⟩
theorem dd_sndX (hP : dd_Pt A W K) (h6 : h < 6) {L : List dd_R} (G : dd_Good A W K L) {p n : dd_R} (hp : p ∈ L) (hn : n ∈ L) (p0 : 0 < dd_g A h p) (n0 : dd_g A h n < 0) (ad : dd_Adj A K L p n) : dd_Ext A W (dd_K K h) (dd_x A h p n) := by
  have ep := G.1 p hp
  have en := G.1 n hn
  have ix := dd_x_In (h := h) ep.1 en.1 p0 n0
  have zx := dd_x_0 (h := h) hP ep.1 en.1 ep.2.1 p0 n0
  refine ⟨(dd_In_K h6).mpr ⟨ix, by rw [dd_x_h]; exact Int.le_refl _⟩, zx, fun q' i' z' ti => ?_⟩
  obtain ⟨iq, _⟩ := (dd_In_K h6).mp i'
  obtain ⟨tq, th⟩ := (dd_TI_K h6).mp ti
  have hq' : dd_g A h q' = 0 := th (dd_x_h p n)
  have tpn : ∀ t, t < 6 → K t = true → dd_g A t p = 0 → dd_g A t n = 0 → dd_g A t q' = 0 := fun t ht kt e1 e2 => tq t ht kt ((dd_x_zero ep.1 en.1 p0 n0 ht kt).mpr ⟨e1, e2⟩)
  obtain ⟨t, ht, kt, gp, i1, g1⟩ := dd_pull hP iq ep.1 ep.2.1
  generalize hq1 : dd_lin (dd_g A t p) q' (-(dd_g A t q')) p = q1 at i1 g1
  obtain ⟨s, hs, ks, gn, i2, g2⟩ := dd_pull hP i1 en.1 en.2.1
  generalize hq2 : dd_lin (dd_g A s n) q1 (-(dd_g A s q1)) n = q2 at i2 g2
  have gt2 : dd_g A t q2 = 0 := by
    have a1 := i2.2 t ht kt
    have a2 := en.1.2 t ht kt
    have a3 := i1.2 s hs ks
    rw [← hq2, dd_g_lin, g1, Int.mul_zero, Int.neg_mul] at a1 ⊢
    have := Int.mul_nonneg a3 a2
    omega
  have z2 : q2 = dd_0 := by
    apply Classical.byContradiction
    intro z2
    obtain ⟨m, em, tm⟩ := dd_face hP _ q2 (Nat.le_refl _) i2 z2
    obtain ⟨r, hr, pr⟩ := G.2.1 m em
    have hr' : r = p ∨ r = n := by
      apply ad r hr
      intro u hu ku e1 e2
      have e3 : dd_g A u q1 = 0 := by
        rw [← hq1, dd_g_lin, tpn u hu ku e1 e2, e1, Int.mul_zero, Int.mul_zero]; rfl
      have e4 : dd_g A u q2 = 0 := by
        rw [← hq2, dd_g_lin, e3, e2, Int.mul_zero, Int.mul_zero]; rfl
      exact (dd_par_zero pr u).mpr (tm u hu ku e4)
    rcases hr' with e | e
    · have := (dd_par_zero pr t).mpr (tm t ht kt gt2)
      rw [e] at this
      omega
    · have := (dd_par_zero pr s).mpr (tm s hs ks g2)
      rw [e] at this
      omega
  rw [z2] at hq2
  have e2 := dd_lin0 hq2
  -- sc (g s q1) n = sc (g s n) q1,  q1 = g t p q' - g t q' p
  have hq1h : dd_g A h q1 = -(dd_g A t q' * dd_g A h p) := by
    rw [← hq1, dd_g_lin, hq', Int.mul_zero, Int.neg_mul]; omega
  have eh := dd_sc_g (A := A) e2 h
  rw [hq1h] at eh
  refine dd_par_of hP ix iq z' (a := dd_g A h p * (dd_g A s n * dd_g A t p)) (b := dd_g A s q1) (Int.mul_pos p0 (Int.mul_pos gn gp)) ?_
  have c1 : dd_g A s q1 * n.1 = dd_g A s n * q1.1 := congrArg (fun x : dd_R => x.1) e2
  have c2 : dd_g A s q1 * n.2.1 = dd_g A s n * q1.2.1 := congrArg (fun x : dd_R => x.2.1) e2
  have c3 : dd_g A s q1 * n.2.2.1 = dd_g A s n * q1.2.2.1 := congrArg (fun x : dd_R => x.2.2.1) e2
  have c4 : dd_g A s q1 * n.2.2.2 = dd_g A s n * q1.2.2.2 := congrArg (fun x : dd_R => x.2.2.2) e2
  have d1 : dd_g A t p * q'.1 + -(dd_g A t q') * p.1 = q1.1 := congrArg (fun x : dd_R => x.1) hq1
  have d2 : dd_g A t p * q'.2.1 + -(dd_g A t q') * p.2.1 = q1.2.1 := congrArg (fun x : dd_R => x.2.1) hq1
  have d3 : dd_g A t p * q'.2.2.1 + -(dd_g A t q') * p.2.2.1 = q1.2.2.1 := congrArg (fun x : dd_R => x.2.2.1) hq1
  have d4 : dd_g A t p * q'.2.2.2 + -(dd_g A t q') * p.2.2.2 = q1.2.2.2 := congrArg (fun x : dd_R => x.2.2.2) hq1
  refine dd_ext ?_ ?_ ?_ ?_ <;> simp only [dd_sc, dd_x, dd_lin]
  · exact ar_fin eh c1 d1
  · exact ar_fin eh c2 d2
  · exact ar_fin eh c3 d3
  · exact ar_fin eh c4 d4
theorem dd_distKX {L : List dd_R} (G : dd_Good A W K L) {r p n : dd_R} (hr : r ∈ L) (hp : p ∈ L) (hn : n ∈ L) (p0 : 0 < dd_g A h p) (n0 : dd_g A h n < 0) (e : dd_par r (dd_x A h p n)) : False := by
  have ep := G.1 p hp
  have en := G.1 n hn
  have er := G.1 r hr
  have h0 : dd_g A h r = 0 := (dd_par_zero e h).mpr (dd_x_h p n)
  have ti : dd_TI A K r p := fun t ht kt z => ((dd_x_zero ep.1 en.1 p0 n0 ht kt).mp ((dd_par_zero e t).mp z)).1
  have := (dd_par_zero (A := A) (er.2.2 p ep.1 ep.2.1 ti) h).mpr h0
  omega
theorem dd_distXX {L : List dd_R} (G : dd_Good A W K L) {p n p' n' : dd_R} (hp : p ∈ L) (hn : n ∈ L) (hp' : p' ∈ L) (hn' : n' ∈ L) (p0 : 0 < dd_g A h p) (n0 : dd_g A h n < 0) (p0' : 0 < dd_g A h p') (n0' : dd_g A h n' < 0) (ad : dd_Adj A K L p n) (e : dd_par (dd_x A h p n) (dd_x A h p' n')) : p' = p ∧ n' = n := by
  have ep := G.1 p hp
  have en := G.1 n hn
  have ep' := G.1 p' hp'
  have en' := G.1 n' hn'
  have key : ∀ t, t < 6 → K t = true → dd_g A t p = 0 → dd_g A t n = 0 → dd_g A t p' = 0 ∧ dd_g A t n' = 0 := fun t ht kt e1 e2 =>
    (dd_x_zero ep'.1 en'.1 p0' n0' ht kt).mp ((dd_par_zero e t).mp ((dd_x_zero ep.1 en.1 p0 n0 ht kt).mpr ⟨e1, e2⟩))
  constructor
  · rcases ad p' hp' (fun t ht kt e1 e2 => (key t ht kt e1 e2).1) with e | e
    · exact e
    · rw [e] at p0'; omega
  · rcases ad n' hn' (fun t ht kt e1 e2 => (key t ht kt e1 e2).2) with e | e
    · rw [e] at n0'; omega
    · exact e
theorem dd_comp (hP : dd_Pt A W K) (h6 : h < 6) {L : List dd_R} (G : dd_Good A W K L) {q : dd_R} (hq : dd_Ext A W (dd_K K h) q) :
    (∃ r, r ∈ L ∧ 0 ≤ dd_g A h r ∧ dd_par r q) ∨ (∃ p n, p ∈ L ∧ n ∈ L ∧ 0 < dd_g A h p ∧ dd_g A h n < 0 ∧ dd_Adj A K L p n ∧ dd_par (dd_x A h p n) q) := by
  have i := (dd_In_K h6).mp hq.1
  by_cases e : dd_Ext A W K q
  · obtain ⟨r, hr, pr⟩ := G.2.1 q e
    exact Or.inl ⟨r, hr, ((dd_In_K h6).mp (dd_par_In pr hq.1)).2, pr⟩
  · refine Or.inr ?_
    have hz : dd_g A h q = 0 := by
      apply Classical.byContradiction
      intro hz
      apply e
      refine ⟨i.1, hq.2.1, fun q' i' z' ti => ?_⟩
      obtain ⟨a, b, ha, e'⟩ := dd_pert hq i'.1 ((dd_TI_K h6).mpr ⟨ti, fun z => absurd z hz⟩)
      exact dd_par_of hP i.1 i' z' ha e'
    obtain ⟨q', i', z', ti, np⟩ := dd_notExt i.1 hq.2.1 e
    have hq' : dd_g A h q' ≠ 0 := by
      intro z
      obtain ⟨a, b, ha, e'⟩ := dd_star h6 hq i'.1 ti z
      exact np (dd_par_of hP i.1 i' z' ha e')
    have pos : ∀ {t : Nat} {r : dd_R}, t < 6 → K t = true → dd_TI A K q r → 0 < dd_g A t r → 0 < dd_g A t q := by
      intro t r ht kt tr gr
      have h1 := i.1.2 t ht kt
      by_cases z : dd_g A t q = 0
      · have := tr t ht kt z
        omega
      · omega
    -- pulling q by a ray of its face gives an extreme ray of the other sign
    have mk : ∀ r : dd_R, dd_In A W K r → r ≠ dd_0 → dd_TI A K q r → dd_g A h r ≠ 0 → ∃ u, dd_Ext A W K u ∧ dd_TI A K q u ∧ (0 < dd_g A h r → dd_g A h u < 0) ∧ (dd_g A h r < 0 → 0 < dd_g A h u) ∧ ∃ t, t < 6 ∧ K t = true ∧ dd_g A t u = 0 ∧ 0 < dd_g A t q := by
      intro r ir zr tr hr
      obtain ⟨t, ht, kt, gt, i1, g1⟩ := dd_pull hP i.1 ir zr
      have gq := pos ht kt tr gt
      have hu : dd_g A h (dd_lin (dd_g A t r) q (-(dd_g A t q)) r) = -(dd_g A t q * dd_g A h r) := by
        rw [dd_g_lin, hz, Int.mul_zero, Int.neg_mul]; omega
      have tu : dd_TI A K q (dd_lin (dd_g A t r) q (-(dd_g A t q)) r) := dd_TI_lin (dd_TI_refl q) tr _ _
      have hn : dd_g A h (dd_lin (dd_g A t r) q (-(dd_g A t q)) r) ≠ 0 := by
        rw [hu]
        intro z
        have := ar_z' (a := dd_g A t q) (x := dd_g A h r) (by omega) (by omega)
        exact hr this
      refine ⟨_, dd_E hP h6 hq i1 (fun z => hn (by rw [z, dd_g_0])) tu hn ht kt g1 gq, tu, ?_, ?_, t, ht, kt, g1, gq⟩
      · intro p
        have := Int.mul_pos gq p
        omega
      · intro p
        have := Int.mul_pos gq (show 0 < -dd_g A h r by omega)
        rw [Int.mul_neg] at this
        omega
    have key : ∃ u w, (dd_Ext A W K u ∧ dd_TI A K q u ∧ 0 < dd_g A h u ∧ ∃ t, t < 6 ∧ K t = true ∧ dd_g A t u = 0 ∧ 0 < dd_g A t q) ∧ (dd_Ext A W K w ∧ dd_TI A K q w ∧ dd_g A h w < 0 ∧ ∃ t, t < 6 ∧ K t = true ∧ dd_g A t w = 0 ∧ 0 < dd_g A t q) := by
      obtain ⟨u, eu, tu, u1, u2, wu⟩ := mk q' i' z' ti hq'
      by_cases c : 0 < dd_g A h q'
      · have hu := u1 c
        obtain ⟨w, ew, tw, w1, w2, ww⟩ := mk u eu.1 eu.2.1 tu (by omega)
        exact ⟨w, u, ⟨ew, tw, w2 hu, ww⟩, ⟨eu, tu, hu, wu⟩⟩
      · have hu := u2 (by omega)
        obtain ⟨w, ew, tw, w1, w2, ww⟩ := mk u eu.1 eu.2.1 tu (by omega)
        exact ⟨u, w, ⟨eu, tu, hu, wu⟩, ⟨ew, tw, w1 hu, ww⟩⟩
    obtain ⟨u, w, ⟨eu, tu, hu, t, ht, kt, gtu, gtq⟩, ⟨ew, tw, hw, s, hs, ks, gsw, gsq⟩⟩ := key
    obtain ⟨p, hp, pp⟩ := G.2.1 u eu
    obtain ⟨n, hn, pn⟩ := G.2.1 w ew
    have p0 := dd_par_pos pp h hu
    have n0 := dd_par_neg pn h hw
    have ep := G.1 p hp
    have en := G.1 n hn
    have tp : dd_TI A K q p := fun t ht kt z => (dd_par_zero pp t).mpr (tu t ht kt z)
    have tn : dd_TI A K q n := fun t ht kt z => (dd_par_zero pn t).mpr (tw t ht kt z)
    have gtp := (dd_par_zero (A := A) pp t).mpr gtu
    have gsn := (dd_par_zero (A := A) pn s).mpr gsw
    refine ⟨p, n, hp, hn, p0, n0, ?_, ?_⟩
    · intro m hm hmT
      have em := G.1 m hm
      have tm : dd_TI A K q m := fun t ht kt z => hmT t ht kt (tp t ht kt z) (tn t ht kt z)
      rcases Int.lt_trichotomy (dd_g A h m) 0 with c | c | c
      · right
        obtain ⟨a, b, ha, e'⟩ := dd_star h6 hq (dd_Z_lin em.1.1 en.1.1 (-(dd_g A h n)) (dd_g A h m)) (dd_TI_lin tm tn _ _) (by
          rw [dd_g_lin, Int.neg_mul, Int.mul_comm (dd_g A h n)]; omega)
        have f := fun t => dd_sc_g (A := A) e' t
        simp only [dd_g_lin] at f
        have b0 : 0 ≤ b := by
          have f1 := f s
          rw [gsn, Int.mul_zero, Int.add_zero] at f1
          have h1 := Int.mul_nonneg (Int.le_of_lt ha) (Int.mul_nonneg (show 0 ≤ -dd_g A h n by omega) (em.1.2 s hs ks))
          by_cases bb : 0 ≤ b
          · exact bb
          · have h2 := Int.mul_pos (show 0 < -b by omega) gsq
            rw [Int.neg_mul] at h2
            omega
        by_cases bz : b = 0
        · have d0 : dd_lin (-(dd_g A h n)) m (dd_g A h m) n = dd_0 := by
            apply dd_sc0 (a := a) (by omega)
            rw [e', bz, dd_sc_0]
          have d1 : dd_lin (-(dd_g A h n)) m (-(-(dd_g A h m))) n = dd_0 := by rw [Int.neg_neg]; exact d0
          have d2 := dd_lin0 d1
          exact G.2.2 m n hm hn ⟨_, _, show 0 < -dd_g A h n by omega, show 0 < -dd_g A h m by omega, d2.symm⟩
        · exfalso
          have tmq : dd_TI A K m q := by
            intro v hv kv z
            have f1 := f v
            rw [z, Int.mul_zero, Int.zero_add] at f1
            have h1 := ar_np (b := dd_g A h m) (x := dd_g A v n) (by omega) (en.1.2 v hv kv)
            have h2 := ar_np (b := dd_g A h m * dd_g A v n) (x := a) h1 (by omega)
            rw [Int.mul_comm] at h2
            exact ar_z (show 0 < b by omega) (i.1.2 v hv kv) (by omega)
          have := (dd_par_zero (A := A) (em.2.2 q i.1 hq.2.1 tmq) h).mp hz
          omega
      · exfalso
        obtain ⟨a, b, ha, e'⟩ := dd_star h6 hq em.1.1 tm c
        exact e (dd_par_Ext (dd_par_symm (dd_par_of hP i.1 em.1 em.2.1 ha e')) em)
      · left
        obtain ⟨a, b, ha, e'⟩ := dd_star h6 hq (dd_Z_lin em.1.1 ep.1.1 (dd_g A h p) (-(dd_g A h m))) (dd_TI_lin tm tp _ _) (by
          rw [dd_g_lin, Int.neg_mul, Int.mul_comm (dd_g A h p)]; omega)
        have f := fun t => dd_sc_g (A := A) e' t
        simp only [dd_g_lin] at f
        have b0 : 0 ≤ b := by
          have f1 := f t
          rw [gtp, Int.mul_zero, Int.add_zero] at f1
          have h1 := Int.mul_nonneg (Int.le_of_lt ha) (Int.mul_nonneg (Int.le_of_lt p0) (em.1.2 t ht kt))
          by_cases bb : 0 ≤ b
          · exact bb
          · have h2 := Int.mul_pos (show 0 < -b by omega) gtq
            rw [Int.neg_mul] at h2
            omega
        by_cases bz : b = 0
        · have d0 : dd_lin (dd_g A h p) m (-(dd_g A h m)) p = dd_0 := by
            apply dd_sc0 (a := a) (by omega)
            rw [e', bz, dd_sc_0]
          have d2 := dd_lin0 d0
          exact G.2.2 m p hm hp ⟨_, _, p0, c, d2.symm⟩
        · exfalso
          have tmq : dd_TI A K m q := by
            intro v hv kv z
            have f1 := f v
            rw [z, Int.mul_zero, Int.zero_add] at f1
            have h1 := ar_np (b := -(dd_g A h m)) (x := dd_g A v p) (by omega) (ep.1.2 v hv kv)
            have h2 := ar_np (b := -(dd_g A h m) * dd_g A v p) (x := a) h1 (by omega)
            rw [Int.mul_comm] at h2
            exact ar_z (show 0 < b by omega) (i.1.2 v hv kv) (by omega)
          have := (dd_par_zero (A := A) (em.2.2 q i.1 hq.2.1 tmq) h).mp hz
          omega
    · have ix := dd_x_In (h := h) ep.1 en.1 p0 n0
      have zx := dd_x_0 (h := h) hP ep.1 en.1 ep.2.1 p0 n0
      obtain ⟨a, b, ha, e'⟩ := dd_star h6 hq ix.1 (dd_TI_lin tp tn _ _) (dd_x_h p n)
      exact dd_par_of hP i.1 ix zx ha e'
end
end
section
/-! greatest common divisors, primitive rays -/
def dd_gcd (q : dd_R) : Nat := Nat.gcd (Nat.gcd (Nat.gcd (Nat.gcd 0 q.1.natAbs) q.2.1.natAbs) q.2.2.1.natAbs) q.2.2.2.natAbs
def dd_nrm (q : dd_R) : dd_R := (q.1 / (dd_gcd q : Int), q.2.1 / (dd_gcd q : Int), q.2.2.1 / (dd_gcd q : Int), q.2.2.2 / (dd_gcd q : Int))
theorem dd_gcd_d4 (q : dd_R) : dd_gcd q ∣ q.2.2.2.natAbs := Nat.gcd_dvd_right _ _
theorem dd_gcd_d3 (q : dd_R) : dd_gcd q ∣ q.2.2.1.natAbs := Nat.dvd_trans (Nat.gcd_dvd_left _ _) (Nat.gcd_dvd_right _ _)
theorem dd_gcd_d2 (q : dd_R) : dd_gcd q ∣ q.2.1.natAbs := Nat.dvd_trans (Nat.gcd_dvd_left _ _) (Nat.dvd_trans (Nat.gcd_dvd_left _ _) (Nat.gcd_dvd_right _ _))
theorem dd_gcd_d1 (q : dd_R) : dd_gcd q ∣ q.1.natAbs := Nat.dvd_trans (Nat.gcd_dvd_left _ _) (Nat.dvd_trans (Nat.gcd_dvd_left _ _) (Nat.dvd_trans (Nat.gcd_dvd_left _ _) (Nat.gcd_dvd_right _ _)))
theorem dd_dvdI {n : Nat} {x : Int} (h : n ∣ x.natAbs) : (n : Int) * (x / (n : Int)) = x := Int.mul_ediv_cancel' (Int.ofNat_dvd_left.mpr h)
theorem dd_nrm_sc (q : dd_R) : dd_sc (dd_gcd q : Int) (dd_nrm q) = q :=
  dd_ext (dd_dvdI (dd_gcd_d1 q)) (dd_dvdI (dd_gcd_d2 q)) (dd_dvdI (dd_gcd_d3 q)) (dd_dvdI (dd_gcd_d4 q))
theorem dd_gcd_pos {q : dd_R} (h : q ≠ dd_0) : 0 < dd_gcd q := by
  apply Nat.pos_of_ne_zero
  intro e
  apply h
  have h1 := dd_gcd_d1 q
  have h2 := dd_gcd_d2 q
  have h3 := dd_gcd_d3 q
  have h4 := dd_gcd_d4 q
  rw [e] at h1 h2 h3 h4
  have f : ∀ x : Int, 0 ∣ x.natAbs → x = 0 := fun x d => Int.natAbs_eq_zero.mp (Nat.eq_zero_of_zero_dvd d)
  exact dd_ext (f _ h1) (f _ h2) (f _ h3) (f _ h4)
theorem dd_nrm_par {q : dd_R} (h : q ≠ dd_0) : dd_par (dd_nrm q) q := by
  refine ⟨(dd_gcd q : Int), 1, by have := dd_gcd_pos h; omega, by decide, ?_⟩
  rw [dd_nrm_sc]
  refine dd_ext ?_ ?_ ?_ ?_ <;> simp only [dd_sc, Int.one_mul]
theorem dd_gcd_sc (a : Int) (q : dd_R) : dd_gcd (dd_sc a q) = a.natAbs * dd_gcd q := by
  simp only [dd_gcd, dd_sc, Int.natAbs_mul, Nat.gcd_zero_left, Nat.gcd_mul_left]
theorem dd_nrm_gcd {q : dd_R} (h : q ≠ dd_0) : dd_gcd (dd_nrm q) = 1 := by
  have e := dd_gcd_sc (dd_gcd q : Int) (dd_nrm q)
  rw [dd_nrm_sc, Int.natAbs_natCast] at e
  have p := dd_gcd_pos h
  exact (Nat.eq_of_mul_eq_mul_left p (by omega : dd_gcd q * 1 = dd_gcd q * dd_gcd (dd_nrm q))).symm
theorem ar_can {a x y : Int} (ha : a ≠ 0) (h : a * x = a * y) : x = y := Int.eq_of_mul_eq_mul_left ha h
theorem dd_par_eq {q r : dd_R} (h : dd_par q r) (hq : dd_gcd q = 1) (hr : dd_gcd r = 1) : q = r := by
  obtain ⟨a, b, ha, hb, e⟩ := h
  have e1 := congrArg dd_gcd e
  rw [dd_gcd_sc, dd_gcd_sc, hq, hr] at e1
  have e2 : a = b := by omega
  subst e2
  have ha' : a ≠ 0 := by omega
  exact dd_ext (ar_can ha' (congrArg (fun x : dd_R => x.1) e)) (ar_can ha' (congrArg (fun x : dd_R => x.2.1) e)) (ar_can ha' (congrArg (fun x : dd_R => x.2.2.1) e)) (ar_can ha' (congrArg (fun x : dd_R => x.2.2.2) e))
/-! lists of rays with their masks, and the step as the component makes it -/
def dd_kp (A : Nat → Nat → Int) (o : Nat) (e : dd_R × Nat) : List (dd_R × Nat) :=
  if dd_g A (o + 3) e.1 < 0 then [] else [(e.1, if dd_g A (o + 3) e.1 = 0 then e.2 ||| 8 <<< o else e.2)]
def dd_kept (A : Nat → Nat → Int) (o : Nat) (L : List (dd_R × Nat)) : List (dd_R × Nat) := L.flatMap (dd_kp A o)
def dd_at (L : List (dd_R × Nat)) (k : Nat) : dd_R × Nat := L.getD k (dd_0, 0)
def dd_inc (m c : Nat) : Bool := (m &&& c) == c
def dd_adj (L : List (dd_R × Nat)) (k l : Nat) : Bool :=
  (List.range L.length).all fun m => m == k || m == l || !(dd_inc (dd_at L m).2 ((dd_at L k).2 &&& (dd_at L l).2))
def dd_cr (A : Nat → Nat → Int) (o : Nat) (L : List (dd_R × Nat)) (k l : Nat) : List (dd_R × Nat) :=
  if 0 < dd_g A (o + 3) (dd_at L k).1 ∧ dd_g A (o + 3) (dd_at L l).1 < 0 ∧ dd_adj L k l = true then
    [(dd_nrm (dd_x A (o + 3) (dd_at L k).1 (dd_at L l).1), ((dd_at L k).2 &&& (dd_at L l).2) ||| 8 <<< o)] else []
def dd_row (A : Nat → Nat → Int) (o : Nat) (L : List (dd_R × Nat)) (k : Nat) : List (dd_R × Nat) := (List.range L.length).flatMap (dd_cr A o L k)
def dd_crs (A : Nat → Nat → Int) (o : Nat) (L : List (dd_R × Nat)) : List (dd_R × Nat) := (List.range L.length).flatMap (dd_row A o L)
def dd_step (A : Nat → Nat → Int) (o : Nat) (L : List (dd_R × Nat)) : List (dd_R × Nat) := dd_kept A o L ++ dd_crs A o L
def dd_Msk (A : Nat → Nat → Int) (K : Nat → Bool) (e : dd_R × Nat) : Prop := e.2 < 64 ∧ ∀ t, t < 6 → e.2.testBit t = (K t && decide (dd_g A t e.1 = 0))
def dd_Inv (A : Nat → Nat → Int) (W K : Nat → Bool) (L : List (dd_R × Nat)) : Prop :=
  dd_Good A W K (L.map Prod.fst) ∧ (L.map Prod.fst).Nodup ∧ (∀ e, e ∈ L → dd_gcd e.1 = 1) ∧ (∀ e, e ∈ L → dd_Msk A K e)
theorem dd_at_mem {L : List (dd_R × Nat)} {k : Nat} (h : k < L.length) : dd_at L k ∈ L := by
  rw [dd_at, List.getD_eq_getElem?_getD, List.getElem?_eq_getElem h]
  exact List.getElem_mem h
theorem dd_at_fst {L : List (dd_R × Nat)} {k : Nat} (h : k < L.length) : (dd_at L k).1 ∈ L.map Prod.fst := List.mem_map.mpr ⟨_, dd_at_mem h, rfl⟩
theorem dd_at_of {L : List (dd_R × Nat)} {e : dd_R × Nat} (h : e ∈ L) : ∃ k, k < L.length ∧ dd_at L k = e := by
  obtain ⟨k, hk, rfl⟩ := List.mem_iff_getElem.mp h
  refine ⟨k, hk, ?_⟩
  rw [dd_at, List.getD_eq_getElem?_getD, List.getElem?_eq_getElem hk]
  rfl
theorem dd_at_inj {L : List (dd_R × Nat)} (hn : (L.map Prod.fst).Nodup) {j k : Nat} (hj : j < L.length) (hk : k < L.length) (e : (dd_at L j).1 = (dd_at L k).1) : j = k := by
  have f : ∀ i (hi : i < L.length), (dd_at L i).1 = (L.map Prod.fst)[i]'(by rw [List.length_map]; exact hi) := by
    intro i hi
    rw [List.getElem_map, dd_at, List.getD_eq_getElem?_getD, List.getElem?_eq_getElem hi]
    rfl
  rw [f j hj, f k hk] at e
  exact (List.getElem_inj hn).mp e
theorem dd_msk_t {A : Nat → Nat → Int} {K : Nat → Bool} {e : dd_R × Nat} (h : dd_Msk A K e) {t : Nat} (ht : t < 6) : e.2.testBit t = true ↔ K t = true ∧ dd_g A t e.1 = 0 := by
  rw [h.2 t ht, Bool.and_eq_true, decide_eq_true_eq]
theorem dd_inc_iff {m c : Nat} (hc : c < 64) : dd_inc m c = true ↔ ∀ t, t < 6 → c.testBit t = true → m.testBit t = true := by
  rw [dd_inc, beq_iff_eq]
  constructor
  · intro e t _ h
    rw [← e, Nat.testBit_and, Bool.and_eq_true] at h
    exact h.1
  · intro h
    apply Nat.eq_of_testBit_eq
    intro t
    rw [Nat.testBit_and]
    by_cases ht : t < 6
    · cases hb : c.testBit t with
      | false => simp
      | true => rw [h t ht hb]; rfl
    · have : c.testBit t = false := Nat.testBit_lt_two_pow (Nat.lt_of_lt_of_le hc (Nat.pow_le_pow_right (n := 2) (by decide) (show 6 ≤ t by omega)))
      rw [this, Bool.and_false]
theorem dd_and64 {a b : Nat} (h : a < 64) : a &&& b < 64 := Nat.lt_of_le_of_lt Nat.and_le_left h
theorem dd_adj_iff {A : Nat → Nat → Int} {W K : Nat → Bool} {L : List (dd_R × Nat)} (I : dd_Inv A W K L) {k l : Nat} (hk : k < L.length) (hl : l < L.length) : dd_adj L k l = true ↔ dd_Adj A K (L.map Prod.fst) (dd_at L k).1 (dd_at L l).1 := by
  have mk := I.2.2.2 _ (dd_at_mem hk)
  have ml := I.2.2.2 _ (dd_at_mem hl)
  have hc : (dd_at L k).2 &&& (dd_at L l).2 < 64 := dd_and64 mk.1
  have inc : ∀ j, j < L.length → (dd_inc (dd_at L j).2 ((dd_at L k).2 &&& (dd_at L l).2) = true ↔ ∀ t, t < 6 → K t = true → dd_g A t (dd_at L k).1 = 0 → dd_g A t (dd_at L l).1 = 0 → dd_g A t (dd_at L j).1 = 0) := by
    intro j hj
    have mj := I.2.2.2 _ (dd_at_mem hj)
    rw [dd_inc_iff hc]
    constructor
    · intro h t ht kt e1 e2
      refine ((dd_msk_t mj ht).mp (h t ht ?_)).2
      rw [Nat.testBit_and, Bool.and_eq_true]
      exact ⟨(dd_msk_t mk ht).mpr ⟨kt, e1⟩, (dd_msk_t ml ht).mpr ⟨kt, e2⟩⟩
    · intro h t ht hb
      rw [Nat.testBit_and, Bool.and_eq_true] at hb
      have b1 := (dd_msk_t mk ht).mp hb.1
      have b2 := (dd_msk_t ml ht).mp hb.2
      exact (dd_msk_t mj ht).mpr ⟨b1.1, h t ht b1.1 b1.2 b2.2⟩
  rw [dd_adj, List.all_eq_true]
  constructor
  · intro H m hm hT
    obtain ⟨e, he, rfl⟩ := List.mem_map.mp hm
    obtain ⟨j, hj, rfl⟩ := dd_at_of he
    have := H j (List.mem_range.mpr hj)
    rw [Bool.or_eq_true, Bool.or_eq_true, beq_iff_eq, beq_iff_eq, Bool.not_eq_true', (inc j hj).mpr hT] at this
    rcases this with (e | e) | e
    · left; rw [e]
    · right; rw [e]
    · exact absurd e (by decide)
  · intro H j hj
    have hj' := List.mem_range.mp hj
    rw [Bool.or_eq_true, Bool.or_eq_true, beq_iff_eq, beq_iff_eq, Bool.not_eq_true']
    cases hb : dd_inc (dd_at L j).2 ((dd_at L k).2 &&& (dd_at L l).2) with
    | false => exact Or.inr rfl
    | true =>
      left
      rcases H (dd_at L j).1 (dd_at_fst hj') ((inc j hj').mp hb) with e | e
      · exact Or.inl (dd_at_inj I.2.1 hj' hk e)
      · exact Or.inr (dd_at_inj I.2.1 hj' hl e)
theorem dd_8 : ∀ o, o < 3 → ∀ t, t < 6 → (8 <<< o).testBit t = (t == o + 3) := by decide
theorem dd_8lt : ∀ o, o < 3 → 8 <<< o < 64 := by decide
theorem dd_or64 {a b : Nat} (h : a < 64) (h' : b < 64) : a ||| b < 64 := Nat.or_lt_two_pow (n := 6) h h'
theorem dd_kp_mem {A : Nat → Nat → Int} {o : Nat} {e e' : dd_R × Nat} (h : e' ∈ dd_kp A o e) : e'.1 = e.1 ∧ 0 ≤ dd_g A (o + 3) e.1 ∧ e'.2 = (if dd_g A (o + 3) e.1 = 0 then e.2 ||| 8 <<< o else e.2) := by
  rw [dd_kp] at h
  by_cases c : dd_g A (o + 3) e.1 < 0
  · rw [if_pos c] at h; exact absurd h List.not_mem_nil
  · rw [if_neg c, List.mem_singleton] at h
    rw [h]
    exact ⟨rfl, by omega, rfl⟩
theorem dd_cr_mem {A : Nat → Nat → Int} {o : Nat} {L : List (dd_R × Nat)} {k l : Nat} {e : dd_R × Nat} (h : e ∈ dd_cr A o L k l) : 0 < dd_g A (o + 3) (dd_at L k).1 ∧ dd_g A (o + 3) (dd_at L l).1 < 0 ∧ dd_adj L k l = true ∧ e.1 = dd_nrm (dd_x A (o + 3) (dd_at L k).1 (dd_at L l).1) ∧ e.2 = ((dd_at L k).2 &&& (dd_at L l).2) ||| 8 <<< o := by
  rw [dd_cr] at h
  by_cases c : 0 < dd_g A (o + 3) (dd_at L k).1 ∧ dd_g A (o + 3) (dd_at L l).1 < 0 ∧ dd_adj L k l = true
  · rw [if_pos c, List.mem_singleton] at h
    rw [h]
    exact ⟨c.1, c.2.1, c.2.2, rfl, rfl⟩
  · rw [if_neg c] at h; exact absurd h List.not_mem_nil
theorem dd_crs_mem {A : Nat → Nat → Int} {o : Nat} {L : List (dd_R × Nat)} {e : dd_R × Nat} (h : e ∈ dd_crs A o L) : ∃ k l, k < L.length ∧ l < L.length ∧ e ∈ dd_cr A o L k l := by
  rw [dd_crs, List.mem_flatMap] at h
  obtain ⟨k, hk, h⟩ := h
  rw [dd_row, List.mem_flatMap] at h
  obtain ⟨l, hl, h⟩ := h
  exact ⟨k, l, List.mem_range.mp hk, List.mem_range.mp hl, h⟩
theorem dd_kept_sub (A : Nat → Nat → Int) (o : Nat) : ∀ L : List (dd_R × Nat), List.Sublist ((dd_kept A o L).map Prod.fst) (L.map Prod.fst) := by
  intro L
  induction L with
  | nil => exact List.Sublist.refl _
  | cons e L ih =>
    rw [dd_kept, List.flatMap_cons, List.map_append, List.map_cons, dd_kp]
    by_cases c : dd_g A (o + 3) e.1 < 0
    · rw [if_pos c]
      exact List.Sublist.cons _ ih
    · rw [if_neg c]
      exact List.Sublist.cons_cons _ ih
section
variable {A : Nat → Nat → Int} {W K : Nat → Bool} {o : Nat} {L : List (dd_R × Nat)}
theorem dd_step_kept (e : dd_R × Nat) (he : e ∈ L) (h0 : 0 ≤ dd_g A (o + 3) e.1) : e.1 ∈ (dd_step A o L).map Prod.fst := by
  refine List.mem_map.mpr ⟨(e.1, if dd_g A (o + 3) e.1 = 0 then e.2 ||| 8 <<< o else e.2), ?_, rfl⟩
  refine List.mem_append_left _ (List.mem_flatMap.mpr ⟨e, he, ?_⟩)
  rw [dd_kp, if_neg (by omega)]
  exact List.mem_singleton.mpr rfl
theorem dd_step_crs {k l : Nat} (hk : k < L.length) (hl : l < L.length) (p0 : 0 < dd_g A (o + 3) (dd_at L k).1) (n0 : dd_g A (o + 3) (dd_at L l).1 < 0) (ad : dd_adj L k l = true) : dd_nrm (dd_x A (o + 3) (dd_at L k).1 (dd_at L l).1) ∈ (dd_step A o L).map Prod.fst := by
  refine List.mem_map.mpr ⟨(dd_nrm (dd_x A (o + 3) (dd_at L k).1 (dd_at L l).1), ((dd_at L k).2 &&& (dd_at L l).2) ||| 8 <<< o), ?_, rfl⟩
  refine List.mem_append_right _ (List.mem_flatMap.mpr ⟨k, List.mem_range.mpr hk, List.mem_flatMap.mpr ⟨l, List.mem_range.mpr hl, ?_⟩⟩)
  rw [dd_cr, if_pos ⟨p0, n0, ad⟩]
  exact List.mem_singleton.mpr rfl
theorem dd_step_inv (hP : dd_Pt A W K) (ho : o < 3) (I : dd_Inv A W K L) : dd_Inv A W (dd_K K (o + 3)) (dd_step A o L) := by
  have G := I.1
  have h6 : o + 3 < 6 := by omega
  have crP : ∀ {k l : Nat} {e : dd_R × Nat}, k < L.length → l < L.length → e ∈ dd_cr A o L k l → dd_x A (o + 3) (dd_at L k).1 (dd_at L l).1 ≠ dd_0 := by
    intro k l e hk hl he
    obtain ⟨p0, n0, _, _, _⟩ := dd_cr_mem he
    exact dd_x_0 hP (G.1 _ (dd_at_fst hk)).1 (G.1 _ (dd_at_fst hl)).1 (G.1 _ (dd_at_fst hk)).2.1 p0 n0
  have snd : ∀ e, e ∈ dd_step A o L → dd_Ext A W (dd_K K (o + 3)) e.1 := by
    intro e he
    rcases List.mem_append.mp he with he | he
    · obtain ⟨e0, h0, he⟩ := List.mem_flatMap.mp he
      obtain ⟨e1, e2, _⟩ := dd_kp_mem he
      rw [e1]
      exact dd_sndK h6 (G.1 _ (List.mem_map.mpr ⟨e0, h0, rfl⟩)) e2
    · obtain ⟨k, l, hk, hl, he⟩ := dd_crs_mem he
      obtain ⟨p0, n0, ad, e1, _⟩ := dd_cr_mem he
      rw [e1]
      exact dd_par_Ext (dd_nrm_par (crP hk hl he)) (dd_sndX hP h6 G (dd_at_fst hk) (dd_at_fst hl) p0 n0 ((dd_adj_iff I hk hl).mp ad))
  have prm : ∀ e, e ∈ dd_step A o L → dd_gcd e.1 = 1 := by
    intro e he
    rcases List.mem_append.mp he with he | he
    · obtain ⟨e0, h0, he⟩ := List.mem_flatMap.mp he
      obtain ⟨e1, _, _⟩ := dd_kp_mem he
      rw [e1]
      exact I.2.2.1 e0 h0
    · obtain ⟨k, l, hk, hl, he⟩ := dd_crs_mem he
      obtain ⟨_, _, _, e1, _⟩ := dd_cr_mem he
      rw [e1]
      exact dd_nrm_gcd (crP hk hl he)
  refine ⟨⟨?_, ?_, ?_⟩, ?_, prm, ?_⟩
  · intro r hr
    obtain ⟨e, he, rfl⟩ := List.mem_map.mp hr
    exact snd e he
  · intro q hq
    rcases dd_comp hP h6 G hq with ⟨r, hr, h0, pr⟩ | ⟨p, n, hp, hn, p0, n0, ad, px⟩
    · obtain ⟨e, he, rfl⟩ := List.mem_map.mp hr
      exact ⟨e.1, dd_step_kept e he h0, pr⟩
    · obtain ⟨ep, hep, rfl⟩ := List.mem_map.mp hp
      obtain ⟨en, hen, rfl⟩ := List.mem_map.mp hn
      obtain ⟨k, hk, rfl⟩ := dd_at_of hep
      obtain ⟨l, hl, rfl⟩ := dd_at_of hen
      refine ⟨_, dd_step_crs hk hl p0 n0 ((dd_adj_iff I hk hl).mpr ad), ?_⟩
      refine dd_par_trans (dd_nrm_par ?_) px
      exact dd_x_0 hP (G.1 _ (dd_at_fst hk)).1 (G.1 _ (dd_at_fst hl)).1 (G.1 _ (dd_at_fst hk)).2.1 p0 n0
  · intro r s hr hs pr
    obtain ⟨e, he, rfl⟩ := List.mem_map.mp hr
    obtain ⟨f, hf, rfl⟩ := List.mem_map.mp hs
    exact dd_par_eq pr (prm e he) (prm f hf)
  · rw [dd_step, List.map_append, List.nodup_append]
    refine ⟨(dd_kept_sub A o L).nodup I.2.1, ?_, ?_⟩
    · show List.Pairwise _ _
      rw [List.pairwise_map, dd_crs, List.pairwise_flatMap]
      have key : ∀ {k l k' l' : Nat} {e e' : dd_R × Nat}, k < L.length → l < L.length → k' < L.length → l' < L.length → e ∈ dd_cr A o L k l → e' ∈ dd_cr A o L k' l' → e.1 = e'.1 → k' = k ∧ l' = l := by
        intro k l k' l' e e' hk hl hk' hl' he he' ee
        obtain ⟨p0, n0, ad, e1, _⟩ := dd_cr_mem he
        obtain ⟨p0', n0', ad', e1', _⟩ := dd_cr_mem he'
        have pr : dd_par (dd_x A (o + 3) (dd_at L k).1 (dd_at L l).1) (dd_x A (o + 3) (dd_at L k').1 (dd_at L l').1) := by
          refine dd_par_trans (dd_par_symm (dd_nrm_par (crP hk hl he))) ?_
          rw [← e1, ee, e1']
          exact dd_nrm_par (crP hk' hl' he')
        obtain ⟨a, b⟩ := dd_distXX G (dd_at_fst hk) (dd_at_fst hl) (dd_at_fst hk') (dd_at_fst hl') p0 n0 p0' n0' ((dd_adj_iff I hk hl).mp ad) pr
        exact ⟨dd_at_inj I.2.1 hk' hk a, dd_at_inj I.2.1 hl' hl b⟩
      refine ⟨fun k hk => ?_, ?_⟩
      · rw [dd_row, List.pairwise_flatMap]
        refine ⟨fun l hl => ?_, ?_⟩
        · rw [dd_cr]
          by_cases c : 0 < dd_g A (o + 3) (dd_at L k).1 ∧ dd_g A (o + 3) (dd_at L l).1 < 0 ∧ dd_adj L k l = true
          · rw [if_pos c]; exact List.pairwise_singleton _ _
          · rw [if_neg c]; exact List.Pairwise.nil
        · refine List.Pairwise.imp_of_mem ?_ List.pairwise_lt_range
          intro l l' hl hl' hlt e he e' he' ee
          have := (key (List.mem_range.mp hk) (List.mem_range.mp hl) (List.mem_range.mp hk) (List.mem_range.mp hl') he he' ee).2
          omega
      · refine List.Pairwise.imp_of_mem ?_ List.pairwise_lt_range
        intro k k' hk hk' hlt e he e' he' ee
        obtain ⟨l, hl, he⟩ := List.mem_flatMap.mp he
        obtain ⟨l', hl', he'⟩ := List.mem_flatMap.mp he'
        have := (key (List.mem_range.mp hk) (List.mem_range.mp hl) (List.mem_range.mp hk') (List.mem_range.mp hl') he he' ee).1
        omega
    · intro r hr s hs ers
      obtain ⟨e, he, rfl⟩ := List.mem_map.mp hr
      obtain ⟨f, hf, rfl⟩ := List.mem_map.mp hs
      obtain ⟨e0, h0, he⟩ := List.mem_flatMap.mp he
      obtain ⟨e1, _, _⟩ := dd_kp_mem he
      obtain ⟨k, l, hk, hl, hf⟩ := dd_crs_mem hf
      obtain ⟨p0, n0, ad, f1, _⟩ := dd_cr_mem hf
      refine dd_distKX G (List.mem_map.mpr ⟨e0, h0, rfl⟩) (dd_at_fst hk) (dd_at_fst hl) p0 n0 ?_
      rw [← e1, ers, f1]
      exact dd_nrm_par (crP hk hl hf)
  · intro e he
    rcases List.mem_append.mp he with he | he
    · obtain ⟨e0, h0, he⟩ := List.mem_flatMap.mp he
      obtain ⟨e1, _, e2⟩ := dd_kp_mem he
      have m0 := I.2.2.2 e0 h0
      by_cases z : dd_g A (o + 3) e0.1 = 0
      · rw [if_pos z] at e2
        refine ⟨by rw [e2]; exact dd_or64 m0.1 (dd_8lt o ho), fun t ht => ?_⟩
        rw [e2, Nat.testBit_or, m0.2 t ht, dd_8 o ho t ht, e1, dd_K]
        by_cases c : t = o + 3
        · rw [c, z]; simp
        · have : (t == o + 3) = false := by simpa using c
          rw [this, Bool.or_false, Bool.or_false]
      · rw [if_neg z] at e2
        refine ⟨by rw [e2]; exact m0.1, fun t ht => ?_⟩
        rw [e2, m0.2 t ht, e1, dd_K]
        by_cases c : t = o + 3
        · rw [c]; simp [z]
        · have : (t == o + 3) = false := by simpa using c
          rw [this, Bool.or_false]
    · obtain ⟨k, l, hk, hl, he⟩ := dd_crs_mem he
      obtain ⟨p0, n0, _, e1, e2⟩ := dd_cr_mem he
      have mk := I.2.2.2 _ (dd_at_mem hk)
      have ml := I.2.2.2 _ (dd_at_mem hl)
      have ek := G.1 _ (dd_at_fst hk)
      have el := G.1 _ (dd_at_fst hl)
      refine ⟨by rw [e2]; exact dd_or64 (dd_and64 mk.1) (dd_8lt o ho), fun t ht => ?_⟩
      rw [e2, Nat.testBit_or, Nat.testBit_and, mk.2 t ht, ml.2 t ht, dd_8 o ho t ht, dd_K]
      have pz := dd_par_zero (A := A) (dd_nrm_par (crP hk hl he)) t
      rw [← e1] at pz
      by_cases c : t = o + 3
      · have z : dd_g A t e.1 = 0 := pz.mpr (by rw [c]; exact dd_x_h _ _)
        rw [z, c]; simp
      · have : (t == o + 3) = false := by simpa using c
        rw [this, Bool.or_false, Bool.or_false]
        cases kt : K t with
        | false => simp
        | true =>
          have xz := dd_x_zero (h := o + 3) ek.1 el.1 p0 n0 ht kt
          simp only [Bool.true_and]
          rw [← Bool.decide_and]
          exact decide_eq_decide.mpr (xz.symm.trans pz.symm)
end
end
section
/-! the first cone, and the cone of all choices -/
def dd_W (own : Nat) : Nat → Bool := fun t => own.testBit t
def dd_KO (own other o : Nat) : Nat → Bool := fun t => if t < 3 then own.testBit t else (decide (t - 3 < o) && other.testBit (t - 3))
def dd_u (A : Nat → Nat → Int) (c s : Nat) : dd_R := (if c = 0 then 1 else 0, if c = 1 then 1 else 0, if c = 2 then 1 else 0, A c s)
def dd_v : dd_R := (0, 0, 0, 1)
def dd_i1 (A : Nat → Nat → Int) (own s c : Nat) : List (dd_R × Nat) := if own.testBit c = true then [(dd_u A c s, (own &&& (7 ^^^ (1 <<< c))) ||| 8 <<< s)] else []
def dd_init (A : Nat → Nat → Int) (own s : Nat) : List (dd_R × Nat) := (List.range 3).flatMap (dd_i1 A own s) ++ [(dd_v, own)]
def dd_low (m : Nat) : Nat := if m.testBit 0 = true then 0 else if m.testBit 1 = true then 1 else 2
def dd_add (A : Nat → Nat → Int) (other o : Nat) (L : List (dd_R × Nat)) : List (dd_R × Nat) := if other.testBit o = true then dd_step A o L else L
def dd_lp (A : Nat → Nat → Int) (other : Nat) : Nat → Nat → List (dd_R × Nat) → List (dd_R × Nat)
  | 0, _, L => L
  | n + 1, o, L => dd_lp A other n (o + 1) (dd_add A other o L)
def dd_all (A : Nat → Nat → Int) (own other : Nat) : List (dd_R × Nat) := dd_lp A other (2 - dd_low other) (dd_low other + 1) (dd_init A own (dd_low other))
theorem dd_Pt_KO (A : Nat → Nat → Int) (own other o j : Nat) (hj : j < o) (h3 : j < 3) (hb : other.testBit j = true) : dd_Pt A (dd_W own) (dd_KO own other o) := by
  intro q z a
  have f : ∀ t, t < 3 → dd_g A t q = 0 := by
    intro t ht
    cases hw : own.testBit t with
    | false => exact z t ht hw
    | true => exact a t (by omega) (by rw [dd_KO, if_pos ht]; exact hw)
  have e1 : q.1 = 0 := f 0 (by decide)
  have e2 : q.2.1 = 0 := f 1 (by decide)
  have e3 : q.2.2.1 = 0 := f 2 (by decide)
  have e4 : q.2.2.2 - (q.1 * A 0 j + q.2.1 * A 1 j + q.2.2.1 * A 2 j) = 0 := a (j + 3) (by omega) (by
    rw [dd_KO, if_neg (by omega), Nat.add_sub_cancel, hb, Bool.and_true]
    exact decide_eq_true hj)
  rw [e1, e2, e3, Int.zero_mul, Int.zero_mul, Int.zero_mul] at e4
  exact dd_ext e1 e2 e3 (show q.2.2.2 = 0 by simpa using e4)
theorem dd_KO_step {own other o : Nat} (hb : other.testBit o = true) : dd_K (dd_KO own other o) (o + 3) = dd_KO own other (o + 1) := by
  funext t
  simp only [dd_K, dd_KO]
  by_cases ht : t < 3
  · rw [if_pos ht, if_pos ht]
    have : (t == o + 3) = false := by simp; omega
    rw [this, Bool.or_false]
  · rw [if_neg ht, if_neg ht]
    by_cases c : t = o + 3
    · subst c
      rw [Nat.add_sub_cancel, hb]
      simp
    · have h1 : (t == o + 3) = false := by simpa using c
      have h2 : decide (t - 3 < o + 1) = decide (t - 3 < o) := decide_eq_decide.mpr (by omega)
      rw [h1, Bool.or_false, h2]
theorem dd_KO_skip {own other o : Nat} (hb : other.testBit o = false) : dd_KO own other o = dd_KO own other (o + 1) := by
  funext t
  simp only [dd_KO]
  by_cases ht : t < 3
  · rw [if_pos ht, if_pos ht]
  · rw [if_neg ht, if_neg ht]
    by_cases c : t - 3 = o
    · rw [c, hb, Bool.and_false, Bool.and_false]
    · have h2 : decide (t - 3 < o + 1) = decide (t - 3 < o) := decide_eq_decide.mpr (by omega)
      rw [h2]
theorem dd_u_g3 (A : Nat → Nat → Int) {c t : Nat} (hc : c < 3) (ht : t < 3) (s : Nat) : dd_g A t (dd_u A c s) = if t = c then 1 else 0 := by
  match c, hc, t, ht with
  | 0, _, 0, _ => rfl
  | 0, _, 1, _ => rfl
  | 0, _, 2, _ => rfl
  | 1, _, 0, _ => rfl
  | 1, _, 1, _ => rfl
  | 1, _, 2, _ => rfl
  | 2, _, 0, _ => rfl
  | 2, _, 1, _ => rfl
  | 2, _, 2, _ => rfl
theorem dd_u_gs (A : Nat → Nat → Int) {c : Nat} (hc : c < 3) (s : Nat) : dd_g A (s + 3) (dd_u A c s) = 0 := by
  match c, hc with
  | 0, _ => simp [dd_g, dd_u]
  | 1, _ => simp [dd_g, dd_u]
  | 2, _ => simp [dd_g, dd_u]
theorem dd_v_g3 (A : Nat → Nat → Int) {t : Nat} (ht : t < 3) : dd_g A t dd_v = 0 := by
  match t, ht with
  | 0, _ => rfl
  | 1, _ => rfl
  | 2, _ => rfl
theorem dd_v_gs (A : Nat → Nat → Int) (s : Nat) : dd_g A (s + 3) dd_v = 1 := by simp [dd_g, dd_v]
theorem dd_m0 : ∀ own, own < 8 → ∀ c, c < 3 → ∀ s, s < 3 → ((own &&& (7 ^^^ (1 <<< c))) ||| 8 <<< s) < 64 ∧ ∀ t, t < 6 → ((own &&& (7 ^^^ (1 <<< c))) ||| 8 <<< s).testBit t = (if t < 3 then own.testBit t && !(t == c) else t == s + 3) := by decide +kernel
theorem dd_m1 : ∀ own, own < 8 → ∀ t, t < 6 → own.testBit t = (if t < 3 then own.testBit t else false) := by decide +kernel
theorem dd_init_mem {A : Nat → Nat → Int} {own s : Nat} {e : dd_R × Nat} (h : e ∈ dd_init A own s) : (∃ c, c < 3 ∧ own.testBit c = true ∧ e = (dd_u A c s, (own &&& (7 ^^^ (1 <<< c))) ||| 8 <<< s)) ∨ e = (dd_v, own) := by
  rcases List.mem_append.mp h with h | h
  · left
    obtain ⟨c, hc, h⟩ := List.mem_flatMap.mp h
    rw [dd_i1] at h
    by_cases b : own.testBit c = true
    · rw [if_pos b, List.mem_singleton] at h
      exact ⟨c, List.mem_range.mp hc, b, h⟩
    · rw [if_neg b] at h; exact absurd h List.not_mem_nil
  · right; exact List.mem_singleton.mp h
theorem dd_init_u {A : Nat → Nat → Int} {own s c : Nat} (hc : c < 3) (b : own.testBit c = true) : dd_u A c s ∈ (dd_init A own s).map Prod.fst := by
  refine List.mem_map.mpr ⟨(dd_u A c s, (own &&& (7 ^^^ (1 <<< c))) ||| 8 <<< s), List.mem_append_left _ (List.mem_flatMap.mpr ⟨c, List.mem_range.mpr hc, ?_⟩), rfl⟩
  rw [dd_i1, if_pos b]
  exact List.mem_singleton.mpr rfl
theorem dd_init_v {A : Nat → Nat → Int} {own s : Nat} : dd_v ∈ (dd_init A own s).map Prod.fst :=
  List.mem_map.mpr ⟨(dd_v, own), List.mem_append_right _ (List.mem_singleton.mpr rfl), rfl⟩
theorem dd_u_gcd (A : Nat → Nat → Int) {c : Nat} (hc : c < 3) (s : Nat) : dd_gcd (dd_u A c s) = 1 := by
  match c, hc with
  | 0, _ => simp [dd_gcd, dd_u]
  | 1, _ => simp [dd_gcd, dd_u]
  | 2, _ => simp [dd_gcd, dd_u]
theorem dd_v_gcd : dd_gcd dd_v = 1 := by decide
theorem dd_init_nodup (A : Nat → Nat → Int) (own s : Nat) : ((dd_init A own s).map Prod.fst).Nodup := by
  have e : ((dd_init A own s).map Prod.fst) = ((if own.testBit 0 = true then [dd_u A 0 s] else []) ++ ((if own.testBit 1 = true then [dd_u A 1 s] else []) ++ (if own.testBit 2 = true then [dd_u A 2 s] else []))) ++ [dd_v] := by
    simp only [dd_init, dd_i1, List.range_succ, List.range_zero, List.nil_append, List.flatMap_append, List.flatMap_cons, List.flatMap_nil, List.append_nil, List.map_append, List.map_cons, List.map_nil]
    split <;> split <;> split <;> simp
  rw [e]
  split <;> split <;> split <;> simp [dd_u, dd_v]
/-- K of the first cone -/
def dd_K0 (own s : Nat) : Nat → Bool := fun t => if t < 3 then own.testBit t else (t == s + 3)
theorem dd_low_spec : ∀ m, m < 8 → 0 < m → dd_low m < 3 ∧ m.testBit (dd_low m) = true ∧ ∀ j, j < dd_low m → m.testBit j = false := by decide +kernel
theorem dd_K0_KO {own other s : Nat} (hs : other.testBit s = true) (hl : ∀ j, j < s → other.testBit j = false) : dd_K0 own s = dd_KO own other (s + 1) := by
  funext t
  simp only [dd_K0, dd_KO]
  by_cases ht : t < 3
  · rw [if_pos ht, if_pos ht]
  · rw [if_neg ht, if_neg ht]
    rcases Nat.lt_trichotomy (t - 3) s with c | c | c
    · rw [hl _ c, Bool.and_false]
      simp; omega
    · rw [c, hs, Bool.and_true]
      have : t = s + 3 := by omega
      subst this
      simp
    · have h1 : decide (t - 3 < s + 1) = false := decide_eq_false (by omega)
      rw [h1, Bool.false_and]
      simp; omega
theorem dd_Pt_K0 (A : Nat → Nat → Int) (own s : Nat) (h3 : s < 3) : dd_Pt A (dd_W own) (dd_K0 own s) := by
  have e : dd_K0 own s = dd_KO own (2 ^ s) (s + 1) := dd_K0_KO (Nat.testBit_two_pow_self) (fun j hj => Nat.testBit_two_pow_of_ne (by omega))
  rw [e]
  exact dd_Pt_KO A own (2 ^ s) (s + 1) s (by omega) h3 Nat.testBit_two_pow_self
theorem dd_K0_t {own s t : Nat} (h : dd_K0 own s t = true) : (t < 3 ∧ own.testBit t = true) ∨ t = s + 3 := by
  rw [dd_K0] at h
  by_cases ht : t < 3
  · rw [if_pos ht] at h; exact Or.inl ⟨ht, h⟩
  · rw [if_neg ht] at h; exact Or.inr (by simpa using h)
theorem dd_init_inv (A : Nat → Nat → Int) {own s : Nat} (ho : own < 8) (hs : s < 3) : dd_Inv A (dd_W own) (dd_K0 own s) (dd_init A own s) := by
  have hP := dd_Pt_K0 A own s hs
  have inU : ∀ c, c < 3 → own.testBit c = true → dd_In A (dd_W own) (dd_K0 own s) (dd_u A c s) := by
    intro c hc b
    refine ⟨fun t ht hw => ?_, fun t ht kt => ?_⟩
    · rw [dd_u_g3 A hc ht]
      by_cases e : t = c
      · rw [e] at hw; rw [dd_W, b] at hw; exact absurd hw (by decide)
      · rw [if_neg e]
    · rcases dd_K0_t kt with ⟨h, _⟩ | h
      · rw [dd_u_g3 A hc h]; by_cases e : t = c
        · rw [if_pos e]; decide
        · rw [if_neg e]; decide
      · rw [h, dd_u_gs A hc]; decide
  have inV : dd_In A (dd_W own) (dd_K0 own s) dd_v := by
    refine ⟨fun t ht _ => dd_v_g3 A ht, fun t ht kt => ?_⟩
    rcases dd_K0_t kt with ⟨h, _⟩ | h
    · rw [dd_v_g3 A h]; decide
    · rw [h, dd_v_gs]; decide
  have zU : ∀ c, c < 3 → dd_u A c s ≠ dd_0 := by
    intro c hc e
    have := dd_u_g3 A hc hc s
    rw [e, dd_g_0, if_pos rfl] at this
    exact absurd this (by decide)
  have zV : dd_v ≠ dd_0 := by decide
  have ks : dd_K0 own s (s + 3) = true := by
    rw [dd_K0, if_neg (by omega)]; simp
  have kc : ∀ c, c < 3 → own.testBit c = true → dd_K0 own s c = true := by
    intro c hc b
    rw [dd_K0, if_pos hc]; exact b
  have prm : ∀ e, e ∈ dd_init A own s → dd_gcd e.1 = 1 := by
    intro e he
    rcases dd_init_mem he with ⟨c, hc, b, rfl⟩ | rfl
    · exact dd_u_gcd A hc s
    · exact dd_v_gcd
  refine ⟨⟨?_, ?_, ?_⟩, dd_init_nodup A own s, prm, ?_⟩
  · intro r hr
    obtain ⟨e, he, rfl⟩ := List.mem_map.mp hr
    rcases dd_init_mem he with ⟨c, hc, b, rfl⟩ | rfl
    · refine ⟨inU c hc b, zU c hc, fun q' i' z' ti => ?_⟩
      refine dd_par_of hP (inU c hc b) i' z' (a := 1) (b := dd_g A c q') (by decide) ?_
      have f : ∀ t, t < 3 → t ≠ c → dd_g A t q' = 0 := by
        intro t ht hne
        cases hw : own.testBit t with
        | false => exact i'.1 t ht hw
        | true => exact ti t (by omega) (kc t ht hw) (by rw [dd_u_g3 A hc ht, if_neg hne])
      have fs := ti (s + 3) (by omega) ks (dd_u_gs A hc s)
      have fs' : q'.2.2.2 - (q'.1 * A 0 s + q'.2.1 * A 1 s + q'.2.2.1 * A 2 s) = 0 := fs
      match c, hc with
      | 0, _ =>
        have f1 : q'.2.1 = 0 := f 1 (by decide) (by decide)
        have f2 : q'.2.2.1 = 0 := f 2 (by decide) (by decide)
        rw [f1, f2] at fs'
        refine dd_ext ?_ ?_ ?_ ?_ <;> simp [dd_sc, dd_u, dd_g, f1, f2] <;> omega
      | 1, _ =>
        have f1 : q'.1 = 0 := f 0 (by decide) (by decide)
        have f2 : q'.2.2.1 = 0 := f 2 (by decide) (by decide)
        rw [f1, f2] at fs'
        refine dd_ext ?_ ?_ ?_ ?_ <;> simp [dd_sc, dd_u, dd_g, f1, f2] <;> omega
      | 2, _ =>
        have f1 : q'.1 = 0 := f 0 (by decide) (by decide)
        have f2 : q'.2.1 = 0 := f 1 (by decide) (by decide)
        rw [f1, f2] at fs'
        refine dd_ext ?_ ?_ ?_ ?_ <;> simp [dd_sc, dd_u, dd_g, f1, f2] <;> omega
    · refine ⟨inV, zV, fun q' i' z' ti => ?_⟩
      refine dd_par_of hP inV i' z' (a := 1) (b := q'.2.2.2) (by decide) ?_
      have f : ∀ t, t < 3 → dd_g A t q' = 0 := by
        intro t ht
        cases hw : own.testBit t with
        | false => exact i'.1 t ht hw
        | true => exact ti t (by omega) (kc t ht hw) (dd_v_g3 A ht)
      have f0 : q'.1 = 0 := f 0 (by decide)
      have f1 : q'.2.1 = 0 := f 1 (by decide)
      have f2 : q'.2.2.1 = 0 := f 2 (by decide)
      refine dd_ext ?_ ?_ ?_ ?_ <;> simp [dd_sc, dd_v, f0, f1, f2]
  · intro q hq
    have hex : ∃ t, t < 6 ∧ dd_K0 own s t = true ∧ 0 < dd_g A t q := by
      apply Classical.byContradiction
      intro hn
      apply hq.2.1
      apply hP q hq.1.1
      intro t ht kt
      have := hq.1.2 t ht kt
      by_cases e : 0 < dd_g A t q
      · exact absurd ⟨t, ht, kt, e⟩ hn
      · omega
    obtain ⟨t, ht, kt, gt⟩ := hex
    rcases dd_K0_t kt with ⟨h, b⟩ | h
    · refine ⟨dd_u A t s, dd_init_u h b, hq.2.2 _ (inU t h b) (zU t h) ?_⟩
      intro t' ht' kt' e'
      have hne : t' ≠ t := by intro e; rw [e] at e'; omega
      rcases dd_K0_t kt' with ⟨h', _⟩ | h'
      · rw [dd_u_g3 A h h', if_neg hne]
      · rw [h', dd_u_gs A h]
    · refine ⟨dd_v, dd_init_v, hq.2.2 _ inV zV ?_⟩
      intro t' ht' kt' e'
      have hne : t' ≠ t := by intro e; rw [e] at e'; omega
      rcases dd_K0_t kt' with ⟨h', _⟩ | h'
      · exact dd_v_g3 A h'
      · omega
  · intro r r' hr hr' pr
    obtain ⟨e, he, rfl⟩ := List.mem_map.mp hr
    obtain ⟨f, hf, rfl⟩ := List.mem_map.mp hr'
    exact dd_par_eq pr (prm e he) (prm f hf)
  · intro e he
    rcases dd_init_mem he with ⟨c, hc, b, rfl⟩ | rfl
    · obtain ⟨m1, m2⟩ := dd_m0 own ho c hc s hs
      refine ⟨m1, fun t ht => ?_⟩
      rw [m2 t ht, dd_K0]
      by_cases h : t < 3
      · rw [if_pos h, if_pos h, dd_u_g3 A hc h]
        by_cases e : t = c
        · simp [e]
        · simp [e]
      · rw [if_neg h, if_neg h]
        by_cases e : t = s + 3
        · rw [e, dd_u_gs A hc]; simp
        · have : (t == s + 3) = false := by simpa using e
          rw [this, Bool.false_and]
    · refine ⟨by omega, fun t ht => ?_⟩
      show own.testBit t = _
      rw [dd_K0]
      by_cases h : t < 3
      · rw [if_pos h, dd_v_g3 A h]; simp
      · rw [if_neg h]
        have h1 := dd_m1 own ho t ht
        rw [if_neg h] at h1
        rw [h1]
        by_cases e : t = s + 3
        · rw [e, dd_v_gs]; simp
        · have : (t == s + 3) = false := by simpa using e
          rw [this, Bool.false_and]
theorem dd_lp_inv (A : Nat → Nat → Int) {own other j : Nat} (h3 : j < 3) (hb : other.testBit j = true) : ∀ (n o : Nat) (L : List (dd_R × Nat)), j < o → o + n = 3 → dd_Inv A (dd_W own) (dd_KO own other o) L → dd_Inv A (dd_W own) (dd_KO own other 3) (dd_lp A other n o L) := by
  intro n
  induction n with
  | zero =>
    intro o L _ ho I
    have : o = 3 := by omega
    subst this
    exact I
  | succ n ih =>
    intro o L hj ho I
    refine ih (o + 1) _ (by omega) (by omega) ?_
    rw [dd_add]
    cases b : other.testBit o with
    | true =>
      rw [if_pos rfl, ← dd_KO_step b]
      exact dd_step_inv (dd_Pt_KO A own other o j hj h3 hb) (by omega) I
    | false =>
      rw [if_neg (by decide), ← dd_KO_skip b]
      exact I
theorem dd_all_inv (A : Nat → Nat → Int) {own other : Nat} (ho : own < 8) (h8 : other < 8) (h0 : 0 < other) : dd_Inv A (dd_W own) (dd_KO own other 3) (dd_all A own other) := by
  obtain ⟨h1, h2, h3⟩ := dd_low_spec other h8 h0
  refine dd_lp_inv A h1 h2 _ _ _ (by omega) (by omega) ?_
  rw [← dd_K0_KO h2 h3]
  exact dd_init_inv A ho h1
theorem dd_all_pt (A : Nat → Nat → Int) {own other : Nat} (h8 : other < 8) (h0 : 0 < other) : dd_Pt A (dd_W own) (dd_KO own other 3) := by
  obtain ⟨h1, h2, h3⟩ := dd_low_spec other h8 h0
  exact dd_Pt_KO A own other 3 _ h1 h1 h2
end
section
/-! corners: extreme rays with a mix -/
abbrev cm_T : Type := Int × Int × Int
def dd_tr (q : dd_R) : cm_T := (q.1, q.2.1, q.2.2.1)
def dd_sm (q : dd_R) : Int := q.1 + q.2.1 + q.2.2.1
def cm_Cor (A : Nat → Nat → Int) (own other : Nat) (x : cm_T) : Prop := ∃ q, dd_Ext A (dd_W own) (dd_KO own other 3) q ∧ dd_gcd q = 1 ∧ dd_tr q = x ∧ dd_sm q ≠ 0
def cm_val (A : Nat → Nat → Int) (x : cm_T) (o : Nat) : Int := x.1 * A 0 o + x.2.1 * A 1 o + x.2.2 * A 2 o
def cm_sum (x : cm_T) : Int := x.1 + x.2.1 + x.2.2
theorem ar_cross {a b y0 y1 x0 x1 : Int} (ha : 0 < a) (h0 : a * y0 = b * x0) (h1 : a * y1 = b * x1) : y0 * x1 = y1 * x0 := by
  have ha' : a ≠ 0 := by omega
  apply ar_can ha'
  have e1 : a * (y0 * x1) = (a * y0) * x1 := by rw [Int.mul_assoc]
  have e2 : a * (y1 * x0) = (a * y1) * x0 := by rw [Int.mul_assoc]
  rw [e1, e2, h0, h1, Int.mul_right_comm]
theorem ar_sc3 {y0 y1 y2 x0 x1 x2 : Int} (c1 : y0 * x1 = y1 * x0) (c2 : y0 * x2 = y2 * x0) (c3 : y1 * x2 = y2 * x1) : (x0 + x1 + x2) * y0 = (y0 + y1 + y2) * x0 ∧ (x0 + x1 + x2) * y1 = (y0 + y1 + y2) * x1 ∧ (x0 + x1 + x2) * y2 = (y0 + y1 + y2) * x2 := by
  refine ⟨?_, ?_, ?_⟩ <;> grind
theorem ar_val {S S' y0 y1 y2 x0 x1 x2 a b c : Int} (h0 : S * y0 = S' * x0) (h1 : S * y1 = S' * x1) (h2 : S * y2 = S' * x2) : S * (y0 * a + y1 * b + y2 * c) = S' * (x0 * a + x1 * b + x2 * c) := by
  have e0 : S * (y0 * a) = S' * (x0 * a) := by rw [← Int.mul_assoc, h0, Int.mul_assoc]
  have e1 : S * (y1 * b) = S' * (x1 * b) := by rw [← Int.mul_assoc, h1, Int.mul_assoc]
  have e2 : S * (y2 * c) = S' * (x2 * c) := by rw [← Int.mul_assoc, h2, Int.mul_assoc]
  rw [Int.mul_add, Int.mul_add, Int.mul_add, Int.mul_add, e0, e1, e2]
theorem cm_t6 {t : Nat} (ht : t < 6) : t < 3 ∨ ∃ o, o < 3 ∧ t = o + 3 := by
  by_cases h : t < 3
  · exact Or.inl h
  · exact Or.inr ⟨t - 3, by omega, by omega⟩
section
variable {A : Nat → Nat → Int} {own other : Nat} {q : dd_R}
theorem cm_K3 {c : Nat} (hc : c < 3) : dd_KO own other 3 c = own.testBit c := by rw [dd_KO, if_pos hc]
theorem cm_Ko {o : Nat} (ho : o < 3) : dd_KO own other 3 (o + 3) = other.testBit o := by
  rw [dd_KO, if_neg (by omega), Nat.add_sub_cancel, decide_eq_true ho, Bool.true_and]
theorem cm_nn (hq : dd_In A (dd_W own) (dd_KO own other 3) q) {c : Nat} (hc : c < 3) : 0 ≤ dd_g A c q := by
  cases hw : own.testBit c with
  | false => rw [hq.1 c hc hw]; exact Int.le_refl _
  | true => exact hq.2 c (by omega) (by rw [cm_K3 hc]; exact hw)
theorem cm_use (hq : dd_Ext A (dd_W own) (dd_KO own other 3) q) (o : Nat) (y0 y1 y2 : Int) (h0 : q.1 = 0 → y0 = 0) (h1 : q.2.1 = 0 → y1 = 0) (h2 : q.2.2.1 = 0 → y2 = 0)
    (hT : ∀ j, j < 3 → other.testBit j = true → dd_g A (j + 3) q = 0 → y0 * (A 0 o - A 0 j) + y1 * (A 1 o - A 1 j) + y2 * (A 2 o - A 2 j) = 0) :
    y0 * q.2.1 = y1 * q.1 ∧ y0 * q.2.2.1 = y2 * q.1 ∧ y1 * q.2.2.1 = y2 * q.2.1 := by
  have hc : ∀ c, c < 3 → dd_g A c q = 0 → dd_g A c (y0, y1, y2, y0 * A 0 o + y1 * A 1 o + y2 * A 2 o) = 0 := by
    intro c hc e
    match c, hc with
    | 0, _ => exact h0 e
    | 1, _ => exact h1 e
    | 2, _ => exact h2 e
  obtain ⟨a, b, ha, e⟩ := dd_pert (d := (y0, y1, y2, y0 * A 0 o + y1 * A 1 o + y2 * A 2 o)) hq (fun c c3 hw => hc c c3 (hq.1.1 c c3 hw)) (by
    intro t ht kt e
    rcases cm_t6 ht with h | ⟨j, hj, rfl⟩
    · exact hc t h e
    · have := hT j hj (by rw [← cm_Ko (own := own) hj]; exact kt) e
      show (y0 * A 0 o + y1 * A 1 o + y2 * A 2 o) - (y0 * A 0 j + y1 * A 1 j + y2 * A 2 j) = 0
      rw [Int.mul_sub, Int.mul_sub, Int.mul_sub] at this
      omega)
  have e0 : a * y0 = b * q.1 := congrArg (fun x : dd_R => x.1) e
  have e1 : a * y1 = b * q.2.1 := congrArg (fun x : dd_R => x.2.1) e
  have e2 : a * y2 = b * q.2.2.1 := congrArg (fun x : dd_R => x.2.2.1) e
  exact ⟨ar_cross ha e0 e1, ar_cross ha e0 e2, ar_cross ha e1 e2⟩
theorem cm_tight (hq : dd_Ext A (dd_W own) (dd_KO own other 3) q) (hs : dd_sm q ≠ 0) : ∃ o, o < 3 ∧ other.testBit o = true ∧ dd_g A (o + 3) q = 0 := by
  apply Classical.byContradiction
  intro hn
  obtain ⟨a, b, ha, e⟩ := dd_pert (d := dd_v) hq (fun c c3 _ => dd_v_g3 A c3) (by
    intro t ht kt e
    rcases cm_t6 ht with h | ⟨j, hj, rfl⟩
    · exact dd_v_g3 A h
    · exact absurd ⟨j, hj, by rw [← cm_Ko (own := own) hj]; exact kt, e⟩ hn)
  have e0 : a * 0 = b * q.1 := congrArg (fun x : dd_R => x.1) e
  have e1 : a * 0 = b * q.2.1 := congrArg (fun x : dd_R => x.2.1) e
  have e2 : a * 0 = b * q.2.2.1 := congrArg (fun x : dd_R => x.2.2.1) e
  have e3 : a * 1 = b * q.2.2.2 := congrArg (fun x : dd_R => x.2.2.2) e
  rw [Int.mul_zero] at e0 e1 e2
  have es : b * dd_sm q = 0 := by
    rw [dd_sm, Int.mul_add, Int.mul_add]; omega
  have b0 : b = 0 := by
    rcases Int.mul_eq_zero.mp es with h | h
    · exact h
    · exact absurd h hs
  rw [b0] at e3
  omega
theorem cm_ext_of (hP : dd_Pt A (dd_W own) (dd_KO own other 3)) (hq : dd_In A (dd_W own) (dd_KO own other 3) q) (hs : 0 < dd_sm q) {o : Nat} (ho : o < 3) (hb : other.testBit o = true) (hg : dd_g A (o + 3) q = 0)
    (hU : ∀ y : dd_R, dd_Z A (dd_W own) y → dd_TI A (dd_KO own other 3) q y → y.1 * q.2.1 = y.2.1 * q.1 ∧ y.1 * q.2.2.1 = y.2.2.1 * q.1 ∧ y.2.1 * q.2.2.1 = y.2.2.1 * q.2.1) : dd_Ext A (dd_W own) (dd_KO own other 3) q := by
  refine ⟨hq, ?_, fun q' i' z' ti => ?_⟩
  · intro e
    rw [e] at hs
    exact absurd hs (by decide)
  · obtain ⟨c1, c2, c3⟩ := hU q' i'.1 ti
    obtain ⟨s0, s1, s2⟩ := ar_sc3 c1 c2 c3
    have g' := ti (o + 3) (by omega) (by rw [cm_Ko ho]; exact hb) hg
    have v1 : q.2.2.2 - (q.1 * A 0 o + q.2.1 * A 1 o + q.2.2.1 * A 2 o) = 0 := hg
    have v2 : q'.2.2.2 - (q'.1 * A 0 o + q'.2.1 * A 1 o + q'.2.2.1 * A 2 o) = 0 := g'
    have v1' : q.2.2.2 = q.1 * A 0 o + q.2.1 * A 1 o + q.2.2.1 * A 2 o := by omega
    have v2' : q'.2.2.2 = q'.1 * A 0 o + q'.2.1 * A 1 o + q'.2.2.1 * A 2 o := by omega
    refine dd_par_of hP hq i' z' (a := dd_sm q) (b := dd_sm q') hs (dd_ext s0 s1 s2 ?_)
    show dd_sm q * q'.2.2.2 = dd_sm q' * q.2.2.2
    rw [v1', v2']
    exact ar_val s0 s1 s2
end
/-! the component's corners -/
def dd_fin (A : Nat → Nat → Int) (own other : Nat) : List (dd_R × Nat) := (dd_all A own other).filter (fun e => decide (dd_sm e.1 ≠ 0))
section
variable {A : Nat → Nat → Int} {own other : Nat}
theorem dd_fin_mem {e : dd_R × Nat} (h : e ∈ dd_fin A own other) : e ∈ dd_all A own other ∧ dd_sm e.1 ≠ 0 := by
  rw [dd_fin, List.mem_filter, decide_eq_true_eq] at h
  exact h
theorem dd_fin_cor (ho : own < 8) (h8 : other < 8) (h0 : 0 < other) (x : cm_T) : cm_Cor A own other x ↔ ∃ e, e ∈ dd_fin A own other ∧ dd_tr e.1 = x := by
  have I := dd_all_inv A ho h8 h0
  constructor
  · rintro ⟨q, hq, g1, e, s⟩
    obtain ⟨r, hr, pr⟩ := I.1.2.1 q hq
    obtain ⟨f, hf, rfl⟩ := List.mem_map.mp hr
    have := dd_par_eq pr (I.2.2.1 f hf) g1
    refine ⟨f, ?_, by rw [this]; exact e⟩
    rw [dd_fin, List.mem_filter, decide_eq_true_eq]
    exact ⟨hf, by rw [this]; exact s⟩
  · rintro ⟨e, he, rfl⟩
    obtain ⟨he, hs⟩ := dd_fin_mem he
    exact ⟨e.1, I.1.1 _ (List.mem_map.mpr ⟨e, he, rfl⟩), I.2.2.1 e he, rfl, hs⟩
theorem cm_vle {q r : dd_R} (hq : dd_Ext A (dd_W own) (dd_KO own other 3) q) (hs : dd_sm q ≠ 0) (hr : dd_In A (dd_W own) (dd_KO own other 3) r) (e : dd_tr q = dd_tr r) : q.2.2.2 ≤ r.2.2.2 := by
  obtain ⟨o, ho, hb, hg⟩ := cm_tight hq hs
  have h1 : q.2.2.2 - (q.1 * A 0 o + q.2.1 * A 1 o + q.2.2.1 * A 2 o) = 0 := hg
  have h2 : 0 ≤ r.2.2.2 - (r.1 * A 0 o + r.2.1 * A 1 o + r.2.2.1 * A 2 o) := hr.2 (o + 3) (by omega) (by rw [cm_Ko ho]; exact hb)
  have e0 : q.1 = r.1 := congrArg (fun x : cm_T => x.1) e
  have e1 : q.2.1 = r.2.1 := congrArg (fun x : cm_T => x.2.1) e
  have e2 : q.2.2.1 = r.2.2.1 := congrArg (fun x : cm_T => x.2.2) e
  rw [e0, e1, e2] at h1
  omega
theorem cm_tr_inj {q r : dd_R} (hq : dd_Ext A (dd_W own) (dd_KO own other 3) q) (hs : dd_sm q ≠ 0) (hr : dd_Ext A (dd_W own) (dd_KO own other 3) r) (hs' : dd_sm r ≠ 0) (e : dd_tr q = dd_tr r) : q = r := by
  have a := cm_vle hq hs hr.1 e
  have b := cm_vle hr hs' hq.1 e.symm
  exact dd_ext (congrArg (fun x : cm_T => x.1) e) (congrArg (fun x : cm_T => x.2.1) e) (congrArg (fun x : cm_T => x.2.2) e) (by omega)
theorem dd_fin_nodup (ho : own < 8) (h8 : other < 8) (h0 : 0 < other) : ((dd_fin A own other).map (fun e => dd_tr e.1)).Nodup := by
  have I := dd_all_inv A ho h8 h0
  have nd : (dd_all A own other).Pairwise (fun e f => e.1 ≠ f.1) := List.pairwise_map.mp I.2.1
  have nf : (dd_fin A own other).Pairwise (fun e f => e.1 ≠ f.1) := nd.sublist List.filter_sublist
  show List.Pairwise _ _
  rw [List.pairwise_map]
  refine List.Pairwise.imp_of_mem ?_ nf
  intro e f he hf ne ee
  obtain ⟨he, hs⟩ := dd_fin_mem he
  obtain ⟨hf, hs'⟩ := dd_fin_mem hf
  exact ne (cm_tr_inj (I.1.1 _ (List.mem_map.mpr ⟨e, he, rfl⟩)) hs (I.1.1 _ (List.mem_map.mpr ⟨f, hf, rfl⟩)) hs' ee)
end
end
section
/-! the reference's corners: supports and ties -/
def ys_fst (m : Nat) : Nat := if m.testBit 0 = true then 0 else if m.testBit 1 = true then 1 else 2
def ys_lst (m : Nat) : Nat := if m.testBit 2 = true then 2 else if m.testBit 1 = true then 1 else 0
def ys_sz (m : Nat) : Nat := (m.testBit 0).toNat + (m.testBit 1).toNat + (m.testBit 2).toNat
def ys_d (B : Nat → Nat → Int) (i j k : Nat) : Int := B i j - B i k
def ys_raw (B : Nat → Nat → Int) (S T : Nat) (i : Nat) : Int :=
  if ys_sz S = 1 then (if i = ys_fst S then 1 else 0)
  else if ys_sz S = 2 then (if i = ys_lst S then ys_d B (ys_fst S) (ys_fst T) (ys_lst T) else if i = ys_fst S then -(ys_d B (ys_lst S) (ys_fst T) (ys_lst T)) else 0)
  else if ys_sz S = 3 then ys_d B ((i + 1) % 3) 0 1 * ys_d B ((i + 2) % 3) 1 2 - ys_d B ((i + 2) % 3) 0 1 * ys_d B ((i + 1) % 3) 1 2
  else 0
def ys_sg (w : Nat → Int) : Int := if w 0 + w 1 + w 2 < 0 then -1 else 1
def ys_ray (w : Nat → Int) : dd_R := (ys_sg w * w 0, ys_sg w * w 1, ys_sg w * w 2, 0)
def ys_nrm (w : Nat → Int) : cm_T := dd_tr (dd_nrm (ys_ray w))
def ys_hit (A B : Nat → Nat → Int) (own other S T : Nat) (x : cm_T) : Prop :=
  S < 8 ∧ T < 8 ∧ 0 < S ∧ (∀ c, c < 3 → S.testBit c = true → own.testBit c = true) ∧ (∀ c, c < 3 → T.testBit c = true → other.testBit c = true) ∧ ys_sz S = ys_sz T ∧
  ys_raw B S T 0 + ys_raw B S T 1 + ys_raw B S T 2 ≠ 0 ∧ x = ys_nrm (ys_raw B S T) ∧ (0 ≤ x.1 ∧ 0 ≤ x.2.1 ∧ 0 ≤ x.2.2) ∧
  (∀ j, j < 3 → T.testBit j = true → ∀ o, o < 3 → other.testBit o = true → cm_val A x o ≤ cm_val A x j)
def ys_AB (A B : Nat → Nat → Int) : Prop := ∃ ε : Int, (ε = 1 ∨ ε = -1) ∧ ∀ c j k, c < 3 → j < 3 → k < 3 → A c j - A c k = ε * (B c j - B c k)
section
variable {B : Nat → Nat → Int} {T i : Nat}
theorem ys_r1 : ys_raw B 1 T i = if i = 0 then 1 else 0 := rfl
theorem ys_r2 : ys_raw B 2 T i = if i = 1 then 1 else 0 := rfl
theorem ys_r4 : ys_raw B 4 T i = if i = 2 then 1 else 0 := rfl
theorem ys_r3 : ys_raw B 3 T i = if i = 1 then ys_d B 0 (ys_fst T) (ys_lst T) else if i = 0 then -(ys_d B 1 (ys_fst T) (ys_lst T)) else 0 := rfl
theorem ys_r5 : ys_raw B 5 T i = if i = 2 then ys_d B 0 (ys_fst T) (ys_lst T) else if i = 0 then -(ys_d B 2 (ys_fst T) (ys_lst T)) else 0 := rfl
theorem ys_r6 : ys_raw B 6 T i = if i = 2 then ys_d B 1 (ys_fst T) (ys_lst T) else if i = 1 then -(ys_d B 2 (ys_fst T) (ys_lst T)) else 0 := rfl
theorem ys_r7 : ys_raw B 7 T i = ys_d B ((i + 1) % 3) 0 1 * ys_d B ((i + 2) % 3) 1 2 - ys_d B ((i + 2) % 3) 0 1 * ys_d B ((i + 1) % 3) 1 2 := rfl
end
theorem ar_s2 {g σ d0 d1 x0 x1 y0 y1 : Int} (hg : g ≠ 0) (e0 : g * x0 = σ * -d1) (e1 : g * x1 = σ * d0) (t : y0 * d0 + y1 * d1 = 0) : y0 * x1 = y1 * x0 := by
  apply ar_can hg
  grind
theorem ar_s3 {g σ a0 a1 a2 b0 b1 b2 x0 x1 y0 y1 y2 : Int} (hg : g ≠ 0) (e0 : g * x0 = σ * (a1 * b2 - a2 * b1)) (e1 : g * x1 = σ * (a2 * b0 - a0 * b2)) (ta : y0 * a0 + y1 * a1 + y2 * a2 = 0) (tb : y0 * b0 + y1 * b1 + y2 * b2 = 0) : y0 * x1 = y1 * x0 := by
  apply ar_can hg
  grind
theorem ys_tab : ∀ T, T < 8 → 0 < T → ys_fst T < 3 ∧ ys_lst T < 3 ∧ T.testBit (ys_fst T) = true ∧ T.testBit (ys_lst T) = true ∧ 0 < ys_sz T := by decide +kernel
theorem ys_tab0 : ∀ T, T < 8 → ys_sz T = 0 → T = 0 := by decide +kernel
theorem ys_ray_0 {w : Nat → Int} (h : w 0 + w 1 + w 2 ≠ 0) : ys_ray w ≠ dd_0 := by
  intro e
  have e0 : ys_sg w * w 0 = 0 := congrArg (fun x : dd_R => x.1) e
  have e1 : ys_sg w * w 1 = 0 := congrArg (fun x : dd_R => x.2.1) e
  have e2 : ys_sg w * w 2 = 0 := congrArg (fun x : dd_R => x.2.2.1) e
  have s0 : ys_sg w ≠ 0 := by
    rw [ys_sg]; split <;> decide
  have := ar_z' s0 e0
  have := ar_z' s0 e1
  have := ar_z' s0 e2
  omega
theorem ys_nrm_e {w : Nat → Int} (h : w 0 + w 1 + w 2 ≠ 0) : ∃ g : Int, 0 < g ∧ g * (ys_nrm w).1 = ys_sg w * w 0 ∧ g * (ys_nrm w).2.1 = ys_sg w * w 1 ∧ g * (ys_nrm w).2.2 = ys_sg w * w 2 ∧ dd_nrm (ys_ray w) = ((ys_nrm w).1, (ys_nrm w).2.1, (ys_nrm w).2.2, 0) := by
  have e := dd_nrm_sc (ys_ray w)
  have p := dd_gcd_pos (ys_ray_0 h)
  refine ⟨(dd_gcd (ys_ray w) : Int), by omega, congrArg (fun x : dd_R => x.1) e, congrArg (fun x : dd_R => x.2.1) e, congrArg (fun x : dd_R => x.2.2.1) e, ?_⟩
  refine dd_ext rfl rfl rfl ?_
  show (0 : Int) / _ = 0
  exact Int.zero_ediv _
theorem dd_gcd_v {x0 x1 x2 : Int} (h : dd_gcd (x0, x1, x2, 0) = 1) (v : Int) : dd_gcd (x0, x1, x2, v) = 1 := by
  have h1 : Nat.gcd (Nat.gcd (Nat.gcd (Nat.gcd 0 x0.natAbs) x1.natAbs) x2.natAbs) 0 = 1 := h
  rw [Nat.gcd_zero_right] at h1
  show Nat.gcd (Nat.gcd (Nat.gcd (Nat.gcd 0 x0.natAbs) x1.natAbs) x2.natAbs) v.natAbs = 1
  rw [h1, Nat.gcd_one_left]
theorem ys_sg_pos {w : Nat → Int} (h : w 0 + w 1 + w 2 ≠ 0) : 0 < ys_sg w * (w 0 + w 1 + w 2) := by
  rw [ys_sg]
  split <;> omega
theorem ys_nrm_sum {w : Nat → Int} (h : w 0 + w 1 + w 2 ≠ 0) : 0 < (ys_nrm w).1 + (ys_nrm w).2.1 + (ys_nrm w).2.2 := by
  obtain ⟨g, hg, e0, e1, e2, _⟩ := ys_nrm_e h
  have hp := ys_sg_pos h
  rw [Int.mul_add, Int.mul_add, ← e0, ← e1, ← e2, ← Int.mul_add, ← Int.mul_add] at hp
  by_cases c : 0 < (ys_nrm w).1 + (ys_nrm w).2.1 + (ys_nrm w).2.2
  · exact c
  · have := ar_np (b := (ys_nrm w).1 + (ys_nrm w).2.1 + (ys_nrm w).2.2) (x := g) (by omega) (by omega)
    rw [Int.mul_comm] at this
    omega
theorem ys_8 {S : Nat} (h : S < 8) (h0 : 0 < S) : S = 1 ∨ S = 2 ∨ S = 4 ∨ S = 3 ∨ S = 5 ∨ S = 6 ∨ S = 7 := by omega
theorem ys_off {B : Nat → Nat → Int} {S T : Nat} (h : S < 8) (h0 : 0 < S) {c : Nat} (hc : c < 3) (hb : S.testBit c = false) : ys_raw B S T c = 0 := by
  rcases ys_8 h h0 with rfl | rfl | rfl | rfl | rfl | rfl | rfl <;> match c, hc with
  | 0, _ => first | rfl | exact absurd hb (by decide)
  | 1, _ => first | rfl | exact absurd hb (by decide)
  | 2, _ => first | rfl | exact absurd hb (by decide)
/-- what the reference keeps is a corner -/
theorem cm_of_hit {A B : Nat → Nat → Int} {own other S T : Nat} {x : cm_T} (h8 : other < 8) (h0 : 0 < other) (AB : ys_AB A B) (H : ys_hit A B own other S T x) : cm_Cor A own other x := by
  obtain ⟨S8, T8, S0, So, To, sz, ws, ex, ⟨n0, n1, n2⟩, mx⟩ := H
  obtain ⟨g, hg, e0, e1, e2, en⟩ := ys_nrm_e ws
  have sp := ys_nrm_sum ws
  have gc := dd_nrm_gcd (ys_ray_0 ws)
  rw [en] at gc
  have gc4 := dd_gcd_v gc
  rw [← ex] at e0 e1 e2 sp gc4
  have T0 : 0 < T := by
    apply Nat.pos_of_ne_zero
    intro e
    have := (ys_tab S S8 S0).2.2.2.2
    rw [sz, e] at this
    exact absurd this (by decide)
  obtain ⟨f3, l3, fb, lb, _⟩ := ys_tab T T8 T0
  obtain ⟨x0, x1, x2⟩ := x
  have n0 : 0 ≤ x0 := n0
  have n1 : 0 ≤ x1 := n1
  have n2 : 0 ≤ x2 := n2
  have e0 : g * x0 = ys_sg (ys_raw B S T) * ys_raw B S T 0 := e0
  have e1 : g * x1 = ys_sg (ys_raw B S T) * ys_raw B S T 1 := e1
  have e2 : g * x2 = ys_sg (ys_raw B S T) * ys_raw B S T 2 := e2
  have sp : 0 < x0 + x1 + x2 := sp
  have hg' : g ≠ 0 := by omega
  have nz : ∀ c, c < 3 → dd_g A c (x0, x1, x2, cm_val A (x0, x1, x2) (ys_fst T)) = 0 ∨ S.testBit c = true := by
    intro c hc
    cases hb : S.testBit c with
    | true => exact Or.inr rfl
    | false =>
      left
      have hz := ys_off (B := B) (T := T) S8 S0 hc hb
      match c, hc with
      | 0, _ => exact ar_z' (x := x0) hg' (by rw [e0, hz, Int.mul_zero])
      | 1, _ => exact ar_z' (x := x1) hg' (by rw [e1, hz, Int.mul_zero])
      | 2, _ => exact ar_z' (x := x2) hg' (by rw [e2, hz, Int.mul_zero])
  have nn : ∀ c, c < 3 → 0 ≤ dd_g A c (x0, x1, x2, cm_val A (x0, x1, x2) (ys_fst T)) := by
    intro c hc
    match c, hc with
    | 0, _ => exact n0
    | 1, _ => exact n1
    | 2, _ => exact n2
  have gv : ∀ j, dd_g A (j + 3) (x0, x1, x2, cm_val A (x0, x1, x2) (ys_fst T)) = cm_val A (x0, x1, x2) (ys_fst T) - cm_val A (x0, x1, x2) j := fun j => rfl
  have gT : ∀ j, j < 3 → T.testBit j = true → dd_g A (j + 3) (x0, x1, x2, cm_val A (x0, x1, x2) (ys_fst T)) = 0 := by
    intro j hj hb
    have h1 := mx j hj hb _ f3 (To _ f3 fb)
    have h2 := mx _ f3 fb j hj (To _ hj hb)
    rw [gv]
    omega
  have hin : dd_In A (dd_W own) (dd_KO own other 3) (x0, x1, x2, cm_val A (x0, x1, x2) (ys_fst T)) := by
    refine ⟨fun c hc hw => ?_, fun t ht kt => ?_⟩
    · rcases nz c hc with h | h
      · exact h
      · have := So c hc h
        rw [dd_W, this] at hw
        exact absurd hw (by decide)
    · rcases cm_t6 ht with h | ⟨j, hj, rfl⟩
      · exact nn t h
      · have hb : other.testBit j = true := by rw [← cm_Ko (own := own) hj]; exact kt
        have := mx _ f3 fb j hj hb
        rw [gv]
        omega
  refine ⟨(x0, x1, x2, cm_val A (x0, x1, x2) (ys_fst T)), ?_, gc4 _, rfl, by show x0 + x1 + x2 ≠ 0; omega⟩
  refine cm_ext_of (dd_all_pt A h8 h0) hin sp f3 (To _ f3 fb) (gT _ f3 fb) ?_
  intro y zy ty
  obtain ⟨y0, y1, y2, yv⟩ := y
  have yc : ∀ c, c < 3 → dd_g A c (x0, x1, x2, cm_val A (x0, x1, x2) (ys_fst T)) = 0 → dd_g A c (y0, y1, y2, yv) = 0 := by
    intro c hc e
    cases hw : own.testBit c with
    | false => exact zy c hc hw
    | true => exact ty c (by omega) (by rw [cm_K3 hc]; exact hw) e
  have yt : ∀ j, j < 3 → T.testBit j = true → yv = y0 * A 0 j + y1 * A 1 j + y2 * A 2 j := by
    intro j hj hb
    have : yv - (y0 * A 0 j + y1 * A 1 j + y2 * A 2 j) = 0 := ty (j + 3) (by omega) (by rw [cm_Ko hj]; exact To j hj hb) (gT j hj hb)
    omega
  obtain ⟨ε, hε, hAB⟩ := AB
  have tie : ∀ j k, j < 3 → k < 3 → T.testBit j = true → T.testBit k = true → y0 * ys_d B 0 j k + y1 * ys_d B 1 j k + y2 * ys_d B 2 j k = 0 := by
    intro j k hj hk bj bk
    have h1 := yt j hj bj
    have h2 := yt k hk bk
    have a0 := hAB 0 j k (by decide) hj hk
    have a1 := hAB 1 j k (by decide) hj hk
    have a2 := hAB 2 j k (by decide) hj hk
    have h3 : y0 * (A 0 j - A 0 k) + y1 * (A 1 j - A 1 k) + y2 * (A 2 j - A 2 k) = 0 := by
      rw [Int.mul_sub, Int.mul_sub, Int.mul_sub]; omega
    rw [a0, a1, a2] at h3
    simp only [ys_d]
    rcases hε with rfl | rfl
    · simpa using h3
    · have : -(y0 * (B 0 j - B 0 k) + y1 * (B 1 j - B 1 k) + y2 * (B 2 j - B 2 k)) = 0 := by
        rw [← h3]; grind
      omega
  have y0z : x0 = 0 → y0 = 0 := fun e => yc 0 (by decide) e
  have y1z : x1 = 0 → y1 = 0 := fun e => yc 1 (by decide) e
  have y2z : x2 = 0 → y2 = 0 := fun e => yc 2 (by decide) e
  have x0z : S.testBit 0 = false → x0 = 0 := fun h => by
    rcases nz 0 (by decide) with h' | h'
    · exact h'
    · rw [h] at h'; exact absurd h' (by decide)
  have x1z : S.testBit 1 = false → x1 = 0 := fun h => by
    rcases nz 1 (by decide) with h' | h'
    · exact h'
    · rw [h] at h'; exact absurd h' (by decide)
  have x2z : S.testBit 2 = false → x2 = 0 := fun h => by
    rcases nz 2 (by decide) with h' | h'
    · exact h'
    · rw [h] at h'; exact absurd h' (by decide)
  show y0 * x1 = y1 * x0 ∧ y0 * x2 = y2 * x0 ∧ y1 * x2 = y2 * x1
  have tfl := tie _ _ f3 l3 fb lb
  generalize ys_sg (ys_raw B S T) = σ at e0 e1 e2
  rcases ys_8 S8 S0 with rfl | rfl | rfl | rfl | rfl | rfl | rfl
  · have a := x1z (by decide)
    have b := x2z (by decide)
    have a' := y1z a
    have b' := y2z b
    subst a b a' b'
    simp
  · have a := x0z (by decide)
    have b := x2z (by decide)
    have a' := y0z a
    have b' := y2z b
    subst a b a' b'
    simp
  · have a := x0z (by decide)
    have b := x1z (by decide)
    have a' := y0z a
    have b' := y1z b
    subst a b a' b'
    simp
  · have a := x2z (by decide)
    have a' := y2z a
    subst a a'
    rw [Int.zero_mul, Int.add_zero] at tfl
    refine ⟨ar_s2 hg' e0 e1 tfl, by simp, by simp⟩
  · have a := x1z (by decide)
    have a' := y1z a
    subst a a'
    rw [Int.zero_mul, Int.add_zero] at tfl
    refine ⟨by simp, ar_s2 hg' e0 e2 tfl, by simp⟩
  · have a := x0z (by decide)
    have a' := y0z a
    subst a a'
    rw [Int.zero_mul, Int.zero_add] at tfl
    refine ⟨by simp, by simp, ar_s2 hg' e1 e2 tfl⟩
  · have hT : T = 7 := by
      have : ∀ T, T < 8 → ys_sz 7 = ys_sz T → T = 7 := by decide
      exact this T T8 sz
    subst hT
    have ta := tie 0 1 (by decide) (by decide) (by decide) (by decide)
    have tb := tie 1 2 (by decide) (by decide) (by decide) (by decide)
    rw [ys_r7] at e0 e1 e2
    have e0 : g * x0 = σ * (ys_d B 1 0 1 * ys_d B 2 1 2 - ys_d B 2 0 1 * ys_d B 1 1 2) := e0
    have e1 : g * x1 = σ * (ys_d B 2 0 1 * ys_d B 0 1 2 - ys_d B 0 0 1 * ys_d B 2 1 2) := e1
    have e2 : g * x2 = σ * (ys_d B 0 0 1 * ys_d B 1 1 2 - ys_d B 1 0 1 * ys_d B 0 1 2) := e2
    refine ⟨ar_s3 hg' e0 e1 ta tb, ?_, ?_⟩
    · have := ar_s3 (y0 := y2) (y1 := y0) (y2 := y1) hg' e2 e0 (by omega) (by omega)
      exact this.symm
    · exact ar_s3 (y0 := y1) (y1 := y2) (y2 := y0) hg' e1 e2 (by omega) (by omega)
end
section
/-! every corner is found by some support and some ties -/
theorem dd_gcd_3 {x0 x1 x2 v a b c : Int} (h : dd_gcd (x0, x1, x2, v) = 1) (e : v = x0 * a + x1 * b + x2 * c) : dd_gcd (x0, x1, x2, 0) = 1 := by
  have d1 := dd_gcd_d1 (x0, x1, x2, 0)
  have d2 := dd_gcd_d2 (x0, x1, x2, 0)
  have d3 := dd_gcd_d3 (x0, x1, x2, 0)
  generalize dd_gcd (x0, x1, x2, 0) = d at d1 d2 d3
  have i1 : (d : Int) ∣ x0 := Int.ofNat_dvd_left.mpr d1
  have i2 : (d : Int) ∣ x1 := Int.ofNat_dvd_left.mpr d2
  have i3 : (d : Int) ∣ x2 := Int.ofNat_dvd_left.mpr d3
  have i4 : (d : Int) ∣ v := by
    rw [e]
    exact Int.dvd_add (Int.dvd_add (Int.dvd_mul_of_dvd_left i1) (Int.dvd_mul_of_dvd_left i2)) (Int.dvd_mul_of_dvd_left i3)
  have d4 : d ∣ v.natAbs := Int.ofNat_dvd_left.mp i4
  have : d ∣ dd_gcd (x0, x1, x2, v) := Nat.dvd_gcd (Nat.dvd_gcd (Nat.dvd_gcd (Nat.dvd_gcd (Nat.dvd_zero d) d1) d2) d3) d4
  rw [h] at this
  exact Nat.dvd_one.mp this
theorem ys_uniq {w : Nat → Int} {x0 x1 x2 : Int} (c1 : w 0 * x1 = w 1 * x0) (c2 : w 0 * x2 = w 2 * x0) (c3 : w 1 * x2 = w 2 * x1) (wn : w 0 ≠ 0 ∨ w 1 ≠ 0 ∨ w 2 ≠ 0) (sp : 0 < x0 + x1 + x2) (gc : dd_gcd (x0, x1, x2, 0) = 1) : w 0 + w 1 + w 2 ≠ 0 ∧ ys_nrm w = (x0, x1, x2) := by
  obtain ⟨s0, s1, s2⟩ := ar_sc3 c1 c2 c3
  have ws : w 0 + w 1 + w 2 ≠ 0 := by
    intro e
    rw [e, Int.zero_mul] at s0 s1 s2
    have hs : x0 + x1 + x2 ≠ 0 := by omega
    have := ar_z' hs s0
    have := ar_z' hs s1
    have := ar_z' hs s2
    omega
  refine ⟨ws, ?_⟩
  have par : dd_par (ys_ray w) (x0, x1, x2, 0) := by
    refine ⟨x0 + x1 + x2, ys_sg w * (w 0 + w 1 + w 2), sp, ys_sg_pos ws, ?_⟩
    have f : ∀ a b : Int, (x0 + x1 + x2) * a = (w 0 + w 1 + w 2) * b → (x0 + x1 + x2) * (ys_sg w * a) = ys_sg w * (w 0 + w 1 + w 2) * b := by
      intro a b h
      rw [Int.mul_assoc, ← h, Int.mul_left_comm]
    exact dd_ext (f _ _ s0) (f _ _ s1) (f _ _ s2) (by show _ * (0 : Int) = _ * (0 : Int); rw [Int.mul_zero, Int.mul_zero])
  have e := dd_par_eq (dd_par_trans (dd_nrm_par (ys_ray_0 ws)) par) (dd_nrm_gcd (ys_ray_0 ws)) gc
  rw [ys_nrm, e]
  rfl
theorem ys_p1 : ∀ o, o < 3 → 2 ^ o < 8 ∧ ys_sz (2 ^ o) = 1 ∧ ∀ c, c < 3 → (2 ^ o).testBit c = true → c = o := by decide +kernel
theorem ys_p2 : ∀ k, k < 3 → ∀ j, j < k → 2 ^ j + 2 ^ k < 8 ∧ ys_sz (2 ^ j + 2 ^ k) = 2 ∧ ys_fst (2 ^ j + 2 ^ k) = j ∧ ys_lst (2 ^ j + 2 ^ k) = k ∧ ∀ c, c < 3 → (2 ^ j + 2 ^ k).testBit c = true → c = j ∨ c = k := by decide +kernel
theorem ar_dot {a0 a1 a2 b0 b1 b2 y0 y1 y2 : Int} (w0 : a1 * b2 - a2 * b1 = 0) (w1 : a2 * b0 - a0 * b2 = 0) (w2 : a0 * b1 - a1 * b0 = 0) (h : y0 * a0 + y1 * a1 + y2 * a2 = 0) (hn : a0 ≠ 0 ∨ a1 ≠ 0 ∨ a2 ≠ 0) : y0 * b0 + y1 * b1 + y2 * b2 = 0 := by
  rcases hn with hn | hn | hn
  · apply ar_z' hn; grind
  · apply ar_z' hn; grind
  · apply ar_z' hn; grind
theorem cm_3 {A : Nat → Nat → Int} {own other : Nat} {q : dd_R} (hq : dd_Ext A (dd_W own) (dd_KO own other 3) q) (p0 : 0 < q.1) (p1 : 0 < q.2.1) (p2 : 0 < q.2.2.1) (o : Nat) (D0 D1 D2 : Int) (hx : q.1 * D0 + q.2.1 * D1 + q.2.2.1 * D2 = 0)
    (hT : ∀ y0 y1 y2 : Int, y0 * D0 + y1 * D1 + y2 * D2 = 0 → ∀ j, j < 3 → other.testBit j = true → dd_g A (j + 3) q = 0 → y0 * (A 0 o - A 0 j) + y1 * (A 1 o - A 1 j) + y2 * (A 2 o - A 2 j) = 0) : False := by
  obtain ⟨_, u2, u3⟩ := cm_use hq o D1 (-D0) 0 (fun h => by omega) (fun h => by omega) (fun _ => rfl) (hT _ _ _ (by grind))
  rw [Int.zero_mul] at u2 u3
  have d1 : D1 = 0 := by
    rcases Int.mul_eq_zero.mp u2 with h | h
    · exact h
    · omega
  have d0 : D0 = 0 := by
    rcases Int.mul_eq_zero.mp u3 with h | h
    · omega
    · omega
  rw [d0, d1, Int.mul_zero, Int.mul_zero, Int.zero_add, Int.zero_add] at hx
  have d2 : D2 = 0 := ar_z' (by omega) hx
  obtain ⟨u1, _, _⟩ := cm_use hq o 1 0 0 (fun h => by omega) (fun _ => rfl) (fun _ => rfl) (hT _ _ _ (by rw [d0, d1, d2]; rfl))
  rw [Int.zero_mul, Int.one_mul] at u1
  omega
theorem cm_hit {A B : Nat → Nat → Int} {own other : Nat} {x : cm_T} (AB : ys_AB A B) (C : cm_Cor A own other x) : ∃ S T, ys_hit A B own other S T x := by
  obtain ⟨q, hq, g4, rfl, hs⟩ := C
  obtain ⟨o, ho, hb, hg⟩ := cm_tight hq hs
  obtain ⟨ε, hε, hAB⟩ := AB
  obtain ⟨x0, x1, x2, v⟩ := q
  have n0 : 0 ≤ x0 := cm_nn hq.1 (c := 0) (by decide)
  have n1 : 0 ≤ x1 := cm_nn hq.1 (c := 1) (by decide)
  have n2 : 0 ≤ x2 := cm_nn hq.1 (c := 2) (by decide)
  have hs : x0 + x1 + x2 ≠ 0 := hs
  have sp : 0 < x0 + x1 + x2 := by omega
  have vo : v - (x0 * A 0 o + x1 * A 1 o + x2 * A 2 o) = 0 := hg
  have gc : dd_gcd (x0, x1, x2, 0) = 1 := dd_gcd_3 g4 (by omega : v = x0 * A 0 o + x1 * A 1 o + x2 * A 2 o)
  have tgv : ∀ j, dd_g A (j + 3) (x0, x1, x2, v) = v - (x0 * A 0 j + x1 * A 1 j + x2 * A 2 j) := fun _ => rfl
  have mx : ∀ j, dd_g A (j + 3) (x0, x1, x2, v) = 0 → ∀ k, k < 3 → other.testBit k = true → cm_val A (x0, x1, x2) k ≤ cm_val A (x0, x1, x2) j := by
    intro j hj k hk bk
    have h1 : 0 ≤ v - (x0 * A 0 k + x1 * A 1 k + x2 * A 2 k) := hq.1.2 (k + 3) (by omega) (by rw [cm_Ko hk]; exact bk)
    rw [tgv] at hj
    show x0 * A 0 k + x1 * A 1 k + x2 * A 2 k ≤ x0 * A 0 j + x1 * A 1 j + x2 * A 2 j
    omega
  have toA : ∀ (y0 y1 y2 : Int) (j k : Nat), j < 3 → k < 3 → y0 * ys_d B 0 j k + y1 * ys_d B 1 j k + y2 * ys_d B 2 j k = 0 → y0 * (A 0 j - A 0 k) + y1 * (A 1 j - A 1 k) + y2 * (A 2 j - A 2 k) = 0 := by
    intro y0 y1 y2 j k hj hk h
    rw [hAB 0 j k (by decide) hj hk, hAB 1 j k (by decide) hj hk, hAB 2 j k (by decide) hj hk]
    simp only [ys_d] at h
    rcases hε with rfl | rfl <;> grind
  have toB : ∀ (y0 y1 y2 : Int) (j k : Nat), j < 3 → k < 3 → y0 * (A 0 j - A 0 k) + y1 * (A 1 j - A 1 k) + y2 * (A 2 j - A 2 k) = 0 → y0 * ys_d B 0 j k + y1 * ys_d B 1 j k + y2 * ys_d B 2 j k = 0 := by
    intro y0 y1 y2 j k hj hk h
    rw [hAB 0 j k (by decide) hj hk, hAB 1 j k (by decide) hj hk, hAB 2 j k (by decide) hj hk] at h
    simp only [ys_d]
    rcases hε with rfl | rfl <;> grind
  have tie : ∀ j k, j < 3 → k < 3 → dd_g A (j + 3) (x0, x1, x2, v) = 0 → dd_g A (k + 3) (x0, x1, x2, v) = 0 → x0 * ys_d B 0 j k + x1 * ys_d B 1 j k + x2 * ys_d B 2 j k = 0 := by
    intro j k hj hk gj gk
    rw [tgv] at gj gk
    apply toB _ _ _ _ _ hj hk
    rw [Int.mul_sub, Int.mul_sub, Int.mul_sub]
    omega
  have ownb : ∀ c, c < 3 → dd_g A c (x0, x1, x2, v) ≠ 0 → own.testBit c = true := by
    intro c hc hne
    cases hw : own.testBit c with
    | true => rfl
    | false => exact absurd (hq.1.1 c hc hw) hne
  have own0 : x0 ≠ 0 → own.testBit 0 = true := ownb 0 (by decide)
  have own1 : x1 ≠ 0 → own.testBit 1 = true := ownb 1 (by decide)
  have own2 : x2 ≠ 0 → own.testBit 2 = true := ownb 2 (by decide)
  -- putting a hit together
  have fin : ∀ S T, S < 8 → T < 8 → 0 < S → (∀ c, c < 3 → S.testBit c = true → own.testBit c = true) → (∀ c, c < 3 → T.testBit c = true → other.testBit c = true ∧ dd_g A (c + 3) (x0, x1, x2, v) = 0) → ys_sz S = ys_sz T →
      ys_raw B S T 0 * x1 = ys_raw B S T 1 * x0 → ys_raw B S T 0 * x2 = ys_raw B S T 2 * x0 → ys_raw B S T 1 * x2 = ys_raw B S T 2 * x1 → (ys_raw B S T 0 ≠ 0 ∨ ys_raw B S T 1 ≠ 0 ∨ ys_raw B S T 2 ≠ 0) → ∃ S T, ys_hit A B own other S T (dd_tr (x0, x1, x2, v)) := by
    intro S T S8 T8 S0 So To sz c1 c2 c3 wn
    obtain ⟨ws, e⟩ := ys_uniq c1 c2 c3 wn sp gc
    exact ⟨S, T, S8, T8, S0, So, fun c hc b => (To c hc b).1, sz, ws, e.symm, ⟨n0, n1, n2⟩, fun j hj b k hk bk => mx j (To j hj b).2 k hk bk⟩
  -- a difference of ties exists unless all ties are alike for a choice a
  have dif : ∀ a, a < 3 → (∃ j k, j < 3 ∧ k < 3 ∧ j < k ∧ (other.testBit j = true ∧ dd_g A (j + 3) (x0, x1, x2, v) = 0) ∧ (other.testBit k = true ∧ dd_g A (k + 3) (x0, x1, x2, v) = 0) ∧ ys_d B a j k ≠ 0) ∨ (∀ j, j < 3 → other.testBit j = true → dd_g A (j + 3) (x0, x1, x2, v) = 0 → A a o - A a j = 0) := by
    intro a ha
    by_cases h : ∃ j k, j < 3 ∧ k < 3 ∧ j < k ∧ (other.testBit j = true ∧ dd_g A (j + 3) (x0, x1, x2, v) = 0) ∧ (other.testBit k = true ∧ dd_g A (k + 3) (x0, x1, x2, v) = 0) ∧ ys_d B a j k ≠ 0
    · exact Or.inl h
    · refine Or.inr fun j hj bj gj => ?_
      rw [hAB a o j ha ho hj]
      have : B a o - B a j = 0 := by
        apply Classical.byContradiction
        intro hne
        apply h
        rcases Nat.lt_trichotomy o j with c | c | c
        · exact ⟨o, j, ho, hj, c, ⟨hb, hg⟩, ⟨bj, gj⟩, hne⟩
        · subst c; omega
        · exact ⟨j, o, hj, ho, c, ⟨bj, gj⟩, ⟨hb, hg⟩, by simp only [ys_d]; omega⟩
      rw [this, Int.mul_zero]
  obtain ⟨p8, ps, pb⟩ := ys_p1 o ho
  have T1 : ∀ c, c < 3 → (2 ^ o).testBit c = true → other.testBit c = true ∧ dd_g A (c + 3) (x0, x1, x2, v) = 0 := by
    intro c hc b
    rw [pb c hc b]
    exact ⟨hb, hg⟩
  by_cases z0 : x0 = 0
  · by_cases z1 : x1 = 0
    · -- support {2}
      subst z0 z1
      refine fin 4 (2 ^ o) (by decide) p8 (by decide) (fun c hc b => ?_) T1 ps.symm (by simp) (by simp [ys_r4]) (by simp [ys_r4]) (Or.inr (Or.inr (by rw [ys_r4]; decide)))
      match c, hc with
      | 0, _ => exact absurd b (by decide)
      | 1, _ => exact absurd b (by decide)
      | 2, _ => exact own2 (by omega)
    · by_cases z2 : x2 = 0
      · -- support {1}
        subst z0 z2
        refine fin 2 (2 ^ o) (by decide) p8 (by decide) (fun c hc b => ?_) T1 ps.symm (by simp [ys_r2]) (by simp) (by simp [ys_r2]) (Or.inr (Or.inl (by rw [ys_r2]; decide)))
        match c, hc with
        | 0, _ => exact absurd b (by decide)
        | 1, _ => exact own1 (by omega)
        | 2, _ => exact absurd b (by decide)
      · -- support {1, 2}
        subst z0
        rcases dif 1 (by decide) with ⟨j, k, hj, hk, jk, tj, tk, hd⟩ | h
        · obtain ⟨T8, Ts, Tf, Tl, Tb⟩ := ys_p2 k hk j jk
          have t := tie j k hj hk tj.2 tk.2
          have To : ∀ c, c < 3 → (2 ^ j + 2 ^ k).testBit c = true → other.testBit c = true ∧ dd_g A (c + 3) (0, x1, x2, v) = 0 := by
            intro c hc b
            rcases Tb c hc b with e | e
            · rw [e]; exact tj
            · rw [e]; exact tk
          have w0 : ys_raw B 6 (2 ^ j + 2 ^ k) 0 = 0 := rfl
          have w1 : ys_raw B 6 (2 ^ j + 2 ^ k) 1 = -(ys_d B 2 j k) := by rw [ys_r6, Tf, Tl]; rfl
          have w2 : ys_raw B 6 (2 ^ j + 2 ^ k) 2 = ys_d B 1 j k := by rw [ys_r6, Tf, Tl]; rfl
          refine fin 6 _ (by decide) T8 (by decide) (fun c hc b => ?_) To (by rw [Ts]; rfl) (by rw [w0]; simp) (by rw [w0]; simp) (by rw [w1, w2]; grind) (Or.inr (Or.inr (by rw [w2]; exact hd)))
          match c, hc with
          | 0, _ => exact absurd b (by decide)
          | 1, _ => exact own1 (by omega)
          | 2, _ => exact own2 (by omega)
        · exfalso
          obtain ⟨_, _, u⟩ := cm_use hq o 0 1 0 (fun _ => rfl) (fun e => absurd e z1) (fun _ => rfl) (fun j hj bj gj => by rw [h j hj bj gj]; simp)
          have u : 1 * x2 = 0 * x1 := u
          omega
  · by_cases z1 : x1 = 0
    · by_cases z2 : x2 = 0
      · -- support {0}
        subst z1 z2
        refine fin 1 (2 ^ o) (by decide) p8 (by decide) (fun c hc b => ?_) T1 ps.symm (by simp [ys_r1]) (by simp [ys_r1]) (by simp) (Or.inl (by rw [ys_r1]; decide))
        match c, hc with
        | 0, _ => exact own0 (by omega)
        | 1, _ => exact absurd b (by decide)
        | 2, _ => exact absurd b (by decide)
      · -- support {0, 2}
        subst z1
        rcases dif 0 (by decide) with ⟨j, k, hj, hk, jk, tj, tk, hd⟩ | h
        · obtain ⟨T8, Ts, Tf, Tl, Tb⟩ := ys_p2 k hk j jk
          have t := tie j k hj hk tj.2 tk.2
          have To : ∀ c, c < 3 → (2 ^ j + 2 ^ k).testBit c = true → other.testBit c = true ∧ dd_g A (c + 3) (x0, 0, x2, v) = 0 := by
            intro c hc b
            rcases Tb c hc b with e | e
            · rw [e]; exact tj
            · rw [e]; exact tk
          have w0 : ys_raw B 5 (2 ^ j + 2 ^ k) 0 = -(ys_d B 2 j k) := by rw [ys_r5, Tf, Tl]; rfl
          have w1 : ys_raw B 5 (2 ^ j + 2 ^ k) 1 = 0 := rfl
          have w2 : ys_raw B 5 (2 ^ j + 2 ^ k) 2 = ys_d B 0 j k := by rw [ys_r5, Tf, Tl]; rfl
          refine fin 5 _ (by decide) T8 (by decide) (fun c hc b => ?_) To (by rw [Ts]; rfl) (by rw [w1]; simp) (by rw [w0, w2]; grind) (by rw [w1]; simp) (Or.inr (Or.inr (by rw [w2]; exact hd)))
          match c, hc with
          | 0, _ => exact own0 (by omega)
          | 1, _ => exact absurd b (by decide)
          | 2, _ => exact own2 (by omega)
        · exfalso
          obtain ⟨_, u, _⟩ := cm_use hq o 1 0 0 (fun e => absurd e z0) (fun _ => rfl) (fun _ => rfl) (fun j hj bj gj => by rw [h j hj bj gj]; simp)
          have u : 1 * x2 = 0 * x0 := u
          omega
    · by_cases z2 : x2 = 0
      · -- support {0, 1}
        subst z2
        rcases dif 0 (by decide) with ⟨j, k, hj, hk, jk, tj, tk, hd⟩ | h
        · obtain ⟨T8, Ts, Tf, Tl, Tb⟩ := ys_p2 k hk j jk
          have t := tie j k hj hk tj.2 tk.2
          have To : ∀ c, c < 3 → (2 ^ j + 2 ^ k).testBit c = true → other.testBit c = true ∧ dd_g A (c + 3) (x0, x1, 0, v) = 0 := by
            intro c hc b
            rcases Tb c hc b with e | e
            · rw [e]; exact tj
            · rw [e]; exact tk
          have w0 : ys_raw B 3 (2 ^ j + 2 ^ k) 0 = -(ys_d B 1 j k) := by rw [ys_r3, Tf, Tl]; rfl
          have w1 : ys_raw B 3 (2 ^ j + 2 ^ k) 1 = ys_d B 0 j k := by rw [ys_r3, Tf, Tl]; rfl
          have w2 : ys_raw B 3 (2 ^ j + 2 ^ k) 2 = 0 := rfl
          refine fin 3 _ (by decide) T8 (by decide) (fun c hc b => ?_) To (by rw [Ts]; rfl) (by rw [w0, w1]; grind) (by rw [w2]; simp) (by rw [w2]; simp) (Or.inr (Or.inl (by rw [w1]; exact hd)))
          match c, hc with
          | 0, _ => exact own0 (by omega)
          | 1, _ => exact own1 (by omega)
          | 2, _ => exact absurd b (by decide)
        · exfalso
          obtain ⟨u, _, _⟩ := cm_use hq o 1 0 0 (fun e => absurd e z0) (fun _ => rfl) (fun _ => rfl) (fun j hj bj gj => by rw [h j hj bj gj]; simp)
          have u : 1 * x1 = 0 * x0 := u
          omega
      · -- support {0, 1, 2}
        have p0 : 0 < x0 := by omega
        have p1 : 0 < x1 := by omega
        have p2 : 0 < x2 := by omega
        have c3 := cm_3 hq p0 p1 p2
        by_cases all : ∀ j, j < 3 → other.testBit j = true ∧ dd_g A (j + 3) (x0, x1, x2, v) = 0
        · have ta := tie 0 1 (by decide) (by decide) (all 0 (by decide)).2 (all 1 (by decide)).2
          have tb := tie 1 2 (by decide) (by decide) (all 1 (by decide)).2 (all 2 (by decide)).2
          have w0 : ys_raw B 7 7 0 = ys_d B 1 0 1 * ys_d B 2 1 2 - ys_d B 2 0 1 * ys_d B 1 1 2 := rfl
          have w1 : ys_raw B 7 7 1 = ys_d B 2 0 1 * ys_d B 0 1 2 - ys_d B 0 0 1 * ys_d B 2 1 2 := rfl
          have w2 : ys_raw B 7 7 2 = ys_d B 0 0 1 * ys_d B 1 1 2 - ys_d B 1 0 1 * ys_d B 0 1 2 := rfl
          by_cases wn : ys_raw B 7 7 0 ≠ 0 ∨ ys_raw B 7 7 1 ≠ 0 ∨ ys_raw B 7 7 2 ≠ 0
          · refine fin 7 7 (by decide) (by decide) (by decide) (fun c hc b => ?_) (fun c hc _ => all c hc) rfl ?_ ?_ ?_ wn
            · match c, hc with
              | 0, _ => exact own0 (by omega)
              | 1, _ => exact own1 (by omega)
              | 2, _ => exact own2 (by omega)
            · rw [w0, w1]; clear fin dif toA toB tie mx; grind
            · rw [w0, w2]; clear fin dif toA toB tie mx; grind
            · rw [w1, w2]; clear fin dif toA toB tie mx; grind
          · exfalso
            have z : ys_raw B 7 7 0 = 0 ∧ ys_raw B 7 7 1 = 0 ∧ ys_raw B 7 7 2 = 0 := by
              refine ⟨?_, ?_, ?_⟩ <;> apply Classical.byContradiction <;> intro h <;> apply wn
              · exact Or.inl h
              · exact Or.inr (Or.inl h)
              · exact Or.inr (Or.inr h)
            rw [w0, w1, w2] at z
            obtain ⟨z0', z1', z2'⟩ := z
            have neg : ∀ y0 y1 y2 : Int, y0 * ys_d B 0 0 1 + y1 * ys_d B 1 0 1 + y2 * ys_d B 2 0 1 = 0 → y0 * ys_d B 0 1 0 + y1 * ys_d B 1 1 0 + y2 * ys_d B 2 1 0 = 0 := by
              intro y0 y1 y2 h
              simp only [ys_d] at h ⊢
              rw [Int.mul_sub, Int.mul_sub, Int.mul_sub] at h ⊢
              omega
            have go : ∀ y0 y1 y2 : Int, y0 * ys_d B 0 0 1 + y1 * ys_d B 1 0 1 + y2 * ys_d B 2 0 1 = 0 → y0 * ys_d B 0 1 2 + y1 * ys_d B 1 1 2 + y2 * ys_d B 2 1 2 = 0 → ∀ j, j < 3 → other.testBit j = true → dd_g A (j + 3) (x0, x1, x2, v) = 0 → y0 * (A 0 1 - A 0 j) + y1 * (A 1 1 - A 1 j) + y2 * (A 2 1 - A 2 j) = 0 := by
              intro y0 y1 y2 ha hb j hj _ _
              match j, hj with
              | 0, _ => exact toA _ _ _ 1 0 (by decide) (by decide) (neg _ _ _ ha)
              | 1, _ => simp
              | 2, _ => exact toA _ _ _ 1 2 (by decide) (by decide) hb
            by_cases an : ys_d B 0 0 1 ≠ 0 ∨ ys_d B 1 0 1 ≠ 0 ∨ ys_d B 2 0 1 ≠ 0
            · exact c3 1 _ _ _ ta (fun y0 y1 y2 h => go y0 y1 y2 h (ar_dot z0' z1' z2' h an))
            · have az : ys_d B 0 0 1 = 0 ∧ ys_d B 1 0 1 = 0 ∧ ys_d B 2 0 1 = 0 := by omega
              exact c3 1 _ _ _ tb (fun y0 y1 y2 h => go y0 y1 y2 (by rw [az.1, az.2.1, az.2.2]; simp) h)
        · exfalso
          by_cases ex : ∃ j, j < 3 ∧ j ≠ o ∧ other.testBit j = true ∧ dd_g A (j + 3) (x0, x1, x2, v) = 0
          · obtain ⟨j, hj, jo, bj, gj⟩ := ex
            refine c3 o _ _ _ (tie o j ho hj hg gj) (fun y0 y1 y2 h k hk bk gk => ?_)
            by_cases e1 : k = o
            · subst e1; simp
            · by_cases e2 : k = j
              · subst e2; exact toA _ _ _ o k ho hk h
              · exfalso
                apply all
                intro i hi
                have : i = o ∨ i = j ∨ i = k := by omega
                rcases this with e | e | e
                · rw [e]; exact ⟨hb, hg⟩
                · rw [e]; exact ⟨bj, gj⟩
                · rw [e]; exact ⟨bk, gk⟩
          · refine c3 o 0 0 0 (by simp) (fun y0 y1 y2 _ k hk bk gk => ?_)
            by_cases e1 : k = o
            · subst e1; simp
            · exact absurd ⟨k, hk, e1, bk, gk⟩ ex
end
section
/-! how great the numbers of a ray can be -/
def cm_Rng (A : Nat → Nat → Int) : Prop := ∀ c o, c < 3 → o < 3 → 1 ≤ A c o ∧ A c o ≤ 19
theorem dd_KO_mod {own other o : Nat} (h : o ≤ 3) : dd_KO own other o = dd_KO own (other % 2 ^ o) 3 := by
  funext t
  simp only [dd_KO]
  by_cases ht : t < 3
  · rw [if_pos ht, if_pos ht]
  · rw [if_neg ht, if_neg ht, Nat.testBit_mod_two_pow]
    by_cases c : t - 3 < o
    · rw [decide_eq_true c, decide_eq_true (show t - 3 < 3 by omega)]; simp
    · rw [decide_eq_false c]; simp
theorem ar_pr {a b : Int} (a1 : -18 ≤ a) (a2 : a ≤ 18) (b1 : -18 ≤ b) (b2 : b ≤ 18) : -324 ≤ a * b ∧ a * b ≤ 324 := by
  have h1 := Int.mul_nonneg (show 0 ≤ 18 - a by omega) (show 0 ≤ 18 + b by omega)
  have h2 := Int.mul_nonneg (show 0 ≤ 18 + a by omega) (show 0 ≤ 18 - b by omega)
  have h3 := Int.mul_nonneg (show 0 ≤ 18 - a by omega) (show 0 ≤ 18 - b by omega)
  have h4 := Int.mul_nonneg (show 0 ≤ 18 + a by omega) (show 0 ≤ 18 + b by omega)
  have e1 : (18 - a) * (18 + b) = 324 + 18 * b - 18 * a - a * b := by grind
  have e2 : (18 + a) * (18 - b) = 324 - 18 * b + 18 * a - a * b := by grind
  have e3 : (18 - a) * (18 - b) = 324 - 18 * b - 18 * a + a * b := by grind
  have e4 : (18 + a) * (18 + b) = 324 + 18 * b + 18 * a + a * b := by grind
  omega
theorem ys_rb {B : Nat → Nat → Int} (hB : ∀ c j k, c < 3 → j < 3 → k < 3 → -18 ≤ ys_d B c j k ∧ ys_d B c j k ≤ 18) {S T : Nat} (S8 : S < 8) (S0 : 0 < S) (T8 : T < 8) (T0 : 0 < T) {i : Nat} (hi : i < 3) : -648 ≤ ys_raw B S T i ∧ ys_raw B S T i ≤ 648 := by
  obtain ⟨f3, l3, _⟩ := ys_tab T T8 T0
  have h0 := hB 0 _ _ (by decide) f3 l3
  have h1 := hB 1 _ _ (by decide) f3 l3
  have h2 := hB 2 _ _ (by decide) f3 l3
  rcases ys_8 S8 S0 with rfl | rfl | rfl | rfl | rfl | rfl | rfl
  · rw [ys_r1]; split <;> decide
  · rw [ys_r2]; split <;> decide
  · rw [ys_r4]; split <;> decide
  · rw [ys_r3]; repeat' split
    all_goals omega
  · rw [ys_r5]; repeat' split
    all_goals omega
  · rw [ys_r6]; repeat' split
    all_goals omega
  · rw [ys_r7]
    have m1 : (i + 1) % 3 < 3 := Nat.mod_lt _ (by decide)
    have m2 : (i + 2) % 3 < 3 := Nat.mod_lt _ (by decide)
    have a1 := hB _ 0 1 m1 (by decide) (by decide)
    have a2 := hB _ 1 2 m2 (by decide) (by decide)
    have a3 := hB _ 0 1 m2 (by decide) (by decide)
    have a4 := hB _ 1 2 m1 (by decide) (by decide)
    have p1 := ar_pr a1.1 a1.2 a2.1 a2.2
    have p2 := ar_pr a3.1 a3.2 a4.1 a4.2
    omega
theorem ys_T0 {S T : Nat} (S8 : S < 8) (S0 : 0 < S) (sz : ys_sz S = ys_sz T) : 0 < T := by
  apply Nat.pos_of_ne_zero
  intro e
  have := (ys_tab S S8 S0).2.2.2.2
  rw [sz, e] at this
  exact absurd this (by decide)
theorem ar_sgb {g σ x w : Int} (hg : 0 < g) (hσ : σ = 1 ∨ σ = -1) (hx : 0 ≤ x) (e : g * x = σ * w) (h1 : -648 ≤ w) (h2 : w ≤ 648) : x ≤ 648 := by
  have h3 : 1 * x ≤ g * x := Int.mul_le_mul_of_nonneg_right (by omega) hx
  rcases hσ with rfl | rfl <;> omega
theorem ys_sg_1 (w : Nat → Int) : ys_sg w = 1 ∨ ys_sg w = -1 := by
  rw [ys_sg]; split
  · exact Or.inr rfl
  · exact Or.inl rfl
theorem cm_bnd {A : Nat → Nat → Int} {own other : Nat} {x : cm_T} (hA : cm_Rng A) (C : cm_Cor A own other x) : (0 ≤ x.1 ∧ x.1 ≤ 648) ∧ (0 ≤ x.2.1 ∧ x.2.1 ≤ 648) ∧ (0 ≤ x.2.2 ∧ x.2.2 ≤ 648) := by
  obtain ⟨S, T, S8, T8, S0, So, To, sz, ws, ex, ⟨n0, n1, n2⟩, mx⟩ := cm_hit (B := A) ⟨1, Or.inl rfl, fun c j k _ _ _ => by rw [Int.one_mul]⟩ C
  obtain ⟨g, hg, e0, e1, e2, en⟩ := ys_nrm_e ws
  rw [← ex] at e0 e1 e2
  have T0 := ys_T0 S8 S0 sz
  have hB : ∀ c j k, c < 3 → j < 3 → k < 3 → -18 ≤ ys_d A c j k ∧ ys_d A c j k ≤ 18 := by
    intro c j k hc hj hk
    have := hA c j hc hj
    have := hA c k hc hk
    simp only [ys_d]
    omega
  have b0 := ys_rb hB S8 S0 T8 T0 (i := 0) (by decide)
  have b1 := ys_rb hB S8 S0 T8 T0 (i := 1) (by decide)
  have b2 := ys_rb hB S8 S0 T8 T0 (i := 2) (by decide)
  have hσ := ys_sg_1 (ys_raw A S T)
  exact ⟨⟨n0, ar_sgb hg hσ n0 e0 b0.1 b0.2⟩, ⟨n1, ar_sgb hg hσ n1 e1 b1.1 b1.2⟩, ⟨n2, ar_sgb hg hσ n2 e2 b2.1 b2.2⟩⟩
theorem ar_va {x a : Int} (h0 : 0 ≤ x) (h1 : x ≤ 648) (a0 : 1 ≤ a) (a1 : a ≤ 19) : 0 ≤ x * a ∧ x * a ≤ 12312 := by
  have h2 := Int.mul_nonneg h0 (show 0 ≤ a by omega)
  have h3 : x * a ≤ x * 19 := Int.mul_le_mul_of_nonneg_left a1 h0
  omega
def dd_Bd (q : dd_R) : Prop := (0 ≤ q.1 ∧ q.1 ≤ 648) ∧ (0 ≤ q.2.1 ∧ q.2.1 ≤ 648) ∧ (0 ≤ q.2.2.1 ∧ q.2.2.1 ≤ 648) ∧ (0 ≤ q.2.2.2 ∧ q.2.2.2 ≤ 36936)
theorem dd_bnd3 {A : Nat → Nat → Int} {own other : Nat} (hA : cm_Rng A) {j : Nat} (h3 : j < 3) (hb : other.testBit j = true) {q : dd_R} (hq : dd_Ext A (dd_W own) (dd_KO own other 3) q) (g1 : dd_gcd q = 1) : dd_Bd q := by
  by_cases hs : dd_sm q = 0
  · have n0 : 0 ≤ q.1 := cm_nn hq.1 (c := 0) (by decide)
    have n1 : 0 ≤ q.2.1 := cm_nn hq.1 (c := 1) (by decide)
    have n2 : 0 ≤ q.2.2.1 := cm_nn hq.1 (c := 2) (by decide)
    have hs : q.1 + q.2.1 + q.2.2.1 = 0 := hs
    obtain ⟨x0, x1, x2, v⟩ := q
    have z0 : x0 = 0 := by simp only at *; omega
    have z1 : x1 = 0 := by simp only at *; omega
    have z2 : x2 = 0 := by simp only at *; omega
    subst z0 z1 z2
    have h1 : 0 ≤ v - (0 * A 0 j + 0 * A 1 j + 0 * A 2 j) := hq.1.2 (j + 3) (by omega) (by rw [cm_Ko h3]; exact hb)
    have h2 : v.natAbs = 1 := by simpa [dd_gcd] using g1
    have h3 : v = 1 := by
      simp only [Int.zero_mul] at h1
      omega
    subst h3
    exact ⟨by decide, by decide, by decide, by decide⟩
  · have C : cm_Cor A own other (dd_tr q) := ⟨q, hq, g1, rfl, hs⟩
    obtain ⟨b0, b1, b2⟩ := cm_bnd hA C
    obtain ⟨o, ho, hbo, hg⟩ := cm_tight hq hs
    have hv : q.2.2.2 - (q.1 * A 0 o + q.2.1 * A 1 o + q.2.2.1 * A 2 o) = 0 := hg
    have p0 := ar_va b0.1 b0.2 (hA 0 o (by decide) ho).1 (hA 0 o (by decide) ho).2
    have p1 := ar_va b1.1 b1.2 (hA 1 o (by decide) ho).1 (hA 1 o (by decide) ho).2
    have p2 := ar_va b2.1 b2.2 (hA 2 o (by decide) ho).1 (hA 2 o (by decide) ho).2
    have p0 : 0 ≤ q.1 * A 0 o ∧ q.1 * A 0 o ≤ 12312 := p0
    have p1 : 0 ≤ q.2.1 * A 1 o ∧ q.2.1 * A 1 o ≤ 12312 := p1
    have p2 : 0 ≤ q.2.2.1 * A 2 o ∧ q.2.2.1 * A 2 o ≤ 12312 := p2
    refine ⟨b0, b1, b2, ?_, ?_⟩ <;> omega
theorem dd_bnd {A : Nat → Nat → Int} {own other o : Nat} (hA : cm_Rng A) (h : o ≤ 3) {j : Nat} (hj : j < o) (hb : other.testBit j = true) {L : List (dd_R × Nat)} (I : dd_Inv A (dd_W own) (dd_KO own other o) L) {e : dd_R × Nat} (he : e ∈ L) : dd_Bd e.1 := by
  rw [dd_KO_mod h] at I
  have hb' : (other % 2 ^ o).testBit j = true := by
    rw [Nat.testBit_mod_two_pow, hb, decide_eq_true hj]; rfl
  exact dd_bnd3 hA (by omega) hb' (I.1.1 _ (List.mem_map.mpr ⟨e, he, rfl⟩)) (I.2.2.1 e he)
end
section
/-! how many rays there can be: on masks and signs alone (0: below, 1: on, 2: above) -/
def st_sg (z : Int) : Nat := if z < 0 then 0 else if z = 0 then 1 else 2
def st_kp (b : Nat) (e : Nat × Nat) : List Nat := if e.2 = 0 then [] else [if e.2 = 1 then e.1 ||| b else e.1]
def st_adj (M : List Nat) (k l : Nat) : Bool :=
  (List.range M.length).all fun m => m == k || m == l || !(dd_inc (M.getD m 0) (M.getD k 0 &&& M.getD l 0))
def st_cr (b : Nat) (M S : List Nat) (k l : Nat) : List Nat :=
  if S.getD k 1 = 2 ∧ S.getD l 1 = 0 ∧ st_adj M k l = true then [(M.getD k 0 &&& M.getD l 0) ||| b] else []
def st_step (b : Nat) (M S : List Nat) : List Nat :=
  (M.zip S).flatMap (st_kp b) ++ (List.range M.length).flatMap (fun k => (List.range M.length).flatMap (st_cr b M S k))
def st_init (own s : Nat) : List Nat := (List.range 3).flatMap (fun c => if own.testBit c = true then [(own &&& (7 ^^^ (1 <<< c))) ||| 8 <<< s] else []) ++ [own]
def st_all : List Nat → List (List Nat)
  | [] => [[]]
  | m :: M => (st_all M).flatMap (fun S => if m < 8 then [2 :: S] else [0 :: S, 1 :: S, 2 :: S])
def st_u (m : Nat) : Bool := (m &&& 7) == 3 || (m &&& 7) == 5 || (m &&& 7) == 6
def st_1 (m : Nat) : Bool := (m &&& 7) == 1 || (m &&& 7) == 2 || (m &&& 7) == 4
def st_f1 (M S : List Nat) (i j k : Nat) : Bool :=
  S.getD i 1 == 0 && S.getD j 1 == 0 && S.getD k 1 == 2 && st_u (M.getD i 0) && st_u (M.getD j 0) && dd_inc (M.getD k 0) ((M.getD i 0 &&& M.getD j 0) &&& 7) && decide (8 ≤ M.getD k 0)
def st_f3 (M S : List Nat) (p q b c : Nat) : Bool :=
  S.getD p 1 == 0 && S.getD c 1 == 0 && S.getD q 1 == 2 && S.getD b 1 == 2 && st_1 (M.getD p 0) && st_1 (M.getD q 0) && !((M.getD p 0 &&& 7) == (M.getD q 0 &&& 7)) && (M.getD b 0 &&& 7) == 7 - (M.getD q 0 &&& 7) && (M.getD c 0 &&& 7) == 7 - (M.getD p 0 &&& 7) && decide (8 ≤ ((M.getD p 0 &&& M.getD q 0) &&& (M.getD b 0 &&& M.getD c 0)))
def st_bad (M S : List Nat) : Bool :=
  (List.range M.length).any fun i => (List.range M.length).any fun j => (List.range M.length).any fun k => st_f1 M S i j k || (List.range M.length).any fun l => st_f3 M S i j k l
def st_chk (own : Nat) : Bool :=
  (st_all (st_init own 0)).all fun S0 => (st_all (st_step 16 (st_init own 0) S0)).all fun S1 => decide ((st_step 32 (st_step 16 (st_init own 0) S0) S1).length ≤ 9) || (own == 7 && st_bad (st_step 16 (st_init own 0) S0) S1)
def st_chk1 (own s o : Nat) : Bool := (st_all (st_init own s)).all fun S0 => decide ((st_step (8 <<< o) (st_init own s) S0).length ≤ 6)
theorem st_c1 : ∀ own, own < 8 → ∀ s, s < 3 → ∀ o, o < 3 → st_chk1 own s o = true := by decide +kernel
theorem st_c2 : ∀ own, own < 7 → st_chk own = true := by decide +kernel
theorem st_c7 : st_chk 7 = true := by decide +kernel
theorem st_c0 : ∀ own, own < 8 → ∀ s, s < 3 → (st_init own s).length ≤ 4 := by decide +kernel
/-! the step over masks and signs is the step's shadow -/
theorem st_getD {α : Type} (L : List α) (f : α → Nat) (d : α) (k : Nat) : (L.map f).getD k (f d) = f (L.getD k d) := by
  rw [List.getD_eq_getElem?_getD, List.getD_eq_getElem?_getD, List.getElem?_map]
  cases L[k]? <;> rfl
theorem st_shadow (A : Nat → Nat → Int) (o : Nat) (L : List (dd_R × Nat)) : (dd_step A o L).map Prod.snd = st_step (8 <<< o) (L.map Prod.snd) (L.map (fun e => st_sg (dd_g A (o + 3) e.1))) := by
  have g1 : ∀ k, (L.map Prod.snd).getD k 0 = (dd_at L k).2 := fun k => st_getD L Prod.snd (dd_0, 0) k
  have g2 : ∀ k, (L.map (fun e => st_sg (dd_g A (o + 3) e.1))).getD k 1 = st_sg (dd_g A (o + 3) (dd_at L k).1) := by
    intro k
    have := st_getD L (fun e => st_sg (dd_g A (o + 3) e.1)) (dd_0, 0) k
    have e : st_sg (dd_g A (o + 3) ((dd_0, 0) : dd_R × Nat).1) = 1 := by
      show st_sg (dd_g A (o + 3) dd_0) = 1
      rw [dd_g_0]; rfl
    rw [e] at this
    exact this
  have ad : ∀ k l, st_adj (L.map Prod.snd) k l = dd_adj L k l := by
    intro k l
    simp only [st_adj, dd_adj, g1, List.length_map]
  rw [dd_step, st_step, List.map_append, List.length_map]
  congr 1
  · rw [dd_kept, List.map_flatMap, List.zip_map', List.flatMap_map]
    congr 1
    funext e
    simp only [dd_kp, st_kp, st_sg]
    by_cases c : dd_g A (o + 3) e.1 < 0
    · simp [c]
    · by_cases z : dd_g A (o + 3) e.1 = 0
      · simp [z]
      · simp [c, z]
  · rw [dd_crs, List.map_flatMap]
    congr 1
    funext k
    rw [dd_row, List.map_flatMap]
    congr 1
    funext l
    have s2 : ∀ z : Int, st_sg z = 2 ↔ 0 < z := by
      intro z; simp only [st_sg]; split
      · constructor
        · intro h; exact absurd h (by decide)
        · intro h; omega
      · split
        · constructor
          · intro h; exact absurd h (by decide)
          · intro h; omega
        · constructor
          · intro _; omega
          · intro _; rfl
    have s0 : ∀ z : Int, st_sg z = 0 ↔ z < 0 := by
      intro z; simp only [st_sg]; split
      · rename_i h; exact ⟨fun _ => h, fun _ => rfl⟩
      · rename_i h
        constructor
        · intro h'; split at h' <;> exact absurd h' (by decide)
        · intro h'; exact absurd h' h
    simp only [st_cr, dd_cr, g1, g2, ad, s2, s0]
    split <;> rfl
theorem st_mem_all (M : List Nat) : ∀ S : List Nat, S.length = M.length → (∀ k, k < M.length → S.getD k 1 ≤ 2 ∧ (M.getD k 0 < 8 → S.getD k 1 = 2)) → S ∈ st_all M := by
  induction M with
  | nil =>
    intro S h _
    have : S = [] := List.length_eq_zero_iff.mp h
    rw [this]; exact List.mem_singleton.mpr rfl
  | cons m M ih =>
    intro S h H
    match S, h with
    | s :: S, h =>
      have hS : S ∈ st_all M := ih S (by simpa using h) (fun k hk => H (k + 1) (by simp; omega))
      have h0 := H 0 (by simp)
      have h1 : s ≤ 2 := h0.1
      have h2 : m < 8 → s = 2 := h0.2
      rw [st_all, List.mem_flatMap]
      refine ⟨S, hS, ?_⟩
      by_cases c : m < 8
      · rw [if_pos c, h2 c]; exact List.mem_singleton.mpr rfl
      · rw [if_neg c]
        have : s = 0 ∨ s = 1 ∨ s = 2 := by omega
        rcases this with e | e | e <;> rw [e] <;> simp
theorem st_sg_le (z : Int) : st_sg z ≤ 2 := by
  simp only [st_sg]; split
  · decide
  · split <;> decide
theorem st_init_eq (A : Nat → Nat → Int) (own s : Nat) : (dd_init A own s).map Prod.snd = st_init own s := by
  rw [dd_init, st_init, List.map_append, List.map_flatMap]
  congr 2
  funext c
  rw [dd_i1]
  split <;> rfl
end
section
/-! the lists are short -/
theorem cm_zero {A : Nat → Nat → Int} {own other : Nat} {j : Nat} (h3 : j < 3) (hb : other.testBit j = true) {q : dd_R} (hq : dd_Ext A (dd_W own) (dd_KO own other 3) q) (g1 : dd_gcd q = 1) (hs : dd_sm q = 0) : q = dd_v := by
  have n0 : 0 ≤ q.1 := cm_nn hq.1 (c := 0) (by decide)
  have n1 : 0 ≤ q.2.1 := cm_nn hq.1 (c := 1) (by decide)
  have n2 : 0 ≤ q.2.2.1 := cm_nn hq.1 (c := 2) (by decide)
  have hs : q.1 + q.2.1 + q.2.2.1 = 0 := hs
  obtain ⟨x0, x1, x2, v⟩ := q
  have z0 : x0 = 0 := by simp only at *; omega
  have z1 : x1 = 0 := by simp only at *; omega
  have z2 : x2 = 0 := by simp only at *; omega
  subst z0 z1 z2
  have h1 : 0 ≤ v - (0 * A 0 j + 0 * A 1 j + 0 * A 2 j) := hq.1.2 (j + 3) (by omega) (by rw [cm_Ko h3]; exact hb)
  have h2 : v.natAbs = 1 := by simpa [dd_gcd] using g1
  have h3 : v = 1 := by
    simp only [Int.zero_mul] at h1
    omega
  subst h3
  rfl
theorem st_vpos {A : Nat → Nat → Int} {own other o' : Nat} (h : o' ≤ 3) {j : Nat} (hj : j < o') (hb : other.testBit j = true) {L : List (dd_R × Nat)} (I : dd_Inv A (dd_W own) (dd_KO own other o') L) {e : dd_R × Nat} (he : e ∈ L) (h8 : e.2 < 8) : e.1 = dd_v := by
  rw [dd_KO_mod h] at I
  have hb' : (other % 2 ^ o').testBit j = true := by
    rw [Nat.testBit_mod_two_pow, hb, decide_eq_true hj]; rfl
  have ex := I.1.1 _ (List.mem_map.mpr ⟨e, he, rfl⟩)
  by_cases hs : dd_sm e.1 = 0
  · exact cm_zero (show j < 3 by omega) hb' ex (I.2.2.1 e he) hs
  · exfalso
    obtain ⟨o, ho, hbo, hg⟩ := cm_tight ex hs
    have b := (dd_msk_t (I.2.2.2 e he) (t := o + 3) (by omega)).mpr ⟨by rw [cm_Ko ho]; exact hbo, hg⟩
    have : e.2.testBit (o + 3) = false := Nat.testBit_lt_two_pow (Nat.lt_of_lt_of_le h8 (Nat.pow_le_pow_right (n := 2) (by decide) (show 3 ≤ o + 3 by omega)))
    rw [this] at b
    exact absurd b (by decide)
theorem st_in {A : Nat → Nat → Int} {own other o' : Nat} (h : o' ≤ 3) {j : Nat} (hj : j < o') (hb : other.testBit j = true) {L : List (dd_R × Nat)} (I : dd_Inv A (dd_W own) (dd_KO own other o') L) (o : Nat) : L.map (fun e => st_sg (dd_g A (o + 3) e.1)) ∈ st_all (L.map Prod.snd) := by
  apply st_mem_all
  · rw [List.length_map, List.length_map]
  · intro k hk
    rw [List.length_map] at hk
    have g1 : (L.map Prod.snd).getD k 0 = (dd_at L k).2 := st_getD L Prod.snd (dd_0, 0) k
    have g2 : (L.map (fun e => st_sg (dd_g A (o + 3) e.1))).getD k 1 = st_sg (dd_g A (o + 3) (dd_at L k).1) := by
      rw [List.getD_eq_getElem?_getD, List.getElem?_map, dd_at, List.getD_eq_getElem?_getD, List.getElem?_eq_getElem hk]
      rfl
    rw [g1, g2]
    refine ⟨st_sg_le _, fun h8 => ?_⟩
    rw [st_vpos h hj hb I (dd_at_mem hk) h8, dd_v_gs]
    rfl
/-- the list of all choices below o -/
def dd_stg (A : Nat → Nat → Int) (own other : Nat) : Nat → List (dd_R × Nat)
  | 0 => dd_init A own (dd_low other)
  | o + 1 => if dd_low other < o then dd_add A other o (dd_stg A own other o) else dd_stg A own other o
theorem dd_stg_s {A : Nat → Nat → Int} {own other o : Nat} (h : dd_low other < o) : dd_stg A own other (o + 1) = dd_add A other o (dd_stg A own other o) := by
  rw [dd_stg, if_pos h]
theorem dd_stg_0 {A : Nat → Nat → Int} {own other : Nat} : ∀ o, o ≤ dd_low other + 1 → dd_stg A own other o = dd_init A own (dd_low other) := by
  intro o
  induction o with
  | zero => intro _; rfl
  | succ o ih =>
    intro h
    rw [dd_stg, if_neg (by omega)]
    exact ih (by omega)
theorem dd_all_stg (A : Nat → Nat → Int) (own other : Nat) (hl : dd_low other < 3) : dd_all A own other = dd_stg A own other 3 := by
  have h0 := dd_stg_0 (A := A) (own := own) (other := other) (dd_low other + 1) (Nat.le_refl _)
  rw [dd_all]
  have : dd_low other = 0 ∨ dd_low other = 1 ∨ dd_low other = 2 := by omega
  rcases this with e | e | e
  · rw [dd_stg_s (by omega), dd_stg_s (by omega)]
    rw [e] at h0 ⊢
    rw [h0]; rfl
  · rw [dd_stg_s (by omega)]
    rw [e] at h0 ⊢
    rw [h0]; rfl
  · rw [e] at h0 ⊢
    rw [h0]; rfl
theorem dd_stg_inv (A : Nat → Nat → Int) {own other : Nat} (ho : own < 8) (h8 : other < 8) (h0 : 0 < other) : ∀ o, dd_low other < o → o ≤ 3 → dd_Inv A (dd_W own) (dd_KO own other o) (dd_stg A own other o) := by
  obtain ⟨h1, h2, h3⟩ := dd_low_spec other h8 h0
  intro o
  induction o with
  | zero => intro h _; omega
  | succ o ih =>
    intro h h'
    by_cases c : dd_low other < o
    · have I := ih c (by omega)
      rw [dd_stg_s c, dd_add]
      cases b : other.testBit o with
      | true =>
        rw [if_pos rfl, ← dd_KO_step b]
        exact dd_step_inv (dd_Pt_KO A own other o _ c h1 h2) (by omega) I
      | false =>
        rw [if_neg (by decide), ← dd_KO_skip b]
        exact I
    · have e : o = dd_low other := by omega
      subst e
      rw [dd_stg_0 _ (Nat.le_refl _), ← dd_K0_KO h2 h3]
      exact dd_init_inv A ho h1
theorem ar_nn {x d : Int} (hx : 0 ≤ x) (h : x * d < 0) : d < 0 := by
  by_cases c : d < 0
  · exact c
  · have := Int.mul_nonneg hx (show 0 ≤ d by omega)
    omega
theorem ar_pp {x d : Int} (hx : 0 ≤ x) (h : 0 < x * d) : 0 < d := by
  by_cases c : 0 < d
  · exact c
  · have := ar_np (b := d) (x := x) (by omega) hx
    rw [Int.mul_comm] at this
    omega
theorem ar_f3 {pa pb qa qc bb cc da db dc : Int} (h1 : 0 ≤ pa) (h2 : 0 ≤ pb) (h3 : 0 ≤ qa) (h4 : 0 ≤ qc) (h5 : 0 ≤ bb) (h6 : 0 ≤ cc) (e1 : pa * da + pb * db < 0) (e2 : cc * dc < 0) (e3 : 0 < qa * da + qc * dc) (e4 : 0 < bb * db) : False := by
  have c := ar_nn h6 e2
  have b := ar_pp h5 e4
  have m := ar_np (b := dc) (x := qc) (by omega) h4
  rw [Int.mul_comm] at m
  have a := ar_pp h3 (show 0 < qa * da by omega)
  have n1 := Int.mul_nonneg h1 (Int.le_of_lt a)
  have n2 := Int.mul_nonneg h2 (Int.le_of_lt b)
  omega
theorem st_b8 : ∀ m, m < 64 → 8 ≤ m → m.testBit 3 = true ∨ m.testBit 4 = true ∨ m.testBit 5 = true := by decide +kernel
theorem st_bu0 : ∀ z, z < 8 → ∀ t, t < 3 → ∀ s, s < 3 → (!(z == 3 || z == 5 || z == 6) || (z.testBit t || (s == t || z.testBit s))) = true := by decide +kernel
theorem st_bu (z : Nat) (hz : z < 8) (h : z = 3 ∨ z = 5 ∨ z = 6) (t : Nat) (ht : t < 3) (b : z.testBit t = false) (s : Nat) (hs : s < 3) : s = t ∨ z.testBit s = true := by
  have e := st_bu0 z hz t ht s hs
  have h' : (z == 3 || z == 5 || z == 6) = true := by
    rcases h with h | h | h <;> rw [h] <;> rfl
  rw [h', b] at e
  simpa using e
theorem st_sg0 {z : Int} (h : st_sg z = 0) : z < 0 := by
  simp only [st_sg] at h
  split at h
  · assumption
  · split at h <;> exact absurd h (by decide)
theorem st_sg2 {z : Int} (h : st_sg z = 2) : 0 < z := by
  simp only [st_sg] at h
  split at h
  · exact absurd h (by decide)
  · split at h
    · exact absurd h (by decide)
    · omega
theorem st_lin {A : Nat → Nat → Int} {o : Nat} {r : dd_R} (h : dd_g A (o + 3) r = 0) : dd_g A 5 r = dd_g A 0 r * (A 0 o - A 0 2) + dd_g A 1 r * (A 1 o - A 1 2) + dd_g A 2 r * (A 2 o - A 2 2) := by
  have h : r.2.2.2 - (r.1 * A 0 o + r.2.1 * A 1 o + r.2.2.1 * A 2 o) = 0 := h
  show r.2.2.2 - (r.1 * A 0 2 + r.2.1 * A 1 2 + r.2.2.1 * A 2 2) = r.1 * (A 0 o - A 0 2) + r.2.1 * (A 1 o - A 1 2) + r.2.2.1 * (A 2 o - A 2 2)
  rw [Int.mul_sub, Int.mul_sub, Int.mul_sub]
  omega
theorem st_unit {A : Nat → Nat → Int} {o t : Nat} (ht : t < 3) {r : dd_R} (hz : ∀ s, s < 3 → (s = t ∨ dd_g A s r = 0)) (hn : ∀ s, s < 3 → 0 ≤ dd_g A s r) (hi : 0 ≤ dd_g A (o + 3) r) (neg : dd_g A 5 r < 0) : A t o - A t 2 < 0 := by
  have hi : 0 ≤ r.2.2.2 - (r.1 * A 0 o + r.2.1 * A 1 o + r.2.2.1 * A 2 o) := hi
  have neg : r.2.2.2 - (r.1 * A 0 2 + r.2.1 * A 1 2 + r.2.2.1 * A 2 2) < 0 := neg
  have n0 : 0 ≤ r.1 := hn 0 (by decide)
  have n1 : 0 ≤ r.2.1 := hn 1 (by decide)
  have n2 : 0 ≤ r.2.2.1 := hn 2 (by decide)
  match t, ht with
  | 0, _ =>
    have z1 : r.2.1 = 0 := (hz 1 (by decide)).resolve_left (by decide)
    have z2 : r.2.2.1 = 0 := (hz 2 (by decide)).resolve_left (by decide)
    rw [z1, z2] at hi neg
    apply ar_nn n0
    rw [Int.mul_sub]; omega
  | 1, _ =>
    have z1 : r.1 = 0 := (hz 0 (by decide)).resolve_left (by decide)
    have z2 : r.2.2.1 = 0 := (hz 2 (by decide)).resolve_left (by decide)
    rw [z1, z2] at hi neg
    apply ar_nn n1
    rw [Int.mul_sub]; omega
  | 2, _ =>
    have z1 : r.1 = 0 := (hz 0 (by decide)).resolve_left (by decide)
    have z2 : r.2.1 = 0 := (hz 1 (by decide)).resolve_left (by decide)
    rw [z1, z2] at hi neg
    apply ar_nn n2
    rw [Int.mul_sub]; omega
theorem st_not_bad {A : Nat → Nat → Int} {L : List (dd_R × Nat)} (I : dd_Inv A (dd_W 7) (dd_KO 7 7 2) L) : st_bad (L.map Prod.snd) (L.map (fun e => st_sg (dd_g A (2 + 3) e.1))) = false := by
  have g1 : ∀ k, (L.map Prod.snd).getD k 0 = (dd_at L k).2 := fun k => st_getD L Prod.snd (dd_0, 0) k
  have g2 : ∀ k, k < L.length → (L.map (fun e => st_sg (dd_g A (2 + 3) e.1))).getD k 1 = st_sg (dd_g A 5 (dd_at L k).1) := by
    intro k hk
    rw [List.getD_eq_getElem?_getD, List.getElem?_map, dd_at, List.getD_eq_getElem?_getD, List.getElem?_eq_getElem hk]
    rfl
  have k7 : ∀ t, t < 3 → dd_KO 7 7 2 t = true := by decide
  have ko : ∀ o, o < 2 → dd_KO 7 7 2 (o + 3) = true := by decide
  have inn : ∀ k, k < L.length → dd_In A (dd_W 7) (dd_KO 7 7 2) (dd_at L k).1 := fun k hk => (I.1.1 _ (dd_at_fst hk)).1
  have nn : ∀ k, k < L.length → ∀ s, s < 3 → 0 ≤ dd_g A s (dd_at L k).1 := fun k hk s hs => (inn k hk).2 s (by omega) (k7 s hs)
  have bz : ∀ k, k < L.length → ∀ t, t < 3 → (dd_at L k).2.testBit t = true → dd_g A t (dd_at L k).1 = 0 := fun k hk t ht b => ((dd_msk_t (I.2.2.2 _ (dd_at_mem hk)) (by omega)).mp b).2
  have bo : ∀ k, k < L.length → ∀ t, t < 6 → (dd_at L k).2.testBit t = true → dd_KO 7 7 2 t = true ∧ dd_g A t (dd_at L k).1 = 0 := fun k hk t ht b => (dd_msk_t (I.2.2.2 _ (dd_at_mem hk)) ht).mp b
  have b7 : ∀ (m t : Nat), t < 3 → (m &&& 7).testBit t = m.testBit t := by
    intro m t ht
    rw [Nat.testBit_and]
    have : ∀ t, t < 3 → (7 : Nat).testBit t = true := by decide
    rw [this t ht, Bool.and_true]
  have l7 : ∀ m : Nat, m &&& 7 < 8 := fun m => Nat.lt_of_le_of_lt Nat.and_le_right (by decide)
  cases hbad : st_bad (L.map Prod.snd) (L.map (fun e => st_sg (dd_g A (2 + 3) e.1))) with
  | false => rfl
  | true =>
    exfalso
    rw [st_bad, List.length_map, List.any_eq_true] at hbad
    obtain ⟨i, hi, hbad⟩ := hbad
    rw [List.any_eq_true] at hbad
    obtain ⟨j, hj, hbad⟩ := hbad
    rw [List.any_eq_true] at hbad
    obtain ⟨k, hk, hbad⟩ := hbad
    rw [List.mem_range] at hi hj hk
    rw [Bool.or_eq_true] at hbad
    rcases hbad with hbad | hbad
    · simp only [st_f1, Bool.and_eq_true, beq_iff_eq, decide_eq_true_eq, g1, g2 i hi, g2 j hj, g2 k hk, st_u, Bool.or_eq_true] at hbad
      obtain ⟨⟨⟨⟨⟨⟨si, sj⟩, sk⟩, ui⟩, uj⟩, inc⟩, k8⟩ := hbad
      have si := st_sg0 si
      have sj := st_sg0 sj
      have sk := st_sg2 sk
      have mk := I.2.2.2 _ (dd_at_mem hk)
      have ho : ∃ o, o < 2 ∧ dd_g A (o + 3) (dd_at L k).1 = 0 := by
        rcases st_b8 _ mk.1 k8 with b | b | b
        · exact ⟨0, by decide, (bo k hk 3 (by decide) b).2⟩
        · exact ⟨1, by decide, (bo k hk 4 (by decide) b).2⟩
        · have := (bo k hk 5 (by decide) b).1
          exact absurd this (by decide)
      obtain ⟨o, ho2, hg⟩ := ho
      have un : ∀ m, m < L.length → dd_g A 5 (dd_at L m).1 < 0 → (((dd_at L m).2 &&& 7 = 3 ∨ (dd_at L m).2 &&& 7 = 5) ∨ (dd_at L m).2 &&& 7 = 6) → ∀ t, t < 3 → (dd_at L m).2.testBit t = false → A t o - A t 2 < 0 := by
        intro m hm sm um t ht bt
        refine st_unit ht (r := (dd_at L m).1) (fun s hs => ?_) (nn m hm) ((inn m hm).2 (o + 3) (by omega) (ko o ho2)) sm
        have := st_bu ((dd_at L m).2 &&& 7) (l7 _) (by omega) t ht (by rw [b7 _ t ht]; exact bt) s hs
        rcases this with h | h
        · exact Or.inl h
        · rw [b7 _ s hs] at h
          exact Or.inr (bz m hm s hs h)
      have inc' := (dd_inc_iff (show ((dd_at L i).2 &&& (dd_at L j).2) &&& 7 < 64 by have := l7 ((dd_at L i).2 &&& (dd_at L j).2); omega)).mp inc
      have le : ∀ t, t < 3 → dd_g A t (dd_at L k).1 * (A t o - A t 2) ≤ 0 := by
        intro t ht
        have n := nn k hk t ht
        cases bt : (dd_at L k).2.testBit t with
        | true => rw [bz k hk t ht bt, Int.zero_mul]; exact Int.le_refl _
        | false =>
          have d : A t o - A t 2 < 0 := by
            cases bi : (dd_at L i).2.testBit t with
            | false => exact un i hi si ui t ht bi
            | true =>
              cases bj : (dd_at L j).2.testBit t with
              | false => exact un j hj sj uj t ht bj
              | true =>
                exfalso
                have := inc' t (by omega) (by rw [b7 _ t ht, Nat.testBit_and, bi, bj]; rfl)
                rw [this] at bt
                exact absurd bt (by decide)
          have := ar_np (b := A t o - A t 2) (x := dd_g A t (dd_at L k).1) (by omega) n
          rw [Int.mul_comm]
          exact this
      rw [st_lin hg] at sk
      have := le 0 (by decide)
      have := le 1 (by decide)
      have := le 2 (by decide)
      omega
    · rw [List.any_eq_true] at hbad
      obtain ⟨l, hl, hbad⟩ := hbad
      rw [List.mem_range] at hl
      simp only [st_f3, Bool.and_eq_true, beq_iff_eq, decide_eq_true_eq, g1, g2 i hi, g2 j hj, g2 k hk, g2 l hl, st_1, Bool.or_eq_true, Bool.not_eq_true', beq_eq_false_iff_ne] at hbad
      obtain ⟨⟨⟨⟨⟨⟨⟨⟨⟨si, sl⟩, sj⟩, sk⟩, ui⟩, uj⟩, ne⟩, zk⟩, zl⟩, c8⟩ := hbad
      have si := st_sg0 si
      have sl := st_sg0 sl
      have sj := st_sg2 sj
      have sk := st_sg2 sk
      have mi := I.2.2.2 _ (dd_at_mem hi)
      have ho : ∃ o, o < 2 ∧ dd_g A (o + 3) (dd_at L i).1 = 0 ∧ dd_g A (o + 3) (dd_at L j).1 = 0 ∧ dd_g A (o + 3) (dd_at L k).1 = 0 ∧ dd_g A (o + 3) (dd_at L l).1 = 0 := by
        have h64 : (((dd_at L i).2 &&& (dd_at L j).2) &&& ((dd_at L k).2 &&& (dd_at L l).2)) < 64 := dd_and64 (dd_and64 mi.1)
        have sp : ∀ t, (((dd_at L i).2 &&& (dd_at L j).2) &&& ((dd_at L k).2 &&& (dd_at L l).2)).testBit t = true → ((dd_at L i).2.testBit t = true ∧ (dd_at L j).2.testBit t = true) ∧ ((dd_at L k).2.testBit t = true ∧ (dd_at L l).2.testBit t = true) := by
          intro t h
          rw [Nat.testBit_and, Nat.testBit_and, Nat.testBit_and, Bool.and_eq_true, Bool.and_eq_true, Bool.and_eq_true] at h
          exact h
        rcases st_b8 _ h64 c8 with b | b | b
        · obtain ⟨⟨a, b⟩, ⟨c, d⟩⟩ := sp _ b
          exact ⟨0, by decide, (bo i hi 3 (by decide) a).2, (bo j hj 3 (by decide) b).2, (bo k hk 3 (by decide) c).2, (bo l hl 3 (by decide) d).2⟩
        · obtain ⟨⟨a, b⟩, ⟨c, d⟩⟩ := sp _ b
          exact ⟨1, by decide, (bo i hi 4 (by decide) a).2, (bo j hj 4 (by decide) b).2, (bo k hk 4 (by decide) c).2, (bo l hl 4 (by decide) d).2⟩
        · obtain ⟨⟨a, _⟩, _⟩ := sp _ b
          have := (bo i hi 5 (by decide) a).1
          exact absurd this (by decide)
      obtain ⟨o, ho2, gi, gj, gk, gl⟩ := ho
      rw [st_lin gi] at si
      rw [st_lin gj] at sj
      rw [st_lin gk] at sk
      rw [st_lin gl] at sl
      have zb : ∀ m, m < L.length → ∀ z, (dd_at L m).2 &&& 7 = z → ∀ t, t < 3 → z.testBit t = true → dd_g A t (dd_at L m).1 = 0 := by
        intro m hm z hz t ht b
        rw [← hz, b7 _ t ht] at b
        exact bz m hm t ht b
      have ni := nn i hi
      have nj := nn j hj
      have nk := nn k hk
      have nl := nn l hl
      rcases ui with (ui | ui) | ui <;> rcases uj with (uj | uj) | uj
      · exact ne (by omega)
      · -- p: 0 zero, q: 1 zero, B: only 1, C: only 0; a = 2
        rw [ui] at zl; rw [uj] at zk
        rw [zb i hi _ ui 0 (by decide) (by decide)] at si
        rw [zb j hj _ uj 1 (by decide) (by decide)] at sj
        rw [zb k hk _ zk 0 (by decide) (by decide), zb k hk _ zk 2 (by decide) (by decide)] at sk
        rw [zb l hl _ zl 1 (by decide) (by decide), zb l hl _ zl 2 (by decide) (by decide)] at sl
        exact ar_f3 (ni 2 (by decide)) (ni 1 (by decide)) (nj 2 (by decide)) (nj 0 (by decide)) (nk 1 (by decide)) (nl 0 (by decide)) (da := A 2 o - A 2 2) (db := A 1 o - A 1 2) (dc := A 0 o - A 0 2) (by omega) (by omega) (by omega) (by omega)
      · rw [ui] at zl; rw [uj] at zk
        rw [zb i hi _ ui 0 (by decide) (by decide)] at si
        rw [zb j hj _ uj 2 (by decide) (by decide)] at sj
        rw [zb k hk _ zk 0 (by decide) (by decide), zb k hk _ zk 1 (by decide) (by decide)] at sk
        rw [zb l hl _ zl 1 (by decide) (by decide), zb l hl _ zl 2 (by decide) (by decide)] at sl
        exact ar_f3 (ni 1 (by decide)) (ni 2 (by decide)) (nj 1 (by decide)) (nj 0 (by decide)) (nk 2 (by decide)) (nl 0 (by decide)) (da := A 1 o - A 1 2) (db := A 2 o - A 2 2) (dc := A 0 o - A 0 2) (by omega) (by omega) (by omega) (by omega)
      · rw [ui] at zl; rw [uj] at zk
        rw [zb i hi _ ui 1 (by decide) (by decide)] at si
        rw [zb j hj _ uj 0 (by decide) (by decide)] at sj
        rw [zb k hk _ zk 1 (by decide) (by decide), zb k hk _ zk 2 (by decide) (by decide)] at sk
        rw [zb l hl _ zl 0 (by decide) (by decide), zb l hl _ zl 2 (by decide) (by decide)] at sl
        exact ar_f3 (ni 2 (by decide)) (ni 0 (by decide)) (nj 2 (by decide)) (nj 1 (by decide)) (nk 0 (by decide)) (nl 1 (by decide)) (da := A 2 o - A 2 2) (db := A 0 o - A 0 2) (dc := A 1 o - A 1 2) (by omega) (by omega) (by omega) (by omega)
      · exact ne (by omega)
      · rw [ui] at zl; rw [uj] at zk
        rw [zb i hi _ ui 1 (by decide) (by decide)] at si
        rw [zb j hj _ uj 2 (by decide) (by decide)] at sj
        rw [zb k hk _ zk 0 (by decide) (by decide), zb k hk _ zk 1 (by decide) (by decide)] at sk
        rw [zb l hl _ zl 0 (by decide) (by decide), zb l hl _ zl 2 (by decide) (by decide)] at sl
        exact ar_f3 (ni 0 (by decide)) (ni 2 (by decide)) (nj 0 (by decide)) (nj 1 (by decide)) (nk 2 (by decide)) (nl 1 (by decide)) (da := A 0 o - A 0 2) (db := A 2 o - A 2 2) (dc := A 1 o - A 1 2) (by omega) (by omega) (by omega) (by omega)
      · rw [ui] at zl; rw [uj] at zk
        rw [zb i hi _ ui 2 (by decide) (by decide)] at si
        rw [zb j hj _ uj 0 (by decide) (by decide)] at sj
        rw [zb k hk _ zk 1 (by decide) (by decide), zb k hk _ zk 2 (by decide) (by decide)] at sk
        rw [zb l hl _ zl 0 (by decide) (by decide), zb l hl _ zl 1 (by decide) (by decide)] at sl
        exact ar_f3 (ni 1 (by decide)) (ni 0 (by decide)) (nj 1 (by decide)) (nj 2 (by decide)) (nk 0 (by decide)) (nl 2 (by decide)) (da := A 1 o - A 1 2) (db := A 0 o - A 0 2) (dc := A 2 o - A 2 2) (by omega) (by omega) (by omega) (by omega)
      · rw [ui] at zl; rw [uj] at zk
        rw [zb i hi _ ui 2 (by decide) (by decide)] at si
        rw [zb j hj _ uj 1 (by decide) (by decide)] at sj
        rw [zb k hk _ zk 0 (by decide) (by decide), zb k hk _ zk 2 (by decide) (by decide)] at sk
        rw [zb l hl _ zl 0 (by decide) (by decide), zb l hl _ zl 1 (by decide) (by decide)] at sl
        exact ar_f3 (ni 0 (by decide)) (ni 1 (by decide)) (nj 0 (by decide)) (nj 2 (by decide)) (nk 1 (by decide)) (nl 2 (by decide)) (da := A 0 o - A 0 2) (db := A 1 o - A 1 2) (dc := A 2 o - A 2 2) (by omega) (by omega) (by omega) (by omega)
      · exact ne (by omega)
theorem dd_len1 (A : Nat → Nat → Int) {own s o : Nat} (ho : own < 8) (hs : s < 3) (h3 : o < 3) : (dd_step A o (dd_init A own s)).length ≤ 6 := by
  have I := dd_init_inv A ho hs
  have e : dd_K0 own s = dd_KO own (2 ^ s) (s + 1) := dd_K0_KO Nat.testBit_two_pow_self (fun j hj => Nat.testBit_two_pow_of_ne (by omega))
  rw [e] at I
  have hin := st_in (o' := s + 1) (by omega) (Nat.lt_succ_self s) Nat.testBit_two_pow_self I o
  have sh := congrArg List.length (st_shadow A o (dd_init A own s))
  rw [st_init_eq] at hin sh
  rw [List.length_map] at sh
  rw [sh]
  have c := st_c1 own ho s hs o h3
  rw [st_chk1, List.all_eq_true] at c
  exact of_decide_eq_true (c _ hin)
theorem dd_len2 (A : Nat → Nat → Int) {own : Nat} (ho : own < 8) : (dd_step A 2 (dd_step A 1 (dd_init A own 0))).length ≤ 9 := by
  have I0 := dd_init_inv A ho (s := 0) (by decide)
  have e : dd_K0 own 0 = dd_KO own 7 1 := dd_K0_KO (by decide) (fun j hj => by omega)
  rw [e] at I0
  have h0 := st_in (o' := 1) (j := 0) (by decide) (by decide) (by decide) I0 1
  have I1 := dd_step_inv (dd_Pt_KO A own 7 1 0 (by decide) (by decide) (by decide)) (o := 1) (by decide) I0
  rw [dd_KO_step (by decide)] at I1
  have h1 := st_in (o' := 2) (j := 0) (by decide) (by decide) (by decide) I1 2
  have s1 := st_shadow A 1 (dd_init A own 0)
  have s2 := congrArg List.length (st_shadow A 2 (dd_step A 1 (dd_init A own 0)))
  have nb : own = 7 → st_bad ((dd_step A 1 (dd_init A own 0)).map Prod.snd) ((dd_step A 1 (dd_init A own 0)).map (fun e => st_sg (dd_g A (2 + 3) e.1))) = false := by
    intro e7
    subst e7
    exact st_not_bad I1
  rw [List.length_map] at s2
  rw [s2]
  rw [s1] at h1 nb ⊢
  rw [st_init_eq] at h0 h1 nb ⊢
  have c : st_chk own = true := by
    by_cases e7 : own = 7
    · rw [e7]; exact st_c7
    · exact st_c2 own (by omega)
  rw [st_chk, List.all_eq_true] at c
  have c1 := c _ h0
  rw [List.all_eq_true] at c1
  have c2 := c1 _ h1
  rw [Bool.or_eq_true] at c2
  rcases c2 with c2 | c2
  · exact of_decide_eq_true c2
  · rw [Bool.and_eq_true, beq_iff_eq] at c2
    exact absurd ((nb c2.1).symm.trans c2.2) (by decide)
theorem dd_len0 (A : Nat → Nat → Int) {own s : Nat} (ho : own < 8) (hs : s < 3) : (dd_init A own s).length ≤ 4 := by
  have h := congrArg List.length (st_init_eq A own s)
  rw [List.length_map] at h
  rw [h]
  exact st_c0 own ho s hs
theorem dd_stg_len (A : Nat → Nat → Int) {own other : Nat} (ho : own < 8) (h8 : other < 8) (h0 : 0 < other) (o : Nat) (h3 : o ≤ 3) : (dd_stg A own other o).length ≤ 9 := by
  have l0 := dd_len0 A ho (s := 0) (by decide)
  have l1 := dd_len0 A ho (s := 1) (by decide)
  have l2 := dd_len0 A ho (s := 2) (by decide)
  have m01 := dd_len1 A ho (s := 0) (o := 1) (by decide) (by decide)
  have m02 := dd_len1 A ho (s := 0) (o := 2) (by decide) (by decide)
  have m12 := dd_len1 A ho (s := 1) (o := 2) (by decide) (by decide)
  have t := dd_len2 A ho
  have i0 : (dd_init A own 0).length ≤ 9 := by omega
  have i1 : (dd_init A own 1).length ≤ 9 := by omega
  have i2 : (dd_init A own 2).length ≤ 9 := by omega
  have j01 : (dd_step A 1 (dd_init A own 0)).length ≤ 9 := by omega
  have j02 : (dd_step A 2 (dd_init A own 0)).length ≤ 9 := by omega
  have j12 : (dd_step A 2 (dd_init A own 1)).length ≤ 9 := by omega
  have ho' : o = 0 ∨ o = 1 ∨ o = 2 ∨ o = 3 := by omega
  have hm : other = 1 ∨ other = 2 ∨ other = 3 ∨ other = 4 ∨ other = 5 ∨ other = 6 ∨ other = 7 := by omega
  rcases hm with rfl | rfl | rfl | rfl | rfl | rfl | rfl <;> rcases ho' with rfl | rfl | rfl | rfl <;> first | exact i0 | exact i1 | exact i2 | exact j01 | exact j02 | exact j12 | exact t
theorem dd_fin_len (A : Nat → Nat → Int) {own other : Nat} (ho : own < 8) (h8 : other < 8) (h0 : 0 < other) : (dd_fin A own other).length ≤ 8 := by
  obtain ⟨h1, h2, h3⟩ := dd_low_spec other h8 h0
  have l := dd_stg_len A ho h8 h0 3 (by decide)
  rw [← dd_all_stg A own other h1] at l
  have I := dd_all_inv A ho h8 h0
  -- the ray without a mix is one of them
  have hv : dd_Ext A (dd_W own) (dd_KO own other 3) dd_v := by
    refine ⟨⟨fun t ht _ => dd_v_g3 A ht, fun t ht kt => ?_⟩, by decide, fun q' i' z' ti => ?_⟩
    · rcases cm_t6 ht with h | ⟨j, hj, rfl⟩
      · rw [dd_v_g3 A h]; decide
      · rw [dd_v_gs]; decide
    · refine dd_par_of (dd_all_pt A h8 h0) ⟨fun t ht _ => dd_v_g3 A ht, fun t ht kt => ?_⟩ i' z' (a := 1) (b := q'.2.2.2) (by decide) ?_
      · rcases cm_t6 ht with h | ⟨j, hj, rfl⟩
        · rw [dd_v_g3 A h]; decide
        · rw [dd_v_gs]; decide
      · have f : ∀ t, t < 3 → dd_g A t q' = 0 := by
          intro t ht
          cases hw : own.testBit t with
          | false => exact i'.1 t ht hw
          | true => exact ti t (by omega) (by rw [cm_K3 ht]; exact hw) (dd_v_g3 A ht)
        have f0 : q'.1 = 0 := f 0 (by decide)
        have f1 : q'.2.1 = 0 := f 1 (by decide)
        have f2 : q'.2.2.1 = 0 := f 2 (by decide)
        refine dd_ext ?_ ?_ ?_ ?_ <;> simp [dd_sc, dd_v, f0, f1, f2]
  obtain ⟨r, hr, pr⟩ := I.1.2.1 dd_v hv
  obtain ⟨e, he, rfl⟩ := List.mem_map.mp hr
  have ev := dd_par_eq pr (I.2.2.1 e he) dd_v_gcd
  have : (dd_fin A own other).length < (dd_all A own other).length := by
    rw [dd_fin]
    refine List.length_filter_lt_length_iff_exists.mpr ⟨e, he, ?_⟩
    rw [ev]
    decide
  omega
end
section
/-! the order of mixes, and sorted lists -/
def od_c (a b sa sb : Int) : Int := a * sb - b * sa
def od_lt (x y : cm_T) : Prop :=
  od_c x.1 y.1 (cm_sum x) (cm_sum y) < 0 ∨ (od_c x.1 y.1 (cm_sum x) (cm_sum y) = 0 ∧
    (od_c x.2.1 y.2.1 (cm_sum x) (cm_sum y) < 0 ∨ (od_c x.2.1 y.2.1 (cm_sum x) (cm_sum y) = 0 ∧ od_c x.2.2 y.2.2 (cm_sum x) (cm_sum y) < 0)))
theorem od_c_neg (a b sa sb : Int) : od_c b a sb sa = -od_c a b sa sb := by simp only [od_c]; omega
theorem od_asymm {x y : cm_T} (h : od_lt x y) (h' : od_lt y x) : False := by
  simp only [od_lt, od_c_neg x.1 y.1, od_c_neg x.2.1 y.2.1, od_c_neg x.2.2 y.2.2] at h h'
  omega
theorem od_irr (x : cm_T) : ¬ od_lt x x := fun h => od_asymm h h
theorem od_tr_c {a b c sa sb sc : Int} : od_c a c sa sc * sb = od_c a b sa sb * sc + od_c b c sb sc * sa := by
  simp only [od_c]; grind
theorem ar_sgn {x y z a b c : Int} (hb : 0 < b) (ha : 0 < a) (hc : 0 < c) (e : x * b = y * c + z * a) : (y < 0 → z ≤ 0 → x < 0) ∧ (y ≤ 0 → z < 0 → x < 0) ∧ (y = 0 → z = 0 → x = 0) := by
  refine ⟨fun h1 h2 => ?_, fun h1 h2 => ?_, fun h1 h2 => ?_⟩
  · have p := Int.mul_pos (show 0 < -y by omega) hc
    have q := ar_np h2 (Int.le_of_lt ha)
    rw [Int.neg_mul] at p
    refine ar_nn (x := b) (Int.le_of_lt hb) ?_
    rw [Int.mul_comm]; omega
  · have p := Int.mul_pos (show 0 < -z by omega) ha
    have q := ar_np h1 (Int.le_of_lt hc)
    rw [Int.neg_mul] at p
    refine ar_nn (x := b) (Int.le_of_lt hb) ?_
    rw [Int.mul_comm]; omega
  · rw [h1, h2, Int.zero_mul, Int.zero_mul] at e
    refine ar_z' (a := b) (by omega) ?_
    rw [Int.mul_comm]; omega
theorem od_trans {x y z : cm_T} (px : 0 < cm_sum x) (py : 0 < cm_sum y) (pz : 0 < cm_sum z) (h : od_lt x y) (h' : od_lt y z) : od_lt x z := by
  obtain ⟨a1, a2, a3⟩ := ar_sgn py px pz (od_tr_c (a := x.1) (b := y.1) (c := z.1) (sa := cm_sum x) (sb := cm_sum y) (sc := cm_sum z))
  obtain ⟨b1, b2, b3⟩ := ar_sgn py px pz (od_tr_c (a := x.2.1) (b := y.2.1) (c := z.2.1) (sa := cm_sum x) (sb := cm_sum y) (sc := cm_sum z))
  obtain ⟨c1, c2, c3⟩ := ar_sgn py px pz (od_tr_c (a := x.2.2) (b := y.2.2) (c := z.2.2) (sa := cm_sum x) (sb := cm_sum y) (sc := cm_sum z))
  simp only [od_lt] at h h' ⊢
  generalize od_c x.1 y.1 (cm_sum x) (cm_sum y) = u1 at *
  generalize od_c y.1 z.1 (cm_sum y) (cm_sum z) = u2 at *
  generalize od_c x.1 z.1 (cm_sum x) (cm_sum z) = u3 at *
  generalize od_c x.2.1 y.2.1 (cm_sum x) (cm_sum y) = v1 at *
  generalize od_c y.2.1 z.2.1 (cm_sum y) (cm_sum z) = v2 at *
  generalize od_c x.2.1 z.2.1 (cm_sum x) (cm_sum z) = v3 at *
  generalize od_c x.2.2 y.2.2 (cm_sum x) (cm_sum y) = w1 at *
  generalize od_c y.2.2 z.2.2 (cm_sum y) (cm_sum z) = w2 at *
  generalize od_c x.2.2 z.2.2 (cm_sum x) (cm_sum z) = w3 at *
  rcases h with h | ⟨h1, h | ⟨h2, h⟩⟩ <;> rcases h' with h' | ⟨h1', h' | ⟨h2', h'⟩⟩
  · exact Or.inl (a1 h (by omega))
  · exact Or.inl (a1 h (by omega))
  · exact Or.inl (a1 h (by omega))
  · exact Or.inl (a2 (by omega) h')
  · exact Or.inr ⟨a3 h1 h1', Or.inl (b1 h (by omega))⟩
  · exact Or.inr ⟨a3 h1 h1', Or.inl (b1 h (by omega))⟩
  · exact Or.inl (a2 (by omega) h')
  · exact Or.inr ⟨a3 h1 h1', Or.inl (b2 (by omega) h')⟩
  · exact Or.inr ⟨a3 h1 h1', Or.inr ⟨b3 h2 h2', c1 h (by omega)⟩⟩
def od_ok (x : cm_T) : Prop := 0 < cm_sum x ∧ dd_gcd (x.1, x.2.1, x.2.2, 0) = 1
theorem od_eq0 {x y : cm_T} (hx : od_ok x) (hy : od_ok y) (h0 : od_c x.1 y.1 (cm_sum x) (cm_sum y) = 0) (h1 : od_c x.2.1 y.2.1 (cm_sum x) (cm_sum y) = 0) (h2 : od_c x.2.2 y.2.2 (cm_sum x) (cm_sum y) = 0) : x = y := by
  have f : ∀ a b : Int, od_c a b (cm_sum x) (cm_sum y) = 0 → cm_sum y * a = cm_sum x * b := by
    intro a b h
    simp only [od_c] at h
    rw [Int.mul_comm, Int.mul_comm (cm_sum x)]
    omega
  have par : dd_par (x.1, x.2.1, x.2.2, 0) (y.1, y.2.1, y.2.2, 0) :=
    ⟨cm_sum y, cm_sum x, hy.1, hx.1, dd_ext (f _ _ h0) (f _ _ h1) (f _ _ h2) (by show _ * (0 : Int) = _ * (0 : Int); rw [Int.mul_zero, Int.mul_zero])⟩
  have e := dd_par_eq par hx.2 hy.2
  exact Prod.ext (congrArg (fun q : dd_R => q.1) e) (Prod.ext (congrArg (fun q : dd_R => q.2.1) e) (congrArg (fun q : dd_R => q.2.2.1) e))
theorem od_tri {x y : cm_T} (hx : od_ok x) (hy : od_ok y) : od_lt x y ∨ x = y ∨ od_lt y x := by
  have n1 := od_c_neg x.1 y.1 (cm_sum x) (cm_sum y)
  have n2 := od_c_neg x.2.1 y.2.1 (cm_sum x) (cm_sum y)
  have n3 := od_c_neg x.2.2 y.2.2 (cm_sum x) (cm_sum y)
  have eq := od_eq0 hx hy
  simp only [od_lt, n1, n2, n3]
  generalize od_c x.1 y.1 (cm_sum x) (cm_sum y) = u at *
  generalize od_c x.2.1 y.2.1 (cm_sum x) (cm_sum y) = v at *
  generalize od_c x.2.2 y.2.2 (cm_sum x) (cm_sum y) = w at *
  by_cases a : u = 0 ∧ v = 0 ∧ w = 0
  · exact Or.inr (Or.inl (eq a.1 a.2.1 a.2.2))
  · have : (u < 0 ∨ (u = 0 ∧ (v < 0 ∨ (v = 0 ∧ w < 0)))) ∨ (-u < 0 ∨ (-u = 0 ∧ (-v < 0 ∨ (-v = 0 ∧ -w < 0)))) := by omega
    rcases this with h | h
    · exact Or.inl h
    · exact Or.inr (Or.inr h)
theorem cm_ok {A : Nat → Nat → Int} {own other : Nat} {x : cm_T} (C : cm_Cor A own other x) : od_ok x := by
  obtain ⟨q, hq, g4, rfl, hs⟩ := C
  obtain ⟨o, ho, hb, hg⟩ := cm_tight hq hs
  have n0 : 0 ≤ q.1 := cm_nn hq.1 (c := 0) (by decide)
  have n1 : 0 ≤ q.2.1 := cm_nn hq.1 (c := 1) (by decide)
  have n2 : 0 ≤ q.2.2.1 := cm_nn hq.1 (c := 2) (by decide)
  have hs : q.1 + q.2.1 + q.2.2.1 ≠ 0 := hs
  have vo : q.2.2.2 - (q.1 * A 0 o + q.2.1 * A 1 o + q.2.2.1 * A 2 o) = 0 := hg
  refine ⟨?_, ?_⟩
  · show 0 < q.1 + q.2.1 + q.2.2.1
    omega
  · exact dd_gcd_3 (v := q.2.2.2) g4 (by omega : q.2.2.2 = q.1 * A 0 o + q.2.1 * A 1 o + q.2.2.1 * A 2 o)
/-! sorted lists -/
theorem so_uniq {α : Type} {R : α → α → Prop} (hR : ∀ x y, R x y → R y x → False) : ∀ l m : List α, l.Pairwise R → m.Pairwise R → (∀ x, x ∈ l ↔ x ∈ m) → l = m := by
  intro l
  induction l with
  | nil =>
    intro m _ _ h
    cases m with
    | nil => rfl
    | cons b m => exact absurd ((h b).mpr List.mem_cons_self) List.not_mem_nil
  | cons a l ih =>
    intro m hl hm h
    cases m with
    | nil => exact absurd ((h a).mp List.mem_cons_self) List.not_mem_nil
    | cons b m =>
      rw [List.pairwise_cons] at hl hm
      have e : a = b := by
        rcases List.mem_cons.mp ((h a).mp List.mem_cons_self) with e | h1
        · exact e
        · rcases List.mem_cons.mp ((h b).mpr List.mem_cons_self) with e | h2
          · exact e.symm
          · exact absurd (hR _ _ (hm.1 a h1) (hl.1 b h2)) id
      subst e
      have : l = m := by
        refine ih m hl.2 hm.2 (fun x => ?_)
        constructor
        · intro hx
          rcases List.mem_cons.mp ((h x).mp (List.mem_cons_of_mem _ hx)) with e | h1
          · rw [e] at hx; exact absurd (hR _ _ (hl.1 a hx) (hl.1 a hx)) id
          · exact h1
        · intro hx
          rcases List.mem_cons.mp ((h x).mpr (List.mem_cons_of_mem _ hx)) with e | h1
          · rw [e] at hx; exact absurd (hR _ _ (hm.1 a hx) (hm.1 a hx)) id
          · exact h1
      rw [this]
def so_ins {α : Type} (l : List α) (a : Nat) (x : α) : List α := l.take a ++ x :: l.drop a
theorem so_ins_len {α : Type} (l : List α) {a : Nat} (h : a ≤ l.length) (x : α) : (so_ins l a x).length = l.length + 1 := by
  rw [so_ins, List.length_append, List.length_cons, List.length_take, List.length_drop]; omega
theorem so_ins_mem {α : Type} (l : List α) (a : Nat) (x y : α) : y ∈ so_ins l a x ↔ y ∈ l ∨ y = x := by
  rw [so_ins, List.mem_append, List.mem_cons]
  constructor
  · rintro (h | h | h)
    · exact Or.inl (List.mem_of_mem_take h)
    · exact Or.inr h
    · exact Or.inl (List.mem_of_mem_drop h)
  · rintro (h | h)
    · rw [← List.take_append_drop a l, List.mem_append] at h
      rcases h with h | h
      · exact Or.inl h
      · exact Or.inr (Or.inr h)
    · exact Or.inr (Or.inl h)
theorem so_ins_sorted {α : Type} {R : α → α → Prop} {l : List α} {a : Nat} {x : α} (hl : l.Pairwise R) (h1 : ∀ y, y ∈ l.take a → R y x) (h2 : ∀ y, y ∈ l.drop a → R x y) : (so_ins l a x).Pairwise R := by
  have hl' := hl
  rw [← List.take_append_drop a l, List.pairwise_append] at hl'
  obtain ⟨p1, p2, p3⟩ := hl'
  rw [so_ins, List.pairwise_append, List.pairwise_cons]
  refine ⟨p1, ⟨h2, p2⟩, fun y hy z hz => ?_⟩
  rcases List.mem_cons.mp hz with e | hz
  · rw [e]; exact h1 y hy
  · exact p3 y hy z hz
theorem so_ins_getD {α : Type} (l : List α) {a : Nat} (h : a ≤ l.length) (x d : α) (k : Nat) : (so_ins l a x).getD k d = if k < a then l.getD k d else if k = a then x else l.getD (k - 1) d := by
  rw [so_ins, List.getD_eq_getElem?_getD]
  by_cases c : k < a
  · rw [if_pos c, List.getElem?_append_left (by rw [List.length_take]; omega), List.getElem?_take_of_lt c, List.getD_eq_getElem?_getD]
  · rw [if_neg c, List.getElem?_append_right (by rw [List.length_take]; omega), List.length_take]
    have e : min a l.length = a := by omega
    rw [e]
    by_cases c2 : k = a
    · rw [if_pos c2, c2, Nat.sub_self]; rfl
    · rw [if_neg c2]
      obtain ⟨j, rfl⟩ : ∃ j, k = a + 1 + j := ⟨k - a - 1, by omega⟩
      have e2 : a + 1 + j - a = j + 1 := by omega
      rw [e2, List.getElem?_cons_succ, List.getElem?_drop, List.getD_eq_getElem?_getD]
      have e3 : a + 1 + j - 1 = a + j := by omega
      rw [e3]
theorem so_take_mem {α : Type} {l : List α} {a : Nat} {y d : α} (h : y ∈ l.take a) : ∃ k, k < a ∧ k < l.length ∧ l.getD k d = y := by
  obtain ⟨k, hk, rfl⟩ := List.mem_iff_getElem.mp h
  rw [List.length_take] at hk
  refine ⟨k, by omega, by omega, ?_⟩
  rw [List.getElem_take, List.getD_eq_getElem?_getD, List.getElem?_eq_getElem (by omega)]; rfl
theorem so_drop_mem {α : Type} {l : List α} {a : Nat} {y d : α} (h : y ∈ l.drop a) : ∃ k, a ≤ k ∧ k < l.length ∧ l.getD k d = y := by
  obtain ⟨k, hk, rfl⟩ := List.mem_iff_getElem.mp h
  rw [List.length_drop] at hk
  refine ⟨a + k, by omega, by omega, ?_⟩
  rw [List.getElem_drop, List.getD_eq_getElem?_getD, List.getElem?_eq_getElem (by omega)]; rfl
theorem so_getD_mem {α : Type} {l : List α} {k : Nat} {d : α} (h : k < l.length) : l.getD k d ∈ l := by
  rw [List.getD_eq_getElem?_getD, List.getElem?_eq_getElem h]; exact List.getElem_mem h
theorem so_mem_getD {α : Type} {l : List α} {x d : α} (h : x ∈ l) : ∃ k, k < l.length ∧ l.getD k d = x := by
  obtain ⟨k, hk, rfl⟩ := List.mem_iff_getElem.mp h
  exact ⟨k, hk, by rw [List.getD_eq_getElem?_getD, List.getElem?_eq_getElem hk]; rfl⟩
theorem so_pw {α : Type} {R : α → α → Prop} {l : List α} (hl : l.Pairwise R) {i j : Nat} {d : α} (h : i < j) (hj : j < l.length) : R (l.getD i d) (l.getD j d) := by
  have := (List.pairwise_iff_getElem.mp hl) i j (by omega) hj h
  rw [List.getD_eq_getElem?_getD, List.getD_eq_getElem?_getD, List.getElem?_eq_getElem hj, List.getElem?_eq_getElem (show i < l.length by omega)]
  exact this
/-- where a new element goes: all from a on are beyond it, and the one ahead of a is not -/
theorem so_place {α : Type} {R : α → α → Prop} {l : List α} {x d : α} (hl : l.Pairwise R) (tr : ∀ y z, y ∈ l → z ∈ l → R y z → R z x → R y x) (tri : ∀ y, y ∈ l → R x y ∨ R y x) {a : Nat} (ha : a ≤ l.length) (h1 : ∀ k, a ≤ k → k < l.length → R x (l.getD k d)) (h2 : 0 < a → ¬ R x (l.getD (a - 1) d)) : (so_ins l a x).Pairwise R := by
  refine so_ins_sorted hl (fun y hy => ?_) (fun y hy => ?_)
  · obtain ⟨k, k1, k2, rfl⟩ := so_take_mem (d := d) hy
    have m : l.getD (a - 1) d ∈ l := so_getD_mem (by omega)
    have r : R (l.getD (a - 1) d) x := by
      rcases tri _ m with h | h
      · exact absurd h (h2 (by omega))
      · exact h
    by_cases e : k = a - 1
    · rw [e]; exact r
    · exact tr _ _ (so_getD_mem k2) m (so_pw hl (by omega) (by omega)) r
  · obtain ⟨k, k1, k2, rfl⟩ := so_drop_mem (d := d) hy
    exact h1 k k1 k2
end
section
/-! the component's small methods -/
theorem xi_4 (e i : Nat) : (4 : Int32) * nI e + nI i = nI (4 * e + i) := by rw [show (4 : Int32) = nI 4 from rfl, pk_mul, nI_add]
theorem xi_3 (e i : Nat) : (3 : Int32) * nI e + nI i = nI (3 * e + i) := by rw [show (3 : Int32) = nI 3 from rfl, pk_mul, nI_add]
theorem xi_9 (e i : Nat) : (9 : Int32) * nI e + nI i = nI (9 * e + i) := by rw [show (9 : Int32) = nI 9 from rfl, pk_mul, nI_add]
theorem xi_24 (e i : Nat) : (24 : Int32) * nI e + nI i = nI (24 * e + i) := by rw [show (24 : Int32) = nI 24 from rfl, pk_mul, nI_add]
theorem xi_24m (e : Nat) : (24 : Int32) * nI e = nI (24 * e) := by rw [show (24 : Int32) = nI 24 from rfl, pk_mul]
theorem xi_4m (e : Nat) : (4 : Int32) * nI e = nI (4 * e) := by rw [show (4 : Int32) = nI 4 from rfl, pk_mul]
theorem xi_3m (e : Nat) : (3 : Int32) * nI e = nI (3 * e) := by rw [show (3 : Int32) = nI 3 from rfl, pk_mul]
theorem xi_9m (e : Nat) : (9 : Int32) * nI e = nI (9 * e) := by rw [show (9 : Int32) = nI 9 from rfl, pk_mul]
theorem xi_24p (i : Nat) : (24 : Int32) + nI i = nI (24 + i) := by rw [show (24 : Int32) = nI 24 from rfl, nI_add]
theorem xi_9p (i : Nat) : (9 : Int32) + nI i = nI (9 + i) := by rw [show (9 : Int32) = nI 9 from rfl, nI_add]
theorem xi_1m {s : Nat} (h : s < 2) : (1 : Int32) - nI s = nI (1 - s) := by rw [show (1 : Int32) = nI 1 from rfl, pk_sub (by omega)]
theorem xi_le {a b : Nat} {A B : Prop} (ha : a < 2147483648) (hb : b < 2147483648) (f : a ≤ b → A) (g : b < a → B) : (nI a ≤ nI b → A) ∧ (¬ nI a ≤ nI b → B) :=
  ⟨fun h => f ((nI_leI ha hb).mp h), fun h => g (by have := mt (nI_leI ha hb).mpr h; omega)⟩
theorem xi_sh : ∀ n, n < 32 → ((nI n &&& 31).toBitVec.smod 32).toNat = n := by decide +kernel
theorem xi_bit {m k : Nat} (hm : m < 2147483648) (hk : k < 32) : (nI m >>> (nI k &&& 31)) &&& 1 = nI (m.testBit k).toNat := by
  rw [pk_shrN hm _ k (xi_sh k hk), pk_andN (Nat.lt_of_le_of_lt (Nat.div_le_self _ _) (by omega)) 1 (by decide), Nat.testBit_eq_decide_div_mod_eq]
  congr 1
  by_cases h : m / 2 ^ k % 2 = 1
  · rw [decide_eq_true h]; exact h
  · rw [decide_eq_false h]
    show m / 2 ^ k % 2 = 0
    omega
theorem xi_b0 : nI (false).toNat = 0 := rfl
theorem xi_b1 : nI (true).toNat = 1 := rfl
section
variable {rw cl mc ws os ld lc : Int32} {ft fb : Int64} {pa ec : Nat → Int32} {ed : Nat → Int64} {ti : Nat → Int32} {ma : Nat → Int64} {mt : Nat → Int32} {sl : Nat → Int64} {ls lx ly : Nat → Int32}
theorem xs_payment {post : Int32 → Prop} {s i j : Nat} (hs : s < 2) (hi : i < 3) (hj : j < 3) (h : post (pa (9 * s + 3 * i + j))) : wpX_payment post (rw, cl, mc, ws, os, ld, lc, ft, fb, pa, ec, ed, ti, ma, mt, sl, ls, lx, ly) (nI s) (nI i) (nI j) := by
  have e : ((9 * nI s) + (3 * nI i)) + nI j = nI (9 * s + 3 * i + j) := by rw [xi_9m, xi_3m, nI_add, nI_add]
  refine ⟨pk_in _ 18 (by omega) e, ?_⟩
  rw [e, nI_clamp (by omega)]
  exact h
theorem xs_isIn {post : Int32 → Prop} {m k : Nat} (hm : m < 2147483648) (hk : k < 32) (h1 : m.testBit k = true → post 1) (h0 : m.testBit k = false → post 0) : wpX_isIn post (rw, cl, mc, ws, os, ld, lc, ft, fb, pa, ec, ed, ti, ma, mt, sl, ls, lx, ly) (nI m) (nI k) := by
  have e := xi_bit hm hk
  cases b : m.testBit k with
  | true =>
    rw [b, xi_b1] at e
    exact br_f (by rw [e]; decide) (h1 b)
  | false =>
    rw [b, xi_b0] at e
    exact br_t e (h0 b)
theorem xs_low_s {post : Int32 → Prop} {m n k : Nat} (hm : m < 8) (hk : k < 32) (h1 : m.testBit k = true → post (nI k)) (h0 : m.testBit k = false → wX_lowestIn_2 post (nI m) rw cl mc ws os ld lc ft fb pa ec ed ti ma mt sl ls lx ly n (nI (k + 1))) : wX_lowestIn_2 post (nI m) rw cl mc ws os ld lc ft fb pa ec ed ti ma mt sl ls lx ly (n + 1) (nI k) := by
  unfold wX_lowestIn_2
  exact xs_isIn (by omega) hk (fun b => br_f (by decide) (h1 b)) (fun b => br_t rfl (fun y ey => by rw [ey, nI_1]; exact h0 b))
theorem xs_lowestIn {post : Int32 → Prop} {m : Nat} (hm : m < 8) (h0 : 0 < m) (h : post (nI (dd_low m))) : wpX_lowestIn post (rw, cl, mc, ws, os, ld, lc, ft, fb, pa, ec, ed, ti, ma, mt, sl, ls, lx, ly) (nI m) := by
  rw [dd_low] at h
  refine ⟨3, xs_low_s (n := 2) (k := 0) hm (by decide) (fun b => ?_) (fun b => xs_low_s (n := 1) (k := 1) hm (by decide) (fun b1 => ?_) (fun b1 => xs_low_s (n := 0) (k := 2) hm (by decide) (fun b2 => ?_) (fun b2 => ?_)))⟩
  · rw [if_pos b] at h; exact h
  · rw [if_neg (by rw [b]; decide), if_pos b1] at h; exact h
  · rw [if_neg (by rw [b]; decide), if_neg (by rw [b1]; decide)] at h; exact h
  · exfalso
    have t : ∀ m, m < 8 → m.testBit 0 = false → m.testBit 1 = false → m.testBit 2 = false → m = 0 := by decide
    have := t m hm b b1 b2
    omega
theorem xs_addEdge_lp {post : SX → Prop} {s c e : Nat} {v bits : Int32} (hs : s < 2) (hc : c < 4) (he : e < 48)
    (K : ∀ ed', (∀ i, i < 4 → ed' (4 * e + i) = if i = 3 then v.toInt64 else if i = c then 1 else 0) → (∀ j, (j < 4 * e ∨ 4 * e + 4 ≤ j) → ed' j = ed j) → post (rw, cl, mc, ws, os, ld, lc, ft, fb, pa, upd ec s (ec s + 1), ed', upd ti e (vp_nar .byte bits.toInt8.toInt32), ma, mt, sl, ls, lx, ly)) :
    ∀ (d i n : Nat) (ed0 : Nat → Int64), i + d = 4 → d < n → (∀ t, t < i → ed0 (4 * e + t) = 0) → (∀ j, (j < 4 * e ∨ 4 * e + 4 ≤ j) → ed0 j = ed j) → wX_addEdge_16 post (nI s) (nI c) v bits (nI e) rw cl mc ws os ld lc ft fb n (nI i) pa ec ed0 ti ma mt sl ls lx ly := by
  intro d
  induction d with
  | zero =>
    intro i n ed0 hi hn h0 hk
    obtain ⟨n, rfl⟩ : ∃ m, n = m + 1 := ⟨n - 1, by omega⟩
    have hi4 : i = 4 := by omega
    subst hi4
    have ie : (4 * nI e) + nI c = nI (4 * e + c) := xi_4 e c
    have i3 : (4 * nI e) + 3 = nI (4 * e + 3) := xi_4 e 3
    refine br_t (show (4 : Int32) ≤ nI 4 by decide) ⟨pk_in _ 192 (by omega) ie, fun a5 e5 => ⟨pk_in _ 192 (by omega) i3, fun a7 e7 => ⟨pk_in _ 48 he, fun a9 e9 => ⟨pk_in _ 2 hs, pk_in _ 2 hs, fun a12 e12 => ?_⟩⟩⟩⟩
    rw [e12, e9, nI_clamp (by omega), nI_clamp (by omega)]
    rw [i3, nI_clamp (by omega)] at e7
    rw [ie, nI_clamp (by omega)] at e5
    refine K a7 (fun i hi => ?_) (fun j hj => ?_)
    · rw [e7, e5]
      by_cases c3 : i = 3
      · rw [if_pos c3, c3, pk_uLs]
      · rw [if_neg c3, pk_uLn (by omega)]
        by_cases cc : i = c
        · rw [if_pos cc, cc, pk_uLs]
        · rw [if_neg cc, pk_uLn (by omega)]
          exact h0 i hi
    · rw [e7, e5, pk_uLn (by omega), pk_uLn (by omega)]
      exact hk j hj
  | succ d ih =>
    intro i n ed0 hi hn h0 hk
    obtain ⟨n, rfl⟩ : ∃ m, n = m + 1 := ⟨n - 1, by omega⟩
    have ie : (4 * nI e) + nI i = nI (4 * e + i) := xi_4 e i
    refine br_f (nI_ge (b := 4) (by omega) (by decide)) ⟨pk_in _ 192 (by omega) ie, fun a14 e14 => fun y ey => ?_⟩
    rw [ey, nI_1]
    rw [ie, nI_clamp (by omega)] at e14
    refine ih (i + 1) n a14 (by omega) (by omega) (fun t ht => ?_) (fun j hj => ?_)
    · rw [e14]
      by_cases c : t = i
      · rw [c, pk_uLs]
      · rw [pk_uLn (by omega)]; exact h0 t (by omega)
    · rw [e14, pk_uLn (by omega)]; exact hk j hj
theorem xs_addEdge {post : SX → Prop} {s c m : Nat} {v bits : Int32} (hs : s < 2) (hc : c < 4) (hm : m < 24) (hec : ec s = nI m)
    (K : ∀ ed', (∀ i, i < 4 → ed' (4 * (24 * s + m) + i) = if i = 3 then v.toInt64 else if i = c then 1 else 0) → (∀ j, (j < 4 * (24 * s + m) ∨ 4 * (24 * s + m) + 4 ≤ j) → ed' j = ed j) → post (rw, cl, mc, ws, os, ld, lc, ft, fb, pa, upd ec s (nI (m + 1)), ed', upd ti (24 * s + m) (vp_nar .byte bits.toInt8.toInt32), ma, mt, sl, ls, lx, ly)) : wpX_addEdge post (rw, cl, mc, ws, os, ld, lc, ft, fb, pa, ec, ed, ti, ma, mt, sl, ls, lx, ly) (nI s) (nI c) v bits := by
  refine ⟨pk_in _ 2 hs, fun y ey => ⟨5, ?_⟩⟩
  rw [nI_clamp (by omega), hec, xi_24] at ey
  rw [ey]
  refine xs_addEdge_lp hs hc (by omega) ?_ 4 0 5 ed rfl (by decide) (fun t ht => by omega) (fun _ _ => rfl)
  rw [hec, nI_1]
  exact K
end
end
section
/-! losses, keeping an edge, neighbours, divisors -/
theorem xi_and (a b : Nat) : nI a &&& nI b = nI (a &&& b) := by
  apply Int32.toBitVec_inj.1
  show BitVec.ofNat 32 a &&& BitVec.ofNat 32 b = BitVec.ofNat 32 (a &&& b)
  apply BitVec.eq_of_getLsbD_eq
  intro i hi
  simp [BitVec.getLsbD_ofNat, hi]
theorem xi_or (a b : Nat) : nI a ||| nI b = nI (a ||| b) := by
  apply Int32.toBitVec_inj.1
  show BitVec.ofNat 32 a ||| BitVec.ofNat 32 b = BitVec.ofNat 32 (a ||| b)
  apply BitVec.eq_of_getLsbD_eq
  intro i hi
  simp [BitVec.getLsbD_ofNat, hi]
def pm_A (P : Nat → Int) (s : Nat) (own : Bool) (c o : Nat) : Int :=
  match s, own with
  | 0, false => 10 + P (9 * 1 + 3 * c + o)
  | 0, true => 10 - P (9 * 0 + 3 * c + o)
  | _ + 1, false => 10 + P (9 * 0 + 3 * o + c)
  | _ + 1, true => 10 - P (9 * 1 + 3 * o + c)
def pm_ok (pa : Nat → Int32) (P : Nat → Int) : Prop := ∀ k, pa k = zi_n (P k) ∧ -9 ≤ P k ∧ P k ≤ 9
theorem pm_rng {pa : Nat → Int32} {P : Nat → Int} (h : pm_ok pa P) (s : Nat) (own : Bool) : cm_Rng (pm_A P s own) := by
  intro c o _ _
  match s, own with
  | 0, false => have := h (9 * 1 + 3 * c + o); simp only [pm_A]; omega
  | 0, true => have := h (9 * 0 + 3 * c + o); simp only [pm_A]; omega
  | _ + 1, false => have := h (9 * 0 + 3 * o + c); simp only [pm_A]; omega
  | _ + 1, true => have := h (9 * 1 + 3 * o + c); simp only [pm_A]; omega
def xs_bI (b : Bool) : Int32 := if b = true then 1 else 0
def xs_L (A : Nat → Nat → Int) (ls : Nat → Int32) (c o : Nat) : Prop := ∀ c' o', c' < 3 → o' < 3 → (c' < c ∨ (c' = c ∧ o' < o)) → ls (3 * c' + o') = zi_n (A c' o')
theorem xs_L_upd {A : Nat → Nat → Int} {ls : Nat → Int32} {c o : Nat} (hc : c < 3) (ho : o < 3) (h : xs_L A ls c o) : xs_L A (upd ls (3 * c + o) (zi_n (A c o))) c (o + 1) := by
  intro c' o' h1 h2 h3
  by_cases e : c' = c ∧ o' = o
  · obtain ⟨rfl, rfl⟩ := e
    exact pk_us
  · rw [pk_un (by omega)]
    exact h c' o' h1 h2 (by omega)
section
variable {rw cl mc ws os ld lc : Int32} {ft fb : Int64} {pa ec : Nat → Int32} {ed : Nat → Int64} {ti : Nat → Int32} {ma : Nat → Int64} {mt : Nat → Int32} {sl : Nat → Int64} {ls lx ly : Nat → Int32} {P : Nat → Int}
theorem xs_loss_body {post : SX → Prop} {J2 J10 : Int32 → (Nat → Int32) → (Nat → Int32) → (Nat → Int64) → (Nat → Int32) → (Nat → Int64) → (Nat → Int32) → (Nat → Int64) → (Nat → Int32) → (Nat → Int32) → (Nat → Int32) → Prop}
    (hp : pm_ok pa P) {s c o : Nat} (own : Bool) (hs : s < 2) (hc : c < 3) (ho : o < 3) (K : J10 (nI (o + 1)) pa ec ed ti ma mt sl (upd ls (3 * c + o) (zi_n (pm_A P s own c o))) lx ly) :
    (nI s = 0 → wX_setLosses_26 post J2 J10 (nI s) (xs_bI own) (nI c) (nI o) (nI c) rw cl mc ws os ld lc ft fb pa ec ed ti ma mt sl ls lx ly) ∧ (¬ nI s = 0 → wX_setLosses_26 post J2 J10 (nI s) (xs_bI own) (nI c) (nI o) (nI o) rw cl mc ws os ld lc ft fb pa ec ed ti ma mt sl ls lx ly) := by
  have ie : (3 * nI c) + nI o = nI (3 * c + o) := xi_3 c o
  have e10 : (10 : Int32) = zi_n 10 := rfl
  match s, hs, own, K with
  | 0, _, false, K =>
    refine br_t rfl (br_t rfl (br_t rfl ?_))
    refine xs_payment (s := 1) (by decide) hc ho ⟨pk_in _ 9 (by omega) ie, fun a ea y ey => ?_⟩
    have b := hp (9 * 1 + 3 * c + o)
    rw [ey, nI_1, ea, ie, nI_clamp (by omega), b.1, e10, zi_add, zi_nar2 (by omega) (by omega)]
    exact K
  | 0, _, true, K =>
    refine br_t rfl (br_t rfl (br_f (by decide) ?_))
    refine xs_payment (s := 0) (by decide) hc ho ⟨pk_in _ 9 (by omega) ie, fun a ea y ey => ?_⟩
    have b := hp (9 * 0 + 3 * c + o)
    rw [ey, nI_1, ea, ie, nI_clamp (by omega), b.1, e10, zi_sub, zi_nar2 (by omega) (by omega)]
    exact K
  | 1, _, false, K =>
    refine br_f (by decide) (br_f (by decide) (br_t rfl ?_))
    refine xs_payment (s := 0) (by decide) ho hc ⟨pk_in _ 9 (by omega) ie, fun a ea y ey => ?_⟩
    have b := hp (9 * 0 + 3 * o + c)
    rw [ey, nI_1, ea, ie, nI_clamp (by omega), b.1, e10, zi_add, zi_nar2 (by omega) (by omega)]
    exact K
  | 1, _, true, K =>
    refine br_f (by decide) (br_f (by decide) (br_f (by decide) ?_))
    refine xs_payment (s := 1) (by decide) ho hc ⟨pk_in _ 9 (by omega) ie, fun a ea y ey => ?_⟩
    have b := hp (9 * 1 + 3 * o + c)
    rw [ey, nI_1, ea, ie, nI_clamp (by omega), b.1, e10, zi_sub, zi_nar2 (by omega) (by omega)]
    exact K
theorem xs_loss_in {post : SX → Prop} {J2 : Int32 → (Nat → Int32) → (Nat → Int32) → (Nat → Int64) → (Nat → Int32) → (Nat → Int64) → (Nat → Int32) → (Nat → Int64) → (Nat → Int32) → (Nat → Int32) → (Nat → Int32) → Prop}
    (hp : pm_ok pa P) {s c : Nat} (own : Bool) (hs : s < 2) (hc : c < 3) (hJ : ∀ ls', xs_L (pm_A P s own) ls' (c + 1) 0 → J2 (nI (c + 1)) pa ec ed ti ma mt sl ls' lx ly) :
    ∀ (d o n : Nat) (ls0 : Nat → Int32), o + d = 3 → d < n → xs_L (pm_A P s own) ls0 c o → wX_setLosses_10 post J2 (nI s) (xs_bI own) (nI c) rw cl mc ws os ld lc ft fb n (nI o) pa ec ed ti ma mt sl ls0 lx ly := by
  intro d
  induction d with
  | zero =>
    intro o n ls0 ho hn hL
    obtain ⟨n, rfl⟩ : ∃ m, n = m + 1 := ⟨n - 1, by omega⟩
    have h3 : o = 3 := by omega
    subst h3
    refine br_t (show (3 : Int32) ≤ nI 3 by decide) fun y ey => ?_
    rw [ey, nI_1]
    exact hJ ls0 (fun c' o' h1 h2 h3 => hL c' o' h1 h2 (by omega))
  | succ d ih =>
    intro o n ls0 ho hn hL
    obtain ⟨n, rfl⟩ : ∃ m, n = m + 1 := ⟨n - 1, by omega⟩
    refine br_f (nI_ge (b := 3) (by omega) (by decide)) ?_
    exact xs_loss_body hp own hs hc (by omega) (ih (o + 1) n _ (by omega) (by omega) (xs_L_upd hc (by omega) hL))
theorem xs_loss_out {post : SX → Prop} (hp : pm_ok pa P) {s : Nat} (own : Bool) (hs : s < 2) (K : ∀ ls', xs_L (pm_A P s own) ls' 3 0 → post (rw, cl, mc, ws, os, ld, lc, ft, fb, pa, ec, ed, ti, ma, mt, sl, ls', lx, ly)) :
    ∀ (d c n : Nat) (ls0 : Nat → Int32), c + d = 3 → d < n → xs_L (pm_A P s own) ls0 c 0 → wX_setLosses_2 post (nI s) (xs_bI own) rw cl mc ws os ld lc ft fb n (nI c) pa ec ed ti ma mt sl ls0 lx ly := by
  intro d
  induction d with
  | zero =>
    intro c n ls0 hc hn hL
    obtain ⟨n, rfl⟩ : ∃ m, n = m + 1 := ⟨n - 1, by omega⟩
    have h3 : c = 3 := by omega
    subst h3
    exact br_t (show (3 : Int32) ≤ nI 3 by decide) (K ls0 hL)
  | succ d ih =>
    intro c n ls0 hc hn hL
    obtain ⟨n, rfl⟩ : ∃ m, n = m + 1 := ⟨n - 1, by omega⟩
    refine br_f (nI_ge (b := 3) (by omega) (by decide)) ⟨4, ?_⟩
    exact xs_loss_in (J2 := wX_setLosses_2 post (nI s) (xs_bI own) rw cl mc ws os ld lc ft fb n) hp own hs (by omega) (fun ls' h => ih (c + 1) n ls' (by omega) (by omega) h) 3 0 4 ls0 rfl (by decide) hL
theorem xs_setLosses {post : SX → Prop} (hp : pm_ok pa P) {s : Nat} (own : Bool) (hs : s < 2) (K : ∀ ls', xs_L (pm_A P s own) ls' 3 0 → post (rw, cl, mc, ws, os, ld, lc, ft, fb, pa, ec, ed, ti, ma, mt, sl, ls', lx, ly)) : wpX_setLosses post (rw, cl, mc, ws, os, ld, lc, ft, fb, pa, ec, ed, ti, ma, mt, sl, ls, lx, ly) (nI s) (xs_bI own) :=
  ⟨4, xs_loss_out hp own hs K 3 0 4 ls rfl (by decide) (fun _ _ _ _ h => by omega)⟩
theorem xs_keep_lp {post : SX → Prop} {e m : Nat} {x2 : Int32} (he : e < 48) (hm : m < 24)
    (K : ∀ ma', (∀ i, i < 4 → ma' (4 * m + i) = ed (4 * e + i)) → (∀ j, (j < 4 * m ∨ 4 * m + 4 ≤ j) → ma' j = ma j) → post (rw, cl, nI (m + 1), ws, os, ld, lc, ft, fb, pa, ec, ed, ti, ma', upd mt m (vp_nar .byte ((ti e ||| x2).toInt8.toInt32)), sl, ls, lx, ly)) :
    ∀ (d i n : Nat) (ma0 : Nat → Int64), i + d = 4 → d < n → (∀ t, t < i → ma0 (4 * m + t) = ed (4 * e + t)) → (∀ j, (j < 4 * m ∨ 4 * m + 4 ≤ j) → ma0 j = ma j) → wX_keepEdge_2 post (nI e) x2 rw cl (nI m) ws os ld lc ft fb n (nI i) pa ec ed ti ma0 mt sl ls lx ly := by
  intro d
  induction d with
  | zero =>
    intro i n ma0 hi hn h0 hk
    obtain ⟨n, rfl⟩ : ∃ m, n = m + 1 := ⟨n - 1, by omega⟩
    have hi4 : i = 4 := by omega
    subst hi4
    refine br_t (show (4 : Int32) ≤ nI 4 by decide) ⟨pk_in _ 48 he, pk_in _ 24 hm, fun a ea y ey => ?_⟩
    rw [ey, nI_1, ea, nI_clamp (by omega), nI_clamp (by omega)]
    exact K ma0 h0 hk
  | succ d ih =>
    intro i n ma0 hi hn h0 hk
    obtain ⟨n, rfl⟩ : ∃ m, n = m + 1 := ⟨n - 1, by omega⟩
    have ie : (4 * nI e) + nI i = nI (4 * e + i) := xi_4 e i
    have im : (4 * nI m) + nI i = nI (4 * m + i) := xi_4 m i
    refine br_f (nI_ge (b := 4) (by omega) (by decide)) ⟨pk_in _ 192 (by omega) ie, pk_in _ 96 (by omega) im, fun a ea y ey => ?_⟩
    rw [ey, nI_1]
    rw [ie, im, nI_clamp (by omega), nI_clamp (by omega)] at ea
    refine ih (i + 1) n a (by omega) (by omega) (fun t ht => ?_) (fun j hj => ?_)
    · rw [ea]
      by_cases c : t = i
      · rw [c, pk_uLs]
      · rw [pk_uLn (by omega)]; exact h0 t (by omega)
    · rw [ea, pk_uLn (by omega)]; exact hk j hj
theorem xs_keepEdge {post : SX → Prop} {e m : Nat} {x2 : Int32} (he : e < 48) (hm : m < 24)
    (K : ∀ ma', (∀ i, i < 4 → ma' (4 * m + i) = ed (4 * e + i)) → (∀ j, (j < 4 * m ∨ 4 * m + 4 ≤ j) → ma' j = ma j) → post (rw, cl, nI (m + 1), ws, os, ld, lc, ft, fb, pa, ec, ed, ti, ma', upd mt m (vp_nar .byte ((ti e ||| x2).toInt8.toInt32)), sl, ls, lx, ly)) : wpX_keepEdge post (rw, cl, nI m, ws, os, ld, lc, ft, fb, pa, ec, ed, ti, ma, mt, sl, ls, lx, ly) (nI e) x2 :=
  ⟨5, xs_keep_lp he hm K 4 0 5 ma rfl (by decide) (fun t ht => by omega) (fun _ _ => rfl)⟩
theorem xs_nb_lp {post : Int32 → Prop} {L : List (dd_R × Nat)} {b k l : Nat} (hb : b + L.length ≤ 48) (hk : k < L.length) (hl : l < L.length) (hT : ∀ j, j < L.length → ti (b + j) = nI (dd_at L j).2) (h64 : ∀ j, j < L.length → (dd_at L j).2 < 64)
    (h1 : dd_adj L k l = true → post 1) (h0 : dd_adj L k l = false → post 0) :
    ∀ (d m n : Nat), m + d = L.length → d < n → (∀ j, j < m → (j == k || j == l || !(dd_inc (dd_at L j).2 ((dd_at L k).2 &&& (dd_at L l).2))) = true) → wX_areNeighbours_23 post (nI b) (nI L.length) (nI k) (nI l) (nI ((dd_at L k).2 &&& (dd_at L l).2)) rw cl mc ws os ld lc ft fb pa ec ed ti ma mt sl ls lx ly n (nI m) := by
  intro d
  induction d with
  | zero =>
    intro m n hm hn H
    obtain ⟨n, rfl⟩ : ∃ m, n = m + 1 := ⟨n - 1, by omega⟩
    have e : m = L.length := by omega
    subst e
    refine br_t (nI_le (Nat.le_refl _) (by omega)) (h1 ?_)
    rw [dd_adj, List.all_eq_true]
    intro j hj
    exact H j (List.mem_range.mp hj)
  | succ d ih =>
    intro m n hm hn H
    obtain ⟨n, rfl⟩ : ∃ m, n = m + 1 := ⟨n - 1, by omega⟩
    refine br_f (nI_ge (by omega) (by omega)) ?_
    by_cases ek : m = k
    · refine br_t (by rw [ek]) fun y ey => ?_
      rw [ey, nI_1]
      refine ih (m + 1) n (by omega) (by omega) (lt_s H ?_)
      rw [ek, beq_self_eq_true]; rfl
    · refine br_f (fun h => ek ((nI_eq (by omega) (by omega)).mp h)) ?_
      by_cases el : m = l
      · refine br_t (by rw [el]) fun y ey => ?_
        rw [ey, nI_1]
        refine ih (m + 1) n (by omega) (by omega) (lt_s H ?_)
        rw [el, beq_self_eq_true, Bool.or_true]; rfl
      · refine br_f (fun h => el ((nI_eq (by omega) (by omega)).mp h)) ⟨pk_in _ 48 (by omega) (nI_add b m), ?_⟩
        rw [nI_add, nI_clamp (by omega), hT m (by omega), xi_and]
        have c1 : (dd_at L m).2 &&& ((dd_at L k).2 &&& (dd_at L l).2) < 64 := dd_and64 (h64 m (by omega))
        have c2 : (dd_at L k).2 &&& (dd_at L l).2 < 64 := dd_and64 (h64 k hk)
        cases hi : dd_inc (dd_at L m).2 ((dd_at L k).2 &&& (dd_at L l).2) with
        | true =>
          have e : (dd_at L m).2 &&& ((dd_at L k).2 &&& (dd_at L l).2) = (dd_at L k).2 &&& (dd_at L l).2 := by
            rw [dd_inc, beq_iff_eq] at hi; exact hi
          refine br_t (by rw [e]) (h0 ?_)
          cases ha : dd_adj L k l with
          | false => rfl
          | true =>
            rw [dd_adj, List.all_eq_true] at ha
            have := ha m (List.mem_range.mpr (by omega))
            rw [hi] at this
            simp [ek, el] at this
        | false =>
          refine br_f (fun h => ?_) fun y ey => ?_
          · have e := (nI_eq (by omega) (by omega)).mp h
            rw [dd_inc, e, beq_self_eq_true] at hi
            exact absurd hi (by decide)
          · rw [ey, nI_1]
            refine ih (m + 1) n (by omega) (by omega) (lt_s H ?_)
            rw [hi]
            simp
theorem xs_areNeighbours {post : Int32 → Prop} {L : List (dd_R × Nat)} {b k l : Nat} (hb : b + L.length ≤ 48) (hk : k < L.length) (hl : l < L.length) (hT : ∀ j, j < L.length → ti (b + j) = nI (dd_at L j).2) (h64 : ∀ j, j < L.length → (dd_at L j).2 < 64)
    (h1 : dd_adj L k l = true → post 1) (h0 : dd_adj L k l = false → post 0) : wpX_areNeighbours post (rw, cl, mc, ws, os, ld, lc, ft, fb, pa, ec, ed, ti, ma, mt, sl, ls, lx, ly) (nI b) (nI L.length) (nI k) (nI l) := by
  refine ⟨pk_in _ 48 (by omega) (nI_add b k), pk_in _ 48 (by omega) (nI_add b l), fun y ey => ⟨L.length + 1, ?_⟩⟩
  rw [ey, nI_add, nI_add, nI_clamp (by omega), nI_clamp (by omega), hT k hk, hT l hl, xi_and]
  exact xs_nb_lp hb hk hl hT h64 h1 h0 L.length 0 (L.length + 1) (by omega) (by omega) (fun j hj => by omega)
theorem xs_cd_lp {post : Int64 → Prop} : ∀ (m y x n : Nat), y ≤ m → m < n → x < 9223372036854775808 → y < 9223372036854775808 → post (lN (Nat.gcd x y)) → wX_commonDivisor_28 post rw cl mc ws os ld lc ft fb pa ec ed ti ma mt sl ls lx ly n (lN x) (lN y) := by
  intro m
  induction m with
  | zero =>
    intro y x n hy hn hx hy' h
    obtain ⟨n, rfl⟩ : ∃ m, n = m + 1 := ⟨n - 1, by omega⟩
    have e : y = 0 := by omega
    subst e
    rw [Nat.gcd_zero_right] at h
    exact br_t rfl h
  | succ m ih =>
    intro y x n hy hn hx hy' h
    obtain ⟨n, rfl⟩ : ∃ m, n = m + 1 := ⟨n - 1, by omega⟩
    by_cases e : y = 0
    · subst e
      rw [Nat.gcd_zero_right] at h
      exact br_t rfl h
    · have hne : ¬ lN y = 0 := fun hh => e ((pk_lEQ (b := 0) (by omega) (by decide)).mp hh)
      refine br_f hne ⟨hne, fun z ez => ?_⟩
      rw [ez, pk_lRem (by omega) (by omega) (by omega)]
      have hlt : x % y < y := Nat.mod_lt _ (by omega)
      refine ih (x % y) y n (by omega) (by omega) hy' (by omega) ?_
      rw [Nat.gcd_comm, ← Nat.gcd_rec, Nat.gcd_comm]
      exact h
theorem xs_abs {z : Int} (h1 : -4611686018427387904 ≤ z) (h2 : z ≤ 4611686018427387904) {A B : Prop} (f : zl_n z = lN z.natAbs → A) (g : -zl_n z = lN z.natAbs → B) : (0 ≤ zl_n z → A) ∧ (¬ 0 ≤ zl_n z → B) := by
  have e0 : (0 : Int64) = zl_n 0 := rfl
  have c : (0 : Int64) ≤ zl_n z ↔ 0 ≤ z := by rw [e0]; exact zl_le (by decide) (by decide) (by omega) (by omega)
  refine ⟨fun h => f ?_, fun h => g ?_⟩
  · have := c.mp h
    rw [zl_nat]; congr 1; omega
  · have := mt c.mpr h
    rw [zl_nat, zl_neg]; congr 1; omega
theorem xs_commonDivisor {post : Int64 → Prop} {a b : Int} (a1 : -4611686018427387904 ≤ a) (a2 : a ≤ 4611686018427387904) (b1 : -4611686018427387904 ≤ b) (b2 : b ≤ 4611686018427387904) (h : post (lN (Nat.gcd a.natAbs b.natAbs))) : wpX_commonDivisor post (rw, cl, mc, ws, os, ld, lc, ft, fb, pa, ec, ed, ti, ma, mt, sl, ls, lx, ly) (zl_n a) (zl_n b) := by
  have k : ∀ z0, z0 = lN a.natAbs → wX_commonDivisor_12 post (zl_n b) z0 rw cl mc ws os ld lc ft fb pa ec ed ti ma mt sl ls lx ly := by
    intro z0 e
    rw [e]
    refine xs_abs b1 b2 (fun eb => ⟨b.natAbs + 1, ?_⟩) (fun eb y ey => ⟨b.natAbs + 1, ?_⟩)
    · rw [eb]
      exact xs_cd_lp b.natAbs b.natAbs a.natAbs _ (Nat.le_refl _) (by omega) (by omega) (by omega) h
    · rw [ey, eb]
      exact xs_cd_lp b.natAbs b.natAbs a.natAbs _ (Nat.le_refl _) (by omega) (by omega) (by omega) h
  exact xs_abs a1 a2 (fun e => k _ e) (fun e => k _ e)
end
end
section
/-! crossing two edges -/
def dd_c (q : dd_R) (i : Nat) : Int :=
  match i with
  | 0 => q.1
  | 1 => q.2.1
  | 2 => q.2.2.1
  | _ => q.2.2.2
def dd_ch (x : Nat → Int) : Nat → Nat
  | 0 => 0
  | i + 1 => Nat.gcd (dd_ch x i) (x i).natAbs
theorem dd_ch_le {x : Nat → Int} {B : Nat} (h : ∀ i, i < 4 → (x i).natAbs ≤ B) : ∀ i, i ≤ 4 → dd_ch x i ≤ B := by
  intro i
  induction i with
  | zero => intro _; exact Nat.zero_le _
  | succ i ih =>
    intro hi
    rw [dd_ch]
    by_cases e : (x i).natAbs = 0
    · rw [e, Nat.gcd_zero_right]; exact ih (by omega)
    · exact Nat.le_trans (Nat.gcd_le_right _ (by omega)) (h i (by omega))
theorem dd_ch_dvd {x : Nat → Int} : ∀ n i, i < n → dd_ch x n ∣ (x i).natAbs := by
  intro n
  induction n with
  | zero => intro i h; omega
  | succ n ih =>
    intro i h
    rw [dd_ch]
    by_cases e : i = n
    · rw [e]; exact Nat.gcd_dvd_right _ _
    · exact Nat.dvd_trans (Nat.gcd_dvd_left _ _) (ih i (by omega))
theorem dd_ch_gcd (q : dd_R) : dd_ch (dd_c q) 4 = dd_gcd q := rfl
theorem dd_c_x (A : Nat → Nat → Int) (h : Nat) (p n : dd_R) (i : Nat) : dd_c (dd_x A h p n) i = dd_c p i * -(dd_g A h n) + dd_c n i * dd_g A h p := by
  rw [Int.mul_comm (dd_c p i), Int.mul_comm (dd_c n i)]
  match i with
  | 0 => rfl
  | 1 => rfl
  | 2 => rfl
  | _ + 3 => rfl
theorem dd_c_nrm (q : dd_R) (i : Nat) : dd_c (dd_nrm q) i = dd_c q i / (dd_gcd q : Int) := by
  match i with
  | 0 => rfl
  | 1 => rfl
  | 2 => rfl
  | _ + 3 => rfl
section
variable {rw cl mc ws os ld lc : Int32} {ft fb : Int64} {pa ec : Nat → Int32} {ed : Nat → Int64} {ti : Nat → Int32} {ma : Nat → Int64} {mt : Nat → Int32} {sl : Nat → Int64} {ls lx ly : Nat → Int32}
theorem xs_cross91 {post : SX → Prop} {b k l m : Nat} {more : Int32} {x : Nat → Int} (hbk : b + k < 48) (hbl : b + l < 48) (hm : m < 24) (hx : ∀ i, i < 4 → (x i).natAbs ≤ 4611686018427387904) (hd : 0 < dd_ch x 4)
    (K : ∀ ma', (∀ i, i < 4 → ma' (4 * m + i) = zl_n (x i / (dd_ch x 4 : Int))) → (∀ j, (j < 4 * m ∨ 4 * m + 4 ≤ j) → ma' j = ma j) → post (rw, cl, nI (m + 1), ws, os, ld, lc, ft, fb, pa, ec, ed, ti, ma', upd mt m (vp_nar .byte (((ti (b + k) &&& ti (b + l)) ||| more).toInt8.toInt32)), sl, ls, lx, ly)) :
    ∀ (d i n : Nat) (ma0 : Nat → Int64), i + d = 4 → d < n → (∀ t, t < i → ma0 (4 * m + t) = zl_n (x t / (dd_ch x 4 : Int))) → (∀ t, i ≤ t → t < 4 → ma0 (4 * m + t) = zl_n (x t)) → (∀ j, (j < 4 * m ∨ 4 * m + 4 ≤ j) → ma0 j = ma j) →
      wX_cross_91 post (nI b) (nI k) (nI l) more (lN (dd_ch x 4)) rw cl (nI m) ws os ld lc ft fb n (nI i) pa ec ed ti ma0 mt sl ls lx ly := by
  have hD := dd_ch_le hx 4 (by decide)
  intro d
  induction d with
  | zero =>
    intro i n ma0 hi hn h0 h1 hk
    obtain ⟨n, rfl⟩ : ∃ m, n = m + 1 := ⟨n - 1, by omega⟩
    have hi4 : i = 4 := by omega
    subst hi4
    refine br_t (show (4 : Int32) ≤ nI 4 by decide) ⟨pk_in _ 48 hbk (nI_add b k), pk_in _ 48 hbl (nI_add b l), pk_in _ 24 hm, fun a ea y ey => ?_⟩
    rw [ey, nI_1, ea, nI_add, nI_add, nI_clamp (by omega), nI_clamp (by omega), nI_clamp (by omega)]
    exact K ma0 h0 hk
  | succ d ih =>
    intro i n ma0 hi hn h0 h1 hk
    obtain ⟨n, rfl⟩ : ∃ m, n = m + 1 := ⟨n - 1, by omega⟩
    have im : (4 * nI m) + nI i = nI (4 * m + i) := xi_4 m i
    have hne : ¬ lN (dd_ch x 4) = 0 := fun hh => by
      have := (pk_lEQ (b := 0) (by omega) (by decide)).mp hh
      omega
    refine br_f (nI_ge (b := 4) (by omega) (by decide)) ⟨pk_in _ 96 (by omega) im, hne, pk_in _ 96 (by omega) im, fun a ea y ey => ?_⟩
    rw [ey, nI_1]
    have hxi := hx i (by omega)
    have ev : zl_n (x i) / lN (dd_ch x 4) = zl_n (x i / (dd_ch x 4 : Int)) := by
      rw [zl_nat, zl_div (by omega) (by omega) (by omega) (by omega), Int.tdiv_eq_ediv_of_dvd (Int.ofNat_dvd_left.mpr (dd_ch_dvd 4 i (by omega)))]
    rw [im, nI_clamp (by omega), h1 i (Nat.le_refl _) (by omega), ev] at ea
    refine ih (i + 1) n a (by omega) (by omega) (fun t ht => ?_) (fun t ht ht4 => ?_) (fun j hj => ?_)
    · rw [ea]
      by_cases c : t = i
      · rw [c, pk_uLs]
      · rw [pk_uLn (by omega)]; exact h0 t (by omega)
    · rw [ea, pk_uLn (by omega)]; exact h1 t (by omega) ht4
    · rw [ea, pk_uLn (by omega)]; exact hk j hj
theorem xs_cross6 {post : SX → Prop} {b k l m : Nat} {more : Int32} {p q : dd_R} {sp sn : Int} (hbk : b + k < 48) (hbl : b + l < 48) (hk24 : k < 24) (hl24 : l < 24) (hm : m < 24)
    (hx : ∀ i, i < 4 → (dd_c p i * -sn + dd_c q i * sp).natAbs ≤ 4611686018427387904) (hd : 0 < dd_ch (fun i => dd_c p i * -sn + dd_c q i * sp) 4)
    (hp : ∀ i, i < 4 → ed (4 * (b + k) + i) = zl_n (dd_c p i)) (hq : ∀ i, i < 4 → ed (4 * (b + l) + i) = zl_n (dd_c q i)) (hsp : sl k = zl_n sp) (hsn : sl l = zl_n sn)
    (K : ∀ ma', (∀ i, i < 4 → ma' (4 * m + i) = zl_n ((dd_c p i * -sn + dd_c q i * sp) / (dd_ch (fun i => dd_c p i * -sn + dd_c q i * sp) 4 : Int))) → (∀ j, (j < 4 * m ∨ 4 * m + 4 ≤ j) → ma' j = ma j) → post (rw, cl, nI (m + 1), ws, os, ld, lc, ft, fb, pa, ec, ed, ti, ma', upd mt m (vp_nar .byte (((ti (b + k) &&& ti (b + l)) ||| more).toInt8.toInt32)), sl, ls, lx, ly)) :
    ∀ (d i n : Nat) (ma0 : Nat → Int64), i + d = 4 → d < n → (∀ t, t < i → ma0 (4 * m + t) = zl_n (dd_c p t * -sn + dd_c q t * sp)) → (∀ j, (j < 4 * m ∨ 4 * m + 4 ≤ j) → ma0 j = ma j) →
      wX_cross_6 post (nI b) (nI k) (nI l) more rw cl (nI m) ws os ld lc ft fb n (lN (dd_ch (fun i => dd_c p i * -sn + dd_c q i * sp) i)) (nI i) pa ec ed ti ma0 mt sl ls lx ly := by
  intro d
  induction d with
  | zero =>
    intro i n ma0 hi hn h0 hk
    obtain ⟨n, rfl⟩ : ∃ m, n = m + 1 := ⟨n - 1, by omega⟩
    have hi4 : i = 4 := by omega
    subst hi4
    refine br_t (show (4 : Int32) ≤ nI 4 by decide) ⟨5, ?_⟩
    refine xs_cross91 (x := fun i => dd_c p i * -sn + dd_c q i * sp) hbk hbl hm hx hd ?_ 4 0 5 ma0 rfl (by decide) (fun t ht => by omega) (fun t _ ht => h0 t ht) (fun _ _ => rfl)
    intro ma' f1 f2
    exact K ma' f1 (fun j hj => by rw [f2 j hj, hk j hj])
  | succ d ih =>
    intro i n ma0 hi hn h0 hk
    obtain ⟨n, rfl⟩ : ∃ m, n = m + 1 := ⟨n - 1, by omega⟩
    have im : (4 * nI m) + nI i = nI (4 * m + i) := xi_4 m i
    have ik : (4 * (nI b + nI k)) + nI i = nI (4 * (b + k) + i) := by rw [nI_add, xi_4]
    have il : (4 * (nI b + nI l)) + nI i = nI (4 * (b + l) + i) := by rw [nI_add, xi_4]
    refine br_f (nI_ge (b := 4) (by omega) (by decide)) ⟨pk_in _ 192 (by omega) ik, pk_in _ 24 hl24, pk_in _ 192 (by omega) il, pk_in _ 24 hk24, fun v ev => ⟨pk_in _ 96 (by omega) im, fun a ea => ?_⟩⟩
    rw [ik, il, nI_clamp (by omega), nI_clamp (by omega), nI_clamp (by omega), nI_clamp (by omega), hp i (by omega), hq i (by omega), hsp, hsn, zl_neg, zl_mul, zl_mul, zl_add] at ev
    rw [im, nI_clamp (by omega), ev] at ea
    rw [ev, zl_nat]
    have hD := dd_ch_le (x := fun i => dd_c p i * -sn + dd_c q i * sp) hx i (by omega)
    have hxi := hx i (by omega)
    refine xs_commonDivisor (by omega) (by omega) (by omega) (by omega) fun y ey => ?_
    rw [ey, nI_1, Int.natAbs_natCast]
    refine ih (i + 1) n a (by omega) (by omega) (fun t ht => ?_) (fun j hj => ?_)
    · rw [ea]
      by_cases c : t = i
      · rw [c, pk_uLs]
      · rw [pk_uLn (by omega)]; exact h0 t (by omega)
    · rw [ea, pk_uLn (by omega)]; exact hk j hj
theorem xs_cross {post : SX → Prop} {A : Nat → Nat → Int} {h b k l m : Nat} {more : Int32} {p q : dd_R} (hbk : b + k < 48) (hbl : b + l < 48) (hk24 : k < 24) (hl24 : l < 24) (hm : m < 24)
    (hx : ∀ i, i < 4 → (dd_c (dd_x A h p q) i).natAbs ≤ 4611686018427387904) (hd : 0 < dd_gcd (dd_x A h p q))
    (hp : ∀ i, i < 4 → ed (4 * (b + k) + i) = zl_n (dd_c p i)) (hq : ∀ i, i < 4 → ed (4 * (b + l) + i) = zl_n (dd_c q i)) (hsp : sl k = zl_n (dd_g A h p)) (hsn : sl l = zl_n (dd_g A h q))
    (K : ∀ ma', (∀ i, i < 4 → ma' (4 * m + i) = zl_n (dd_c (dd_nrm (dd_x A h p q)) i)) → (∀ j, (j < 4 * m ∨ 4 * m + 4 ≤ j) → ma' j = ma j) → post (rw, cl, nI (m + 1), ws, os, ld, lc, ft, fb, pa, ec, ed, ti, ma', upd mt m (vp_nar .byte (((ti (b + k) &&& ti (b + l)) ||| more).toInt8.toInt32)), sl, ls, lx, ly)) :
    wpX_cross post (rw, cl, nI m, ws, os, ld, lc, ft, fb, pa, ec, ed, ti, ma, mt, sl, ls, lx, ly) (nI b) (nI k) (nI l) more := by
  have ex : (fun i => dd_c p i * -(dd_g A h q) + dd_c q i * dd_g A h p) = dd_c (dd_x A h p q) := by
    funext i; exact (dd_c_x A h p q i).symm
  have ex' : ∀ i, dd_c p i * -(dd_g A h q) + dd_c q i * dd_g A h p = dd_c (dd_x A h p q) i := fun i => (dd_c_x A h p q i).symm
  refine ⟨5, xs_cross6 (sp := dd_g A h p) (sn := dd_g A h q) hbk hbl hk24 hl24 hm (fun i hi => by rw [ex']; exact hx i hi) (by rw [ex]; exact hd) hp hq hsp hsn ?_ 4 0 5 ma rfl (by decide) (fun t ht => by omega) (fun _ _ => rfl)⟩
  intro ma' f1 f2
  refine K ma' (fun i hi => ?_) f2
  rw [f1 i hi, dd_c_nrm, ex', ex]
  rfl
theorem xs_sumOf {post : Int64 → Prop} {e : Nat} {q : dd_R} (he : e < 48) (hq : ∀ i, i < 4 → ed (4 * e + i) = zl_n (dd_c q i)) (h : post (zl_n (dd_sm q))) : wpX_sumOf post (rw, cl, mc, ws, os, ld, lc, ft, fb, pa, ec, ed, ti, ma, mt, sl, ls, lx, ly) (nI e) := by
  have i0 : (4 : Int32) * nI e = nI (4 * e) := xi_4m e
  have i1 : (4 : Int32) * nI e + 1 = nI (4 * e + 1) := xi_4 e 1
  have i2 : (4 : Int32) * nI e + 2 = nI (4 * e + 2) := xi_4 e 2
  refine ⟨pk_in _ 192 (by omega) i0, pk_in _ 192 (by omega) i1, pk_in _ 192 (by omega) i2, ?_⟩
  rw [i1, i2, i0, nI_clamp (by omega), nI_clamp (by omega), nI_clamp (by omega), hq 1 (by decide), hq 2 (by decide)]
  have := hq 0 (by decide)
  rw [Nat.add_zero] at this
  rw [this, zl_add, zl_add]
  exact h
end
end
section
/-! one more choice of the other side -/
def xs_HM (ma : Nat → Int64) (mt : Nat → Int32) (M : List (dd_R × Nat)) : Prop := ∀ k, k < M.length → (∀ i, i < 4 → ma (4 * k + i) = zl_n (dd_c (dd_at M k).1 i)) ∧ mt k = nI (dd_at M k).2
def xs_HE (ed : Nat → Int64) (ti : Nat → Int32) (b : Nat) (L : List (dd_R × Nat)) : Prop := ∀ k, k < L.length → (∀ i, i < 4 → ed (4 * (b + k) + i) = zl_n (dd_c (dd_at L k).1 i)) ∧ ti (b + k) = nI (dd_at L k).2
theorem dd_at_left {M N : List (dd_R × Nat)} {k : Nat} (h : k < M.length) : dd_at (M ++ N) k = dd_at M k := by
  rw [dd_at, dd_at, List.getD_eq_getElem?_getD, List.getD_eq_getElem?_getD, List.getElem?_append_left h]
theorem dd_at_last {M : List (dd_R × Nat)} {e : dd_R × Nat} : dd_at (M ++ [e]) M.length = e := by
  rw [dd_at, List.getD_eq_getElem?_getD, List.getElem?_append_right (Nat.le_refl _), Nat.sub_self]; rfl
theorem xs_HM_snoc {ma ma' : Nat → Int64} {mt : Nat → Int32} {M : List (dd_R × Nat)} {e : dd_R × Nat} (h : xs_HM ma mt M) (h1 : ∀ i, i < 4 → ma' (4 * M.length + i) = zl_n (dd_c e.1 i)) (h2 : ∀ j, (j < 4 * M.length ∨ 4 * M.length + 4 ≤ j) → ma' j = ma j) : xs_HM ma' (upd mt M.length (nI e.2)) (M ++ [e]) := by
  intro k hk
  rw [List.length_append, List.length_singleton] at hk
  by_cases c : k < M.length
  · rw [dd_at_left c, pk_un (by omega)]
    refine ⟨fun i hi => ?_, (h k c).2⟩
    rw [h2 _ (by omega)]
    exact (h k c).1 i hi
  · have ek : k = M.length := by omega
    subst ek
    rw [dd_at_last, pk_us]
    exact ⟨h1, rfl⟩
theorem xi_8 : ∀ o, o < 3 → (8 : Int32) <<< (nI o &&& 31) = nI (8 <<< o) := by decide +kernel
/-- the loss of a ray less the first i terms -/
def dd_ps (A : Nat → Nat → Int) (o : Nat) (q : dd_R) : Nat → Int
  | 0 => q.2.2.2
  | i + 1 => dd_ps A o q i - dd_c q i * A i o
theorem dd_ps_3 (A : Nat → Nat → Int) (o : Nat) (q : dd_R) : dd_ps A o q 3 = dd_g A (o + 3) q := by
  show ((q.2.2.2 - q.1 * A 0 o) - q.2.1 * A 1 o) - q.2.2.1 * A 2 o = q.2.2.2 - (q.1 * A 0 o + q.2.1 * A 1 o + q.2.2.1 * A 2 o)
  omega
theorem dd_Bd_g {A : Nat → Nat → Int} (hA : cm_Rng A) {o : Nat} (ho : o < 3) {q : dd_R} (h : dd_Bd q) : -36936 ≤ dd_g A (o + 3) q ∧ dd_g A (o + 3) q ≤ 36936 := by
  obtain ⟨b0, b1, b2, b3⟩ := h
  have p0 := ar_va b0.1 b0.2 (hA 0 o (by decide) ho).1 (hA 0 o (by decide) ho).2
  have p1 := ar_va b1.1 b1.2 (hA 1 o (by decide) ho).1 (hA 1 o (by decide) ho).2
  have p2 := ar_va b2.1 b2.2 (hA 2 o (by decide) ho).1 (hA 2 o (by decide) ho).2
  show -36936 ≤ q.2.2.2 - (q.1 * A 0 o + q.2.1 * A 1 o + q.2.2.1 * A 2 o) ∧ q.2.2.2 - (q.1 * A 0 o + q.2.1 * A 1 o + q.2.2.1 * A 2 o) ≤ 36936
  omega
theorem dd_Bd_c {q : dd_R} (h : dd_Bd q) (i : Nat) : 0 ≤ dd_c q i ∧ dd_c q i ≤ 36936 := by
  obtain ⟨b0, b1, b2, b3⟩ := h
  match i with
  | 0 => exact ⟨b0.1, by have := b0.2; show q.1 ≤ 36936; omega⟩
  | 1 => exact ⟨b1.1, by have := b1.2; show q.2.1 ≤ 36936; omega⟩
  | 2 => exact ⟨b2.1, by have := b2.2; show q.2.2.1 ≤ 36936; omega⟩
  | _ + 3 => exact b3
theorem ar_m36 {a b : Int} (a1 : 0 ≤ a) (a2 : a ≤ 36936) (b1 : -36936 ≤ b) (b2 : b ≤ 36936) : -1364268096 ≤ a * b ∧ a * b ≤ 1364268096 := by
  have h1 := Int.mul_nonneg a1 (show 0 ≤ 36936 - b by omega)
  have h2 := Int.mul_nonneg a1 (show 0 ≤ 36936 + b by omega)
  rw [Int.mul_sub] at h1
  rw [Int.mul_add] at h2
  omega
theorem dd_Bd_x {A : Nat → Nat → Int} (hA : cm_Rng A) {o : Nat} (ho : o < 3) {p q : dd_R} (hp : dd_Bd p) (hq : dd_Bd q) (i : Nat) : (dd_c (dd_x A (o + 3) p q) i).natAbs ≤ 4611686018427387904 := by
  rw [dd_c_x]
  have gp := dd_Bd_g hA ho hp
  have gq := dd_Bd_g hA ho hq
  have cp := dd_Bd_c hp i
  have cq := dd_Bd_c hq i
  have m1 := ar_m36 cp.1 cp.2 (b := -(dd_g A (o + 3) q)) (by omega) (by omega)
  have m2 := ar_m36 cq.1 cq.2 gp.1 gp.2
  omega
/-! the lists that are being made -/
def dd_pt (A : Nat → Nat → Int) (o : Nat) (L : List (dd_R × Nat)) (k l : Nat) : List (dd_R × Nat) :=
  dd_kept A o L ++ (List.range k).flatMap (dd_row A o L) ++ (List.range l).flatMap (dd_cr A o L k)
theorem fm_mono {α β : Type} (f : Nat → List β) (k : Nat) : ∀ d, ((List.range k).flatMap f).length ≤ ((List.range (k + d)).flatMap f).length := by
  intro d
  induction d with
  | zero => exact Nat.le_refl _
  | succ d ih =>
    rw [show k + (d + 1) = (k + d) + 1 from rfl, List.range_succ, List.flatMap_append, List.length_append]
    omega
theorem dd_pt_s (A : Nat → Nat → Int) (o : Nat) (L : List (dd_R × Nat)) (k l : Nat) : dd_pt A o L k (l + 1) = dd_pt A o L k l ++ dd_cr A o L k l := by
  rw [dd_pt, dd_pt, List.range_succ, List.flatMap_append]
  simp
theorem dd_pt_n (A : Nat → Nat → Int) (o : Nat) (L : List (dd_R × Nat)) (k : Nat) : dd_pt A o L k L.length = dd_pt A o L (k + 1) 0 := by
  rw [dd_pt, dd_pt, List.range_succ, List.flatMap_append]
  simp [dd_row]
theorem dd_pt_0 (A : Nat → Nat → Int) (o : Nat) (L : List (dd_R × Nat)) : dd_pt A o L 0 0 = dd_kept A o L := by simp [dd_pt]
theorem dd_pt_e (A : Nat → Nat → Int) (o : Nat) (L : List (dd_R × Nat)) : dd_pt A o L L.length 0 = dd_step A o L := by simp [dd_pt, dd_step, dd_crs]
theorem dd_pt_len (A : Nat → Nat → Int) (o : Nat) (L : List (dd_R × Nat)) {k l : Nat} (hk : k < L.length) (hl : l ≤ L.length) : (dd_pt A o L k l).length ≤ (dd_step A o L).length := by
  have h1 : (dd_pt A o L k l).length ≤ (dd_pt A o L k L.length).length := by
    simp only [dd_pt, List.length_append]
    have := fm_mono (α := Nat) (dd_cr A o L k) l (L.length - l)
    rw [show l + (L.length - l) = L.length by omega] at this
    omega
  have h2 : (dd_pt A o L (k + 1) 0).length ≤ (dd_pt A o L L.length 0).length := by
    simp only [dd_pt, List.length_append]
    have := fm_mono (α := Nat) (dd_row A o L) (k + 1) (L.length - (k + 1))
    rw [show k + 1 + (L.length - (k + 1)) = L.length by omega] at this
    simp only [List.range_zero, List.flatMap_nil, List.length_nil]
    omega
  rw [dd_pt_n] at h1
  rw [dd_pt_e] at h2
  omega
def dd_kpt (A : Nat → Nat → Int) (o : Nat) (L : List (dd_R × Nat)) (k : Nat) : List (dd_R × Nat) := (L.take k).flatMap (dd_kp A o)
theorem dd_kpt_s (A : Nat → Nat → Int) (o : Nat) (L : List (dd_R × Nat)) {k : Nat} (hk : k < L.length) : dd_kpt A o L (k + 1) = dd_kpt A o L k ++ dd_kp A o (dd_at L k) := by
  have e : dd_at L k = L[k] := by
    rw [dd_at, List.getD_eq_getElem?_getD, List.getElem?_eq_getElem hk]; rfl
  rw [dd_kpt, dd_kpt, List.take_succ_eq_append_getElem hk, List.flatMap_append, e]
  simp
theorem dd_kpt_e (A : Nat → Nat → Int) (o : Nat) (L : List (dd_R × Nat)) : dd_kpt A o L L.length = dd_kept A o L := by
  rw [dd_kpt, List.take_length]; rfl
theorem dd_kp_len (A : Nat → Nat → Int) (o : Nat) (e : dd_R × Nat) : (dd_kp A o e).length ≤ 1 := by
  rw [dd_kp]; split <;> simp
theorem dd_kpt_len (A : Nat → Nat → Int) (o : Nat) (L : List (dd_R × Nat)) : ∀ k, k ≤ L.length → (dd_kpt A o L k).length ≤ k := by
  intro k
  induction k with
  | zero => intro _; simp [dd_kpt]
  | succ k ih =>
    intro h
    rw [dd_kpt_s A o L (by omega), List.length_append]
    have := dd_kp_len A o (dd_at L k)
    have := ih (by omega)
    omega
section
variable {rw cl mc ws os ld lc : Int32} {ft fb : Int64} {pa ec : Nat → Int32} {ed : Nat → Int64} {ti : Nat → Int32} {ma : Nat → Int64} {mt : Nat → Int32} {sl : Nat → Int64} {ls lx ly : Nat → Int32} {A : Nat → Nat → Int} {L : List (dd_R × Nat)}
/-- the slack of edge k, and what is kept of it -/
theorem xs_ch50 {post : SX → Prop} {J16 : Int32 → Int32 → Int32 → Int32 → Int32 → Int32 → Int32 → Int32 → Int64 → Int64 → (Nat → Int32) → (Nat → Int32) → (Nat → Int64) → (Nat → Int32) → (Nat → Int64) → (Nat → Int32) → (Nat → Int64) → (Nat → Int32) → (Nat → Int32) → (Nat → Int32) → Prop}
    {x1 x4 : Int32} {b o k : Nat} {M : List (dd_R × Nat)} {e : dd_R × Nat} (hb : b + k < 48) (ho : o < 3) (hk : k < 24) (hM : M.length < 24) (he : ∀ i, i < 4 → ed (4 * (b + k) + i) = zl_n (dd_c e.1 i)) (ht : ti (b + k) = nI e.2) (hB : dd_Bd e.1) (h64 : e.2 < 64) (hA : cm_Rng A)
    (hls : ∀ c, c < 3 → ls (3 * c + o) = zi_n (A c o)) (HM : xs_HM ma mt M)
    (K : ∀ mc' ma' mt' sl', mc' = nI (M ++ dd_kp A o e).length → xs_HM ma' mt' (M ++ dd_kp A o e) → sl' k = zl_n (dd_g A (o + 3) e.1) → (∀ j, j ≠ k → sl' j = sl j) → J16 (nI (k + 1)) rw cl mc' ws os ld lc ft fb pa ec ed ti ma' mt' sl' ls lx ly) :
    ∀ (d i n : Nat) (sl0 : Nat → Int64), i + d = 3 → d < n → sl0 k = zl_n (dd_ps A o e.1 i) → (∀ j, j ≠ k → sl0 j = sl j) → wX_addChoice_50 post J16 x1 (nI b) (nI o) x4 (nI k) (nI (b + k)) rw cl (nI M.length) ws os ld lc ft fb n (nI i) pa ec ed ti ma mt sl0 ls lx ly := by
  have hg := dd_Bd_g hA ho hB
  intro d
  induction d with
  | zero =>
    intro i n sl0 hi hn h0 hk0
    obtain ⟨n, rfl⟩ : ∃ m, n = m + 1 := ⟨n - 1, by omega⟩
    have hi3 : i = 3 := by omega
    subst hi3
    rw [dd_ps_3] at h0
    have z0 : (0 : Int64) = zl_n 0 := rfl
    have hc : (nI k).toNatClampNeg = k := nI_clamp (by omega)
    refine br_t (show (3 : Int32) ≤ nI 3 by decide) ⟨pk_in _ 24 hk, ?_⟩
    by_cases c : dd_g A (o + 3) e.1 < 0
    · refine br_t (by rw [hc, h0, z0]; exact (zl_lt (by omega) (by omega) (by decide) (by decide)).mpr c) fun y ey => ?_
      rw [ey, nI_1]
      have en : dd_kp A o e = [] := by rw [dd_kp, if_pos c]
      rw [en, List.append_nil] at K
      exact K _ ma mt sl0 rfl HM h0 hk0
    · refine br_f (by rw [hc, h0, z0]; exact fun h => c ((zl_lt (by omega) (by omega) (by decide) (by decide)).mp h)) ⟨pk_in _ 24 hk, ?_⟩
      by_cases z : dd_g A (o + 3) e.1 = 0
      · have en : dd_kp A o e = [(e.1, e.2 ||| 8 <<< o)] := by rw [dd_kp, if_neg c, if_pos z]
        rw [en] at K
        refine br_t (by rw [hc, h0, z]; rfl) ?_
        refine xs_keepEdge hb hM fun ma' f1 f2 y ey => ?_
        rw [ey, nI_1]
        have em : vp_nar .byte ((ti (b + k) ||| ((8 : Int32) <<< (nI o &&& 31))).toInt8.toInt32) = nI (e.2 ||| 8 <<< o) := by
          rw [ht, xi_8 o ho, xi_or]; exact nI_nar2 (by have := dd_or64 h64 (dd_8lt o ho); omega)
        rw [em]
        refine K _ ma' _ sl0 (by rw [List.length_append]; rfl) (xs_HM_snoc HM (fun i hi => ?_) f2) h0 hk0
        rw [f1 i hi]; exact he i hi
      · have en : dd_kp A o e = [(e.1, e.2)] := by rw [dd_kp, if_neg c, if_neg z]
        rw [en] at K
        refine br_f (by rw [hc, h0, z0]; exact fun h => z ((zl_eq (by omega) (by omega) (by decide) (by decide)).mp h)) ?_
        refine xs_keepEdge hb hM fun ma' f1 f2 y ey => ?_
        rw [ey, nI_1]
        have em : vp_nar .byte ((ti (b + k) ||| 0).toInt8.toInt32) = nI e.2 := by
          rw [ht, show (0 : Int32) = nI 0 from rfl, xi_or, Nat.or_zero]; exact nI_nar2 (by omega)
        rw [em]
        refine K _ ma' _ sl0 (by rw [List.length_append]; rfl) (xs_HM_snoc HM (fun i hi => ?_) f2) h0 hk0
        rw [f1 i hi]; exact he i hi
  | succ d ih =>
    intro i n sl0 hi hn h0 hk0
    obtain ⟨n, rfl⟩ : ∃ m, n = m + 1 := ⟨n - 1, by omega⟩
    have ie : (4 * nI (b + k)) + nI i = nI (4 * (b + k) + i) := xi_4 (b + k) i
    have il : (3 * nI i) + nI o = nI (3 * i + o) := xi_3 i o
    refine br_f (nI_ge (b := 3) (by omega) (by decide)) ⟨pk_in _ 24 hk, pk_in _ 192 (by omega) ie, pk_in _ 9 (by omega) il, pk_in _ 24 hk, fun a ea y ey => ?_⟩
    rw [ey, nI_1]
    have hr := hA i o (by omega) ho
    rw [ie, il, nI_clamp (by omega), nI_clamp (by omega), nI_clamp (by omega), h0, he i (by omega), hls i (by omega), zi_l (by omega) (by omega), zl_mul, zl_sub] at ea
    refine ih (i + 1) n a (by omega) (by omega) ?_ (fun j hj => ?_)
    · rw [ea, pk_uLs]; rfl
    · rw [ea, pk_uLn hj]; exact hk0 j hj
/-- all slacks, and what is kept -/
theorem xs_ch16 {post : SX → Prop} {s o : Nat} (hs : s < 2) (ho : o < 3) (hL : L.length ≤ 24) (HE : xs_HE ed ti (24 * s) L) (hB : ∀ j, j < L.length → dd_Bd (dd_at L j).1) (h64 : ∀ j, j < L.length → (dd_at L j).2 < 64) (hA : cm_Rng A)
    (hls : ∀ c, c < 3 → ls (3 * c + o) = zi_n (A c o))
    (K : ∀ ma' mt' sl', xs_HM ma' mt' (dd_kept A o L) → (∀ j, j < L.length → sl' j = zl_n (dd_g A (o + 3) (dd_at L j).1)) → ∃ n144 : Nat, wX_addChoice_144 post (nI s) (nI (24 * s)) (nI o) (nI L.length) n144 0 rw cl (nI (dd_kept A o L).length) ws os ld lc ft fb pa ec ed ti ma' mt' sl' ls lx ly) :
    ∀ (d k n : Nat) (ma0 : Nat → Int64) (mt0 : Nat → Int32) (sl0 : Nat → Int64), k + d = L.length → d < n → xs_HM ma0 mt0 (dd_kpt A o L k) → (∀ j, j < k → sl0 j = zl_n (dd_g A (o + 3) (dd_at L j).1)) →
      wX_addChoice_16 post (nI s) (nI (24 * s)) (nI o) (nI L.length) n (nI k) rw cl (nI (dd_kpt A o L k).length) ws os ld lc ft fb pa ec ed ti ma0 mt0 sl0 ls lx ly := by
  intro d
  induction d with
  | zero =>
    intro k n ma0 mt0 sl0 hk hn HM hS
    obtain ⟨n, rfl⟩ : ∃ m, n = m + 1 := ⟨n - 1, by omega⟩
    have e : k = L.length := by omega
    subst e
    rw [dd_kpt_e] at HM ⊢
    exact br_t (nI_le (Nat.le_refl _) (by omega)) (K ma0 mt0 sl0 HM hS)
  | succ d ih =>
    intro k n ma0 mt0 sl0 hk hn HM hS
    obtain ⟨n, rfl⟩ : ∃ m, n = m + 1 := ⟨n - 1, by omega⟩
    have hk' : k < L.length := by omega
    have hkl := dd_kpt_len A o L k (by omega)
    have ie : nI (24 * s) + nI k = nI (24 * s + k) := nI_add _ _
    have i3 : (4 * nI (24 * s + k)) + 3 = nI (4 * (24 * s + k) + 3) := xi_4 _ 3
    refine br_f (nI_ge (by omega) (by omega)) fun y ey => ?_
    rw [ey, ie]
    refine ⟨pk_in _ 192 (by omega) i3, pk_in k 24 (by omega), fun a ea => ⟨4, ?_⟩⟩
    rw [i3, nI_clamp (by omega), nI_clamp (by omega), (HE k hk').1 3 (by decide)] at ea
    refine xs_ch50 (M := dd_kpt A o L k) (e := dd_at L k) (sl := sl0) (A := A) (by omega) ho (by omega) (by omega) (HE k hk').1 (HE k hk').2 (hB k hk') (h64 k hk') hA hls HM ?_ 3 0 4 a rfl (by decide) (by rw [ea, pk_uLs]; rfl) (fun j hj => by rw [ea, pk_uLn hj])
    intro mc' ma' mt' sl' em hm h1 h2
    rw [← dd_kpt_s A o L hk'] at em hm
    rw [em]
    refine ih (k + 1) n ma' mt' sl' (by omega) (by omega) hm (fun j hj => ?_)
    by_cases c : j = k
    · rw [c]; exact h1
    · rw [h2 j c]; exact hS j (by omega)
/-- crossings of edge k -/
theorem xs_ch154 {post : SX → Prop} {J144 : Int32 → Int32 → Int32 → Int32 → Int32 → Int32 → Int32 → Int32 → Int64 → Int64 → (Nat → Int32) → (Nat → Int32) → (Nat → Int64) → (Nat → Int32) → (Nat → Int64) → (Nat → Int32) → (Nat → Int64) → (Nat → Int32) → (Nat → Int32) → (Nat → Int32) → Prop}
    {s o k : Nat} (hs : s < 2) (ho : o < 3) (hL : L.length ≤ 24) (hk : k < L.length) (HE : xs_HE ed ti (24 * s) L) (hB : ∀ j, j < L.length → dd_Bd (dd_at L j).1) (h64 : ∀ j, j < L.length → (dd_at L j).2 < 64) (hA : cm_Rng A)
    (hlen : (dd_step A o L).length ≤ 24) (hnz : ∀ l, l < L.length → 0 < dd_g A (o + 3) (dd_at L k).1 → dd_g A (o + 3) (dd_at L l).1 < 0 → 0 < dd_gcd (dd_x A (o + 3) (dd_at L k).1 (dd_at L l).1)) (hS : ∀ j, j < L.length → sl j = zl_n (dd_g A (o + 3) (dd_at L j).1))
    (K : ∀ ma' mt', xs_HM ma' mt' (dd_pt A o L (k + 1) 0) → J144 (nI (k + 1)) rw cl (nI (dd_pt A o L (k + 1) 0).length) ws os ld lc ft fb pa ec ed ti ma' mt' sl ls lx ly) :
    ∀ (d l n : Nat) (ma0 : Nat → Int64) (mt0 : Nat → Int32), l + d = L.length → d < n → xs_HM ma0 mt0 (dd_pt A o L k l) →
      wX_addChoice_154 post J144 (nI s) (nI (24 * s)) (nI o) (nI L.length) (nI k) n (nI l) rw cl (nI (dd_pt A o L k l).length) ws os ld lc ft fb pa ec ed ti ma0 mt0 sl ls lx ly := by
  have hgk := dd_Bd_g hA ho (hB k hk)
  have z0 : (0 : Int64) = zl_n 0 := rfl
  have hck : (nI k).toNatClampNeg = k := nI_clamp (by omega)
  intro d
  induction d with
  | zero =>
    intro l n ma0 mt0 hl hn HM
    obtain ⟨n, rfl⟩ : ∃ m, n = m + 1 := ⟨n - 1, by omega⟩
    have e : l = L.length := by omega
    subst e
    rw [dd_pt_n] at HM ⊢
    refine br_t (nI_le (Nat.le_refl _) (by omega)) fun y ey => ?_
    rw [ey, nI_1]
    exact K ma0 mt0 HM
  | succ d ih =>
    intro l n ma0 mt0 hl hn HM
    obtain ⟨n, rfl⟩ : ∃ m, n = m + 1 := ⟨n - 1, by omega⟩
    have hl' : l < L.length := by omega
    have hgl := dd_Bd_g hA ho (hB l hl')
    have hcl : (nI l).toNatClampNeg = l := nI_clamp (by omega)
    have skip : dd_cr A o L k l = [] → wX_addChoice_154 post J144 (nI s) (nI (24 * s)) (nI o) (nI L.length) (nI k) n (nI l + 1) rw cl (nI (dd_pt A o L k l).length) ws os ld lc ft fb pa ec ed ti ma0 mt0 sl ls lx ly := by
      intro en
      rw [nI_1]
      have e2 : dd_pt A o L k l = dd_pt A o L k (l + 1) := by rw [dd_pt_s, en, List.append_nil]
      rw [e2] at HM ⊢
      exact ih (l + 1) n ma0 mt0 (by omega) (by omega) HM
    refine br_f (nI_ge (by omega) (by omega)) ⟨pk_in k 24 (by omega), ?_⟩
    by_cases c1 : dd_g A (o + 3) (dd_at L k).1 ≤ 0
    · refine br_t (by rw [hck, hS k hk, z0]; exact (zl_le (by omega) (by omega) (by decide) (by decide)).mpr c1) fun y ey => ?_
      rw [ey]
      exact skip (by rw [dd_cr, if_neg (by omega)])
    · refine br_f (by rw [hck, hS k hk, z0]; exact fun h => c1 ((zl_le (by omega) (by omega) (by decide) (by decide)).mp h)) ⟨pk_in l 24 (by omega), ?_⟩
      by_cases c2 : 0 ≤ dd_g A (o + 3) (dd_at L l).1
      · refine br_t (by rw [hcl, hS l hl', z0]; exact (zl_le (by decide) (by decide) (by omega) (by omega)).mpr c2) fun y ey => ?_
        rw [ey]
        exact skip (by rw [dd_cr, if_neg (by omega)])
      · refine br_f (by rw [hcl, hS l hl', z0]; exact fun h => c2 ((zl_le (by decide) (by decide) (by omega) (by omega)).mp h)) ?_
        refine xs_areNeighbours (by omega) hk hl' (fun j hj => (HE j hj).2) h64 (fun ha => ?_) (fun ha => ?_)
        · refine br_f (by decide) ?_
          have en : dd_cr A o L k l = [(dd_nrm (dd_x A (o + 3) (dd_at L k).1 (dd_at L l).1), ((dd_at L k).2 &&& (dd_at L l).2) ||| 8 <<< o)] := by rw [dd_cr, if_pos ⟨by omega, by omega, ha⟩]
          have hm : (dd_pt A o L k l).length < 24 := by
            have := dd_pt_len A o L hk (show l + 1 ≤ L.length by omega)
            rw [dd_pt_s, en, List.length_append, List.length_singleton] at this
            omega
          refine xs_cross (by omega) (by omega) (by omega) (by omega) hm (fun i _ => dd_Bd_x hA ho (hB k hk) (hB l hl') i) (hnz l hl' (by omega) (by omega)) (HE k hk).1 (HE l hl').1 (hS k hk) (hS l hl') fun ma' f1 f2 y ey => ?_
          rw [ey, nI_1]
          have em : vp_nar .byte (((ti (24 * s + k) &&& ti (24 * s + l)) ||| ((8 : Int32) <<< (nI o &&& 31))).toInt8.toInt32) = nI (((dd_at L k).2 &&& (dd_at L l).2) ||| 8 <<< o) := by
            rw [(HE k hk).2, (HE l hl').2, xi_8 o ho, xi_and, xi_or]; exact nI_nar2 (by have := dd_or64 (dd_and64 (b := (dd_at L l).2) (h64 k hk)) (dd_8lt o ho); omega)
          rw [em]
          have hs := xs_HM_snoc (e := (dd_nrm (dd_x A (o + 3) (dd_at L k).1 (dd_at L l).1), ((dd_at L k).2 &&& (dd_at L l).2) ||| 8 <<< o)) HM f1 f2
          rw [← en, ← dd_pt_s] at hs
          have el : (dd_pt A o L k l).length + 1 = (dd_pt A o L k (l + 1)).length := by rw [dd_pt_s, en, List.length_append]; rfl
          rw [el]
          exact ih (l + 1) n ma' _ (by omega) (by omega) hs
        · refine br_t rfl fun y ey => ?_
          rw [ey]
          exact skip (by rw [dd_cr, if_neg (by rw [ha]; simp)])
/-- the made edges are copied -/
theorem xs_ch249 {post : SX → Prop} {J237 : Int32 → (Nat → Int32) → (Nat → Int32) → (Nat → Int64) → (Nat → Int32) → (Nat → Int64) → (Nat → Int32) → (Nat → Int64) → (Nat → Int32) → (Nat → Int32) → (Nat → Int32) → Prop}
    {b k m : Nat} (hb : b + k < 48) (hk : k < 24) (hmt : mt k = nI m) (h64 : m < 64)
    (K : ∀ ed', (∀ i, i < 4 → ed' (4 * (b + k) + i) = ma (4 * k + i)) → (∀ j, (j < 4 * (b + k) ∨ 4 * (b + k) + 4 ≤ j) → ed' j = ed j) → J237 (nI (k + 1)) pa ec ed' (upd ti (b + k) (nI m)) ma mt sl ls lx ly) :
    ∀ (d i n : Nat) (ed0 : Nat → Int64), i + d = 4 → d < n → (∀ t, t < i → ed0 (4 * (b + k) + t) = ma (4 * k + t)) → (∀ j, (j < 4 * (b + k) ∨ 4 * (b + k) + 4 ≤ j) → ed0 j = ed j) → wX_addChoice_249 post J237 (nI b) (nI k) rw cl mc ws os ld lc ft fb n (nI i) pa ec ed0 ti ma mt sl ls lx ly := by
  intro d
  induction d with
  | zero =>
    intro i n ed0 hi hn h0 hk0
    obtain ⟨n, rfl⟩ : ∃ m, n = m + 1 := ⟨n - 1, by omega⟩
    have hi4 : i = 4 := by omega
    subst hi4
    refine br_t (show (4 : Int32) ≤ nI 4 by decide) ⟨pk_in _ 24 hk, pk_in _ 48 hb (nI_add b k), fun a ea y ey => ?_⟩
    rw [ey, nI_1, ea, nI_add, nI_clamp (by omega), nI_clamp (by omega), hmt, nI_nar (by omega)]
    exact K ed0 h0 hk0
  | succ d ih =>
    intro i n ed0 hi hn h0 hk0
    obtain ⟨n, rfl⟩ : ∃ m, n = m + 1 := ⟨n - 1, by omega⟩
    have im : (4 * nI k) + nI i = nI (4 * k + i) := xi_4 k i
    have ie : (4 * (nI b + nI k)) + nI i = nI (4 * (b + k) + i) := by rw [nI_add, xi_4]
    refine br_f (nI_ge (b := 4) (by omega) (by decide)) ⟨pk_in _ 96 (by omega) im, pk_in _ 192 (by omega) ie, fun a ea y ey => ?_⟩
    rw [ey, nI_1]
    rw [im, ie, nI_clamp (by omega), nI_clamp (by omega)] at ea
    refine ih (i + 1) n a (by omega) (by omega) (fun t ht => ?_) (fun j hj => ?_)
    · rw [ea]
      by_cases c : t = i
      · rw [c, pk_uLs]
      · rw [pk_uLn (by omega)]; exact h0 t (by omega)
    · rw [ea, pk_uLn (by omega)]; exact hk0 j hj
def xs_out (s : Nat) (ed ed' : Nat → Int64) (ti ti' : Nat → Int32) : Prop := (∀ j, (j < 96 * s ∨ 96 * s + 96 ≤ j) → ed' j = ed j) ∧ (∀ j, (j < 24 * s ∨ 24 * s + 24 ≤ j) → ti' j = ti j)
theorem xs_out_refl (s : Nat) (ed : Nat → Int64) (ti : Nat → Int32) : xs_out s ed ed ti ti := ⟨fun _ _ => rfl, fun _ _ => rfl⟩
theorem xs_out_trans {s : Nat} {ed ed' ed'' : Nat → Int64} {ti ti' ti'' : Nat → Int32} (h : xs_out s ed ed' ti ti') (h' : xs_out s ed' ed'' ti' ti'') : xs_out s ed ed'' ti ti'' :=
  ⟨fun j hj => (h'.1 j hj).trans (h.1 j hj), fun j hj => (h'.2 j hj).trans (h.2 j hj)⟩
theorem xs_ch237 {post : SX → Prop} {s : Nat} (hs : s < 2) {M : List (dd_R × Nat)} (hM : M.length ≤ 24) (h64 : ∀ j, j < M.length → (dd_at M j).2 < 64) (HM : xs_HM ma mt M)
    (K : ∀ ed' ti', xs_HE ed' ti' (24 * s) M → xs_out s ed ed' ti ti' → post (rw, cl, nI M.length, ws, os, ld, lc, ft, fb, pa, ec, ed', ti', ma, mt, sl, ls, lx, ly)) :
    ∀ (d k n : Nat) (ed0 : Nat → Int64) (ti0 : Nat → Int32), k + d = M.length → d < n → (∀ j, j < k → (∀ i, i < 4 → ed0 (4 * (24 * s + j) + i) = zl_n (dd_c (dd_at M j).1 i)) ∧ ti0 (24 * s + j) = nI (dd_at M j).2) → xs_out s ed ed0 ti ti0 →
      wX_addChoice_237 post (nI (24 * s)) rw cl (nI M.length) ws os ld lc ft fb n (nI k) pa ec ed0 ti0 ma mt sl ls lx ly := by
  intro d
  induction d with
  | zero =>
    intro k n ed0 ti0 hk hn H ho
    obtain ⟨n, rfl⟩ : ∃ m, n = m + 1 := ⟨n - 1, by omega⟩
    have e : k = M.length := by omega
    subst e
    exact br_t (nI_le (Nat.le_refl _) (by omega)) (K ed0 ti0 H ho)
  | succ d ih =>
    intro k n ed0 ti0 hk hn H ho
    obtain ⟨n, rfl⟩ : ∃ m, n = m + 1 := ⟨n - 1, by omega⟩
    have hk' : k < M.length := by omega
    refine br_f (nI_ge (by omega) (by omega)) ⟨5, ?_⟩
    refine xs_ch249 (J237 := wX_addChoice_237 post (nI (24 * s)) rw cl (nI M.length) ws os ld lc ft fb n) (by omega) (by omega) (HM k hk').2 (h64 k hk') ?_ 4 0 5 ed0 rfl (by decide) (fun t ht => by omega) (fun _ _ => rfl)
    intro ed' f1 f2
    refine ih (k + 1) n ed' _ (by omega) (by omega) (fun j hj => ?_) (xs_out_trans ho ⟨fun j hj => f2 j (by omega), fun j hj => pk_un (by omega)⟩)
    by_cases c : j = k
    · subst c
      refine ⟨fun i hi => ?_, pk_us⟩
      rw [f1 i hi]; exact (HM j hk').1 i hi
    · refine ⟨fun i hi => ?_, ?_⟩
      · rw [f2 _ (by omega)]; exact (H j (by omega)).1 i hi
      · rw [pk_un (by omega)]; exact (H j (by omega)).2
/-- all crossings, then the copy -/
theorem xs_ch144 {post : SX → Prop} {s o : Nat} (hs : s < 2) (ho : o < 3) (hL : L.length ≤ 24) (HE : xs_HE ed ti (24 * s) L) (hB : ∀ j, j < L.length → dd_Bd (dd_at L j).1) (h64 : ∀ j, j < L.length → (dd_at L j).2 < 64) (hA : cm_Rng A)
    (hlen : (dd_step A o L).length ≤ 24) (h64' : ∀ j, j < (dd_step A o L).length → (dd_at (dd_step A o L) j).2 < 64) (hnz : ∀ k l, k < L.length → l < L.length → 0 < dd_g A (o + 3) (dd_at L k).1 → dd_g A (o + 3) (dd_at L l).1 < 0 → 0 < dd_gcd (dd_x A (o + 3) (dd_at L k).1 (dd_at L l).1)) (hS : ∀ j, j < L.length → sl j = zl_n (dd_g A (o + 3) (dd_at L j).1))
    (K : ∀ ed' ti' ma' mt', xs_HE ed' ti' (24 * s) (dd_step A o L) → xs_out s ed ed' ti ti' → post (rw, cl, nI (dd_step A o L).length, ws, os, ld, lc, ft, fb, pa, upd ec s (nI (dd_step A o L).length), ed', ti', ma', mt', sl, ls, lx, ly)) :
    ∀ (d k n : Nat) (ma0 : Nat → Int64) (mt0 : Nat → Int32), k + d = L.length → d < n → xs_HM ma0 mt0 (dd_pt A o L k 0) →
      wX_addChoice_144 post (nI s) (nI (24 * s)) (nI o) (nI L.length) n (nI k) rw cl (nI (dd_pt A o L k 0).length) ws os ld lc ft fb pa ec ed ti ma0 mt0 sl ls lx ly := by
  intro d
  induction d with
  | zero =>
    intro k n ma0 mt0 hk hn HM
    obtain ⟨n, rfl⟩ : ∃ m, n = m + 1 := ⟨n - 1, by omega⟩
    have e : k = L.length := by omega
    subst e
    rw [dd_pt_e] at HM ⊢
    refine br_t (nI_le (Nat.le_refl _) (by omega)) ⟨pk_in _ 2 hs, fun a ea => ⟨(dd_step A o L).length + 1, ?_⟩⟩
    rw [nI_clamp (by omega)] at ea
    rw [ea]
    exact xs_ch237 hs hlen h64' HM (fun ed' ti' h1 h2 => K ed' ti' ma0 mt0 h1 h2) (dd_step A o L).length 0 _ ed ti (by omega) (by omega) (fun j hj => by omega) (xs_out_refl s ed ti)
  | succ d ih =>
    intro k n ma0 mt0 hk hn HM
    obtain ⟨n, rfl⟩ : ∃ m, n = m + 1 := ⟨n - 1, by omega⟩
    refine br_f (nI_ge (by omega) (by omega)) ⟨L.length + 1, ?_⟩
    exact xs_ch154 (J144 := wX_addChoice_144 post (nI s) (nI (24 * s)) (nI o) (nI L.length) n) hs ho hL (by omega) HE hB h64 hA hlen (fun l hl => hnz k l (by omega) hl) hS (fun ma' mt' h => ih (k + 1) n ma' mt' (by omega) (by omega) h) L.length 0 _ ma0 mt0 (by omega) (by omega) HM
theorem xs_addChoice {post : SX → Prop} {s o : Nat} (hs : s < 2) (ho : o < 3) (hec : ec s = nI L.length) (hL : L.length ≤ 24) (HE : xs_HE ed ti (24 * s) L) (hB : ∀ j, j < L.length → dd_Bd (dd_at L j).1) (h64 : ∀ j, j < L.length → (dd_at L j).2 < 64) (hA : cm_Rng A)
    (hls : ∀ c, c < 3 → ls (3 * c + o) = zi_n (A c o))
    (hlen : (dd_step A o L).length ≤ 24) (h64' : ∀ j, j < (dd_step A o L).length → (dd_at (dd_step A o L) j).2 < 64) (hnz : ∀ k l, k < L.length → l < L.length → 0 < dd_g A (o + 3) (dd_at L k).1 → dd_g A (o + 3) (dd_at L l).1 < 0 → 0 < dd_gcd (dd_x A (o + 3) (dd_at L k).1 (dd_at L l).1))
    (K : ∀ ed' ti' ma' mt' sl', xs_HE ed' ti' (24 * s) (dd_step A o L) → xs_out s ed ed' ti ti' → post (rw, cl, nI (dd_step A o L).length, ws, os, ld, lc, ft, fb, pa, upd ec s (nI (dd_step A o L).length), ed', ti', ma', mt', sl', ls, lx, ly)) :
    wpX_addChoice post (rw, cl, mc, ws, os, ld, lc, ft, fb, pa, ec, ed, ti, ma, mt, sl, ls, lx, ly) (nI s) (nI (24 * s)) (nI o) := by
  refine ⟨pk_in _ 2 hs, fun y ey => ⟨L.length + 1, ?_⟩⟩
  rw [nI_clamp (by omega), hec] at ey
  rw [ey]
  refine xs_ch16 (A := A) hs ho hL HE hB h64 hA hls ?_ L.length 0 (L.length + 1) ma mt sl (by omega) (by omega) (fun k hk => by simp [dd_kpt] at hk) (fun j hj => by omega)
  intro ma' mt' sl' HM hS
  refine ⟨L.length + 1, ?_⟩
  rw [← dd_pt_0] at HM ⊢
  exact xs_ch144 hs ho hL HE hB h64 hA hlen h64' hnz hS (fun ed' ti' ma'' mt'' h1 h2 => K ed' ti' ma'' mt'' sl' h1 h2) L.length 0 _ ma' mt' (by omega) (by omega) HM
end
end
section
/-! the whole cone -/
def dd_fl (L : List (dd_R × Nat)) (k : Nat) : List (dd_R × Nat) := (L.take k).filter (fun e => decide (dd_sm e.1 ≠ 0))
theorem dd_fl_s {L : List (dd_R × Nat)} {k : Nat} (hk : k < L.length) : dd_fl L (k + 1) = dd_fl L k ++ (if dd_sm (dd_at L k).1 = 0 then [] else [dd_at L k]) := by
  have e : dd_at L k = L[k] := by
    rw [dd_at, List.getD_eq_getElem?_getD, List.getElem?_eq_getElem hk]; rfl
  rw [dd_fl, dd_fl, List.take_succ_eq_append_getElem hk, List.filter_append, e]
  congr 1
  by_cases c : dd_sm (L[k]).1 = 0
  · rw [if_pos c]; simp [c]
  · rw [if_neg c]; simp [c]
theorem dd_fl_len (L : List (dd_R × Nat)) : ∀ k, k ≤ L.length → (dd_fl L k).length ≤ k := by
  intro k hk
  have := List.length_filter_le (fun e : dd_R × Nat => decide (dd_sm e.1 ≠ 0)) (L.take k)
  rw [List.length_take] at this
  rw [dd_fl]
  omega
theorem xs_HE_snoc {ed ed' : Nat → Int64} {ti : Nat → Int32} {b : Nat} {M : List (dd_R × Nat)} {e : dd_R × Nat} (h : xs_HE ed ti b M) (h1 : ∀ i, i < 4 → ed' (4 * (b + M.length) + i) = zl_n (dd_c e.1 i)) (h2 : ∀ j, (j < 4 * (b + M.length) ∨ 4 * (b + M.length) + 4 ≤ j) → ed' j = ed j) : xs_HE ed' (upd ti (b + M.length) (nI e.2)) b (M ++ [e]) := by
  intro k hk
  rw [List.length_append, List.length_singleton] at hk
  by_cases c : k < M.length
  · rw [dd_at_left c, pk_un (by omega)]
    refine ⟨fun i hi => ?_, (h k c).2⟩
    rw [h2 _ (by omega)]
    exact (h k c).1 i hi
  · have ek : k = M.length := by omega
    subst ek
    rw [dd_at_last, pk_us]
    exact ⟨h1, rfl⟩
theorem xi_bits : ∀ own, own < 8 → ∀ c, c < 3 → ∀ s, s < 3 → (nI own &&& (((1 : Int32) <<< (nI c &&& 31)) ^^^ (-1 : Int32))) ||| ((8 : Int32) <<< (nI s &&& 31)) = nI ((own &&& (7 ^^^ (1 <<< c))) ||| 8 <<< s) := by decide +kernel
theorem dd_c_u (A : Nat → Nat → Int) {c i : Nat} (hc : c < 3) (hi : i < 4) (s : Nat) : dd_c (dd_u A c s) i = if i = 3 then A c s else if i = c then 1 else 0 := by
  match c, hc, i, hi with
  | 0, _, 0, _ => rfl
  | 0, _, 1, _ => rfl
  | 0, _, 2, _ => rfl
  | 0, _, 3, _ => rfl
  | 1, _, 0, _ => rfl
  | 1, _, 1, _ => rfl
  | 1, _, 2, _ => rfl
  | 1, _, 3, _ => rfl
  | 2, _, 0, _ => rfl
  | 2, _, 1, _ => rfl
  | 2, _, 2, _ => rfl
  | 2, _, 3, _ => rfl
theorem dd_c_v {i : Nat} (hi : i < 4) : dd_c dd_v i = if i = 3 then 1 else if i = 3 then 1 else 0 := by
  match i, hi with
  | 0, _ => rfl
  | 1, _ => rfl
  | 2, _ => rfl
  | 3, _ => rfl
theorem dd_i1_len (A : Nat → Nat → Int) (own s : Nat) : ∀ c, ((List.range c).flatMap (dd_i1 A own s)).length ≤ c := by
  intro c
  induction c with
  | zero => simp
  | succ c ih =>
    rw [List.range_succ, List.flatMap_append, List.length_append]
    have : (List.flatMap (dd_i1 A own s) [c]).length ≤ 1 := by
      simp only [List.flatMap_cons, List.flatMap_nil, List.append_nil, dd_i1]
      split <;> simp
    omega
section
variable {rw cl mc ws os ld lc : Int32} {ft fb : Int64} {pa ec : Nat → Int32} {ed : Nat → Int64} {ti : Nat → Int32} {ma : Nat → Int64} {mt : Nat → Int32} {sl : Nat → Int64} {ls lx ly : Nat → Int32} {A : Nat → Nat → Int} {L : List (dd_R × Nat)}
theorem xs_dl39 {post : SX → Prop} {J5 : Int32 → Int32 → (Nat → Int32) → (Nat → Int32) → (Nat → Int64) → (Nat → Int32) → (Nat → Int64) → (Nat → Int32) → (Nat → Int64) → (Nat → Int32) → (Nat → Int32) → (Nat → Int32) → Prop}
    {x1 : Int32} {b f k : Nat} {e : dd_R × Nat} (hb : b + k < 48) (hf : f ≤ k) (he : ∀ i, i < 4 → ed (4 * (b + k) + i) = zl_n (dd_c e.1 i)) (ht : ti (b + k) = nI e.2) (h64 : e.2 < 64)
    (K : ∀ ed', (∀ i, i < 4 → ed' (4 * (b + f) + i) = zl_n (dd_c e.1 i)) → (∀ j, (j < 4 * (b + f) ∨ 4 * (b + f) + 4 ≤ j) → ed' j = ed j) → J5 (nI (f + 1)) (nI (k + 1)) pa ec ed' (upd ti (b + f) (nI e.2)) ma mt sl ls lx ly) :
    ∀ (d i n : Nat) (ed0 : Nat → Int64), i + d = 4 → d < n → (∀ t, t < i → ed0 (4 * (b + f) + t) = zl_n (dd_c e.1 t)) → (∀ t, t < 4 → ed0 (4 * (b + k) + t) = zl_n (dd_c e.1 t)) → (∀ j, (j < 4 * (b + f) ∨ 4 * (b + f) + 4 ≤ j) → ed0 j = ed j) →
      wX_dropLast_39 post J5 x1 (nI b) (nI f) (nI k) (nI (b + k)) rw cl mc ws os ld lc ft fb n (nI i) pa ec ed0 ti ma mt sl ls lx ly := by
  intro d
  induction d with
  | zero =>
    intro i n ed0 hi hn h0 h1 hk0
    obtain ⟨n, rfl⟩ : ∃ m, n = m + 1 := ⟨n - 1, by omega⟩
    have hi4 : i = 4 := by omega
    subst hi4
    refine br_t (show (4 : Int32) ≤ nI 4 by decide) ⟨pk_in _ 48 hb, pk_in _ 48 (show b + f < 48 by omega) (nI_add b f), fun a ea y ey z ez => ?_⟩
    rw [ey, ez, nI_1, nI_1, ea, nI_add, nI_clamp (by omega), nI_clamp (by omega), ht, nI_nar (by omega)]
    exact K ed0 h0 hk0
  | succ d ih =>
    intro i n ed0 hi hn h0 h1 hk0
    obtain ⟨n, rfl⟩ : ∃ m, n = m + 1 := ⟨n - 1, by omega⟩
    have ie : (4 * nI (b + k)) + nI i = nI (4 * (b + k) + i) := xi_4 (b + k) i
    have jf : (4 * (nI b + nI f)) + nI i = nI (4 * (b + f) + i) := by rw [nI_add, xi_4]
    refine br_f (nI_ge (b := 4) (by omega) (by decide)) ⟨pk_in _ 192 (by omega) ie, pk_in _ 192 (by omega) jf, fun a ea y ey => ?_⟩
    rw [ey, nI_1]
    rw [ie, jf, nI_clamp (by omega), nI_clamp (by omega), h1 i (by omega)] at ea
    refine ih (i + 1) n a (by omega) (by omega) (fun t ht => ?_) (fun t ht => ?_) (fun j hj => ?_)
    · rw [ea]
      by_cases c : t = i
      · rw [c, pk_uLs]
      · rw [pk_uLn (by omega)]; exact h0 t (by omega)
    · rw [ea]
      by_cases c : 4 * (b + k) + t = 4 * (b + f) + i
      · have : t = i := by omega
        rw [c, this, pk_uLs]
      · rw [pk_uLn c]; exact h1 t ht
    · rw [ea, pk_uLn (by omega)]; exact hk0 j hj
theorem xs_dl5 {post : SX → Prop} {s : Nat} (hs : s < 2) (hL : L.length ≤ 24) (hec : ec s = nI L.length) (hB : ∀ j, j < L.length → dd_Bd (dd_at L j).1) (h64 : ∀ j, j < L.length → (dd_at L j).2 < 64)
    (K : ∀ ed' ti', xs_HE ed' ti' (24 * s) (dd_fl L L.length) → xs_out s ed ed' ti ti' → post (rw, cl, mc, ws, os, ld, lc, ft, fb, pa, upd ec s (nI (dd_fl L L.length).length), ed', ti', ma, mt, sl, ls, lx, ly)) :
    ∀ (d k n : Nat) (ed0 : Nat → Int64) (ti0 : Nat → Int32), k + d = L.length → d < n → xs_HE ed0 ti0 (24 * s) (dd_fl L k) → (∀ j, k ≤ j → j < L.length → (∀ i, i < 4 → ed0 (4 * (24 * s + j) + i) = zl_n (dd_c (dd_at L j).1 i)) ∧ ti0 (24 * s + j) = nI (dd_at L j).2) → xs_out s ed ed0 ti ti0 →
      wX_dropLast_5 post (nI s) (nI (24 * s)) rw cl mc ws os ld lc ft fb n (nI (dd_fl L k).length) (nI k) pa ec ed0 ti0 ma mt sl ls lx ly := by
  have hcs : (nI s).toNatClampNeg = s := nI_clamp (by omega)
  intro d
  induction d with
  | zero =>
    intro k n ed0 ti0 hk hn HE H ho
    obtain ⟨n, rfl⟩ : ∃ m, n = m + 1 := ⟨n - 1, by omega⟩
    have e : k = L.length := by omega
    subst e
    refine ⟨pk_in _ 2 hs, br_t (by rw [hcs, hec]; exact nI_le (Nat.le_refl _) (by omega)) ⟨pk_in _ 2 hs, fun a ea => ?_⟩⟩
    rw [ea, hcs]
    exact K ed0 ti0 HE ho
  | succ d ih =>
    intro k n ed0 ti0 hk hn HE H ho
    obtain ⟨n, rfl⟩ : ∃ m, n = m + 1 := ⟨n - 1, by omega⟩
    have hk' : k < L.length := by omega
    have hf := dd_fl_len L k (by omega)
    have hBk := hB k hk'
    refine ⟨pk_in _ 2 hs, br_f (by rw [hcs, hec]; exact nI_ge (by omega) (by omega)) fun y ey => ?_⟩
    rw [ey, nI_add]
    refine xs_sumOf (q := (dd_at L k).1) (by omega) (H k (Nat.le_refl _) hk').1 ?_
    have bs : 0 ≤ dd_sm (dd_at L k).1 ∧ dd_sm (dd_at L k).1 ≤ 1944 := by
      obtain ⟨b0, b1, b2, _⟩ := hBk
      simp only [dd_sm]; omega
    have z0 : (0 : Int64) = zl_n 0 := rfl
    by_cases c : dd_sm (dd_at L k).1 = 0
    · refine br_t (by rw [c]; rfl) fun y ey => ?_
      rw [ey, nI_1]
      have en : dd_fl L (k + 1) = dd_fl L k := by rw [dd_fl_s hk', if_pos c, List.append_nil]
      rw [← en] at HE ⊢
      exact ih (k + 1) n ed0 ti0 (by omega) (by omega) HE (fun j hj hj' => H j (by omega) hj') ho
    · refine br_f (by rw [z0]; exact fun h => c ((zl_eq (by omega) (by omega) (by decide) (by decide)).mp h)) ⟨5, ?_⟩
      have en : dd_fl L (k + 1) = dd_fl L k ++ [dd_at L k] := by rw [dd_fl_s hk', if_neg c]
      refine xs_dl39 (J5 := wX_dropLast_5 post (nI s) (nI (24 * s)) rw cl mc ws os ld lc ft fb n) (by omega) hf (H k (Nat.le_refl _) hk').1 (H k (Nat.le_refl _) hk').2 (h64 k hk') ?_ 4 0 5 ed0 rfl (by decide) (fun t ht => by omega) (H k (Nat.le_refl _) hk').1 (fun _ _ => rfl)
      intro ed' f1 f2
      have hn2 := xs_HE_snoc (e := dd_at L k) HE f1 f2
      rw [← en] at hn2
      have el : (dd_fl L k).length + 1 = (dd_fl L (k + 1)).length := by rw [en, List.length_append]; rfl
      rw [el]
      refine ih (k + 1) n ed' _ (by omega) (by omega) hn2 (fun j hj hj' => ⟨fun i hi => ?_, ?_⟩) (xs_out_trans ho ⟨fun j hj => f2 j (by omega), fun j hj => pk_un (by omega)⟩)
      · rw [f2 _ (by omega)]; exact (H j (by omega) hj').1 i hi
      · rw [pk_un (by omega)]; exact (H j (by omega) hj').2
theorem xs_dropLast {post : SX → Prop} {s : Nat} (hs : s < 2) (hL : L.length ≤ 24) (hec : ec s = nI L.length) (hB : ∀ j, j < L.length → dd_Bd (dd_at L j).1) (h64 : ∀ j, j < L.length → (dd_at L j).2 < 64) (HE : xs_HE ed ti (24 * s) L)
    (K : ∀ ed' ti', xs_HE ed' ti' (24 * s) (L.filter (fun e => decide (dd_sm e.1 ≠ 0))) → xs_out s ed ed' ti ti' → post (rw, cl, mc, ws, os, ld, lc, ft, fb, pa, upd ec s (nI (L.filter (fun e => decide (dd_sm e.1 ≠ 0))).length), ed', ti', ma, mt, sl, ls, lx, ly)) : wpX_dropLast post (rw, cl, mc, ws, os, ld, lc, ft, fb, pa, ec, ed, ti, ma, mt, sl, ls, lx, ly) (nI s) (nI (24 * s)) := by
  have e : L.filter (fun e => decide (dd_sm e.1 ≠ 0)) = dd_fl L L.length := by rw [dd_fl, List.take_length]
  rw [e] at K
  exact ⟨L.length + 1, xs_dl5 hs hL hec hB h64 K L.length 0 _ ed ti (by omega) (by omega) (fun k hk => by simp [dd_fl] at hk) (fun j _ hj => HE j hj) (xs_out_refl s ed ti)⟩
/-- the further choices -/
theorem xs_mc102 {post : SX → Prop} {s own other : Nat} (hs : s < 2) (ho : own < 8) (h8 : other < 8) (h0 : 0 < other) (hA : cm_Rng A) (hls : ∀ c o, c < 3 → o < 3 → ls (3 * c + o) = zi_n (A c o))
    (K : ∀ mc' ec' ed' ti' ma' mt' sl', ec' s = nI (dd_fin A own other).length → (∀ j, j ≠ s → ec' j = ec j) → xs_HE ed' ti' (24 * s) (dd_fin A own other) → xs_out s ed ed' ti ti' → post (rw, cl, mc', ws, os, ld, lc, ft, fb, pa, ec', ed', ti', ma', mt', sl', ls, lx, ly)) :
    ∀ (d o n : Nat) (mc0 : Int32) (ec0 : Nat → Int32) (ed0 : Nat → Int64) (ti0 : Nat → Int32) (ma0 : Nat → Int64) (mt0 : Nat → Int32) (sl0 : Nat → Int64), o + d = 3 → d < n → dd_low other < o → ec0 s = nI (dd_stg A own other o).length → (∀ j, j ≠ s → ec0 j = ec j) → xs_HE ed0 ti0 (24 * s) (dd_stg A own other o) → xs_out s ed ed0 ti ti0 →
      wX_makeCone_102 post (nI s) (nI other) (nI (24 * s)) n (nI o) rw cl mc0 ws os ld lc ft fb pa ec0 ed0 ti0 ma0 mt0 sl0 ls lx ly := by
  obtain ⟨l1, l2, l3⟩ := dd_low_spec other h8 h0
  intro d
  induction d with
  | zero =>
    intro o n mc0 ec0 ed0 ti0 ma0 mt0 sl0 hd hn hlo hec hej HE hout
    obtain ⟨n, rfl⟩ : ∃ m, n = m + 1 := ⟨n - 1, by omega⟩
    have e : o = 3 := by omega
    subst e
    have I := dd_stg_inv A ho h8 h0 3 hlo (Nat.le_refl _)
    have len := dd_stg_len A ho h8 h0 3 (Nat.le_refl _)
    refine br_t (show (3 : Int32) ≤ nI 3 by decide) ?_
    refine xs_dropLast hs (by omega) hec (fun j hj => dd_bnd hA (Nat.le_refl _) l1 l2 I (dd_at_mem hj)) (fun j hj => (I.2.2.2 _ (dd_at_mem hj)).1) HE ?_
    rw [← dd_all_stg A own other l1]
    intro ed' ti' f1 f2
    exact K mc0 _ ed' ti' ma0 mt0 sl0 pk_us (fun j hj => by rw [pk_un hj]; exact hej j hj) f1 (xs_out_trans hout f2)
  | succ d ih =>
    intro o n mc0 ec0 ed0 ti0 ma0 mt0 sl0 hd hn hlo hec hej HE hout
    obtain ⟨n, rfl⟩ : ∃ m, n = m + 1 := ⟨n - 1, by omega⟩
    have I := dd_stg_inv A ho h8 h0 o hlo (by omega)
    have len := dd_stg_len A ho h8 h0 o (by omega)
    have len' := dd_stg_len A ho h8 h0 (o + 1) (by omega)
    have I' := dd_stg_inv A ho h8 h0 (o + 1) (by omega) (by omega)
    have es := dd_stg_s (A := A) (own := own) hlo
    refine br_f (nI_ge (b := 3) (by omega) (by decide)) ?_
    refine xs_isIn (by omega) (by omega) (fun b => ?_) (fun b => ?_)
    · rw [dd_add, if_pos b] at es
      rw [es] at len' I'
      refine br_f (by decide) ?_
      refine xs_addChoice (A := A) hs (by omega) hec (by omega) HE (fun j hj => dd_bnd hA (by omega) hlo l2 I (dd_at_mem hj)) (fun j hj => (I.2.2.2 _ (dd_at_mem hj)).1) hA (fun c hc => hls c o hc (by omega)) (by omega) (fun j hj => (I'.2.2.2 _ (dd_at_mem hj)).1) (fun k l hk hl p0 n0 => ?_) ?_
      · have G := I.1
        exact dd_gcd_pos (dd_x_0 (dd_Pt_KO A own other o _ hlo l1 l2) (G.1 _ (dd_at_fst hk)).1 (G.1 _ (dd_at_fst hl)).1 (G.1 _ (dd_at_fst hk)).2.1 p0 n0)
      · intro ed' ti' ma' mt' sl' f1 f2 y ey
        rw [ey, nI_1]
        rw [← es] at f1 ⊢
        exact ih (o + 1) n _ _ ed' ti' ma' mt' sl' (by omega) (by omega) (by omega) pk_us (fun j hj => by rw [pk_un hj]; exact hej j hj) f1 (xs_out_trans hout f2)
    · rw [dd_add, if_neg (by rw [b]; decide)] at es
      refine br_t rfl fun y ey => ?_
      rw [ey, nI_1]
      rw [← es] at hec HE
      exact ih (o + 1) n mc0 ec0 ed0 ti0 ma0 mt0 sl0 (by omega) (by omega) (by omega) hec hej HE hout
/-- the first choice -/
theorem xs_mc33 {post : SX → Prop} {s own other : Nat} (hs : s < 2) (ho : own < 8) (h8 : other < 8) (h0 : 0 < other) (hA : cm_Rng A) (hls : ∀ c o, c < 3 → o < 3 → ls (3 * c + o) = zi_n (A c o))
    (K : ∀ mc' ec' ed' ti' ma' mt' sl', ec' s = nI (dd_fin A own other).length → (∀ j, j ≠ s → ec' j = ec j) → xs_HE ed' ti' (24 * s) (dd_fin A own other) → xs_out s ed ed' ti ti' → post (rw, cl, mc', ws, os, ld, lc, ft, fb, pa, ec', ed', ti', ma', mt', sl', ls, lx, ly)) :
    ∀ (d c n : Nat) (ec0 : Nat → Int32) (ed0 : Nat → Int64) (ti0 : Nat → Int32), c + d = 3 → d < n → ec0 s = nI ((List.range c).flatMap (dd_i1 A own (dd_low other))).length → (∀ j, j ≠ s → ec0 j = ec j) → xs_HE ed0 ti0 (24 * s) ((List.range c).flatMap (dd_i1 A own (dd_low other))) → xs_out s ed ed0 ti ti0 →
      wX_makeCone_33 post (nI s) (nI own) (nI other) (nI (24 * s)) (nI (dd_low other)) n (nI c) rw cl mc ws os ld lc ft fb pa ec0 ed0 ti0 ma mt sl ls lx ly := by
  obtain ⟨l1, l2, l3⟩ := dd_low_spec other h8 h0
  intro d
  induction d with
  | zero =>
    intro c n ec0 ed0 ti0 hd hn hec hej HE hout
    obtain ⟨n, rfl⟩ : ∃ m, n = m + 1 := ⟨n - 1, by omega⟩
    have e : c = 3 := by omega
    subst e
    have hlen := dd_i1_len A own (dd_low other) 3
    refine br_t (show (3 : Int32) ≤ nI 3 by decide) ?_
    refine xs_addEdge (c := 3) hs (by decide) (show ((List.range 3).flatMap (dd_i1 A own (dd_low other))).length < 24 by omega) hec ?_
    intro ed' f1 f2 y ey
    rw [ey, nI_1, nI_nar2 (by omega)]
    refine ⟨4, ?_⟩
    have hn2 := xs_HE_snoc (e := (dd_v, own)) HE (fun i hi => by rw [f1 i hi, dd_c_v hi]; split <;> rfl) f2
    have ei : (List.range 3).flatMap (dd_i1 A own (dd_low other)) ++ [(dd_v, own)] = dd_stg A own other (dd_low other + 1) := (dd_stg_0 _ (Nat.le_refl _)).symm
    have el : ((List.range 3).flatMap (dd_i1 A own (dd_low other))).length + 1 = (dd_stg A own other (dd_low other + 1)).length := by rw [← ei, List.length_append]; rfl
    rw [ei] at hn2
    exact xs_mc102 hs ho h8 h0 hA hls K (2 - dd_low other) (dd_low other + 1) 4 _ _ ed' _ _ _ _ (by omega) (by omega) (by omega) (by rw [pk_us, el]) (fun j hj => by rw [pk_un hj]; exact hej j hj) hn2 (xs_out_trans hout ⟨fun j hj => f2 j (by omega), fun j hj => pk_un (by omega)⟩)
  | succ d ih =>
    intro c n ec0 ed0 ti0 hd hn hec hej HE hout
    obtain ⟨n, rfl⟩ : ∃ m, n = m + 1 := ⟨n - 1, by omega⟩
    have hlen := dd_i1_len A own (dd_low other) c
    have hc : c < 3 := by omega
    have er : (List.range (c + 1)).flatMap (dd_i1 A own (dd_low other)) = (List.range c).flatMap (dd_i1 A own (dd_low other)) ++ dd_i1 A own (dd_low other) c := by
      rw [List.range_succ, List.flatMap_append]; simp
    refine br_f (nI_ge (b := 3) (by omega) (by decide)) ?_
    refine xs_isIn (by omega) (by omega) (fun b => ?_) (fun b => ?_)
    · rw [dd_i1, if_pos b] at er
      have il : (3 * nI c) + nI (dd_low other) = nI (3 * c + dd_low other) := xi_3 c _
      refine br_f (by decide) ⟨pk_in _ 9 (by omega) il, ?_⟩
      have hr := hA c (dd_low other) hc l1
      have hm := dd_m0 own ho c hc (dd_low other) l1
      rw [il, nI_clamp (by omega), hls c _ hc l1, xi_bits own ho c hc _ l1]
      refine xs_addEdge hs (by omega) (show ((List.range c).flatMap (dd_i1 A own (dd_low other))).length < 24 by omega) hec ?_
      intro ed' f1 f2 y ey
      rw [ey, nI_1, nI_nar2 (by omega)]
      have hn2 := xs_HE_snoc (e := (dd_u A c (dd_low other), (own &&& (7 ^^^ (1 <<< c))) ||| 8 <<< (dd_low other))) HE (fun i hi => by
        rw [f1 i hi, dd_c_u A hc hi, zi_l (by omega) (by omega)]
        split
        · rfl
        · split <;> rfl) f2
      have el : ((List.range c).flatMap (dd_i1 A own (dd_low other))).length + 1 = ((List.range (c + 1)).flatMap (dd_i1 A own (dd_low other))).length := by rw [er, List.length_append]; rfl
      rw [← er] at hn2
      rw [el]
      exact ih (c + 1) n _ ed' _ (by omega) (by omega) pk_us (fun j hj => by rw [pk_un hj]; exact hej j hj) hn2 (xs_out_trans hout ⟨fun j hj => f2 j (by omega), fun j hj => pk_un (by omega)⟩)
    · rw [dd_i1, if_neg (by rw [b]; decide), List.append_nil] at er
      refine br_t rfl fun y ey => ?_
      rw [ey, nI_1]
      rw [← er] at hec HE
      exact ih (c + 1) n ec0 ed0 ti0 (by omega) (by omega) hec hej HE hout
theorem xs_makeCone {post : SX → Prop} {s own other : Nat} (hs : s < 2) (ho : own < 8) (h8 : other < 8) (h0 : 0 < other) (hA : cm_Rng A) (hls : xs_L A ls 3 0)
    (K : ∀ mc' ec' ed' ti' ma' mt' sl', ec' s = nI (dd_fin A own other).length → (∀ j, j ≠ s → ec' j = ec j) → xs_HE ed' ti' (24 * s) (dd_fin A own other) → xs_out s ed ed' ti ti' → post (rw, cl, mc', nI own, nI other, ld, lc, ft, fb, pa, ec', ed', ti', ma', mt', sl', ls, lx, ly)) :
    wpX_makeCone post (rw, cl, mc, ws, os, ld, lc, ft, fb, pa, ec, ed, ti, ma, mt, sl, ls, lx, ly) (nI s) (nI own) (nI other) := by
  obtain ⟨l1, l2, l3⟩ := dd_low_spec other h8 h0
  intro y ey
  rw [xi_24m] at ey
  rw [ey]
  refine xs_lowestIn h8 h0 ⟨pk_in _ 2 hs, fun a ea => ⟨4, ?_⟩⟩
  rw [nI_clamp (by omega)] at ea
  rw [ea]
  refine xs_mc33 (A := A) hs ho h8 h0 hA (fun c o hc h => hls c o hc h (by omega)) ?_ 3 0 4 _ ed ti rfl (by decide) pk_us (fun j hj => pk_un hj) (fun k hk => by simp at hk) (xs_out_refl s ed ti)
  intro mc' ec' ed' ti' ma' mt' sl' g1 g2 g3 g4
  exact K mc' ec' ed' ti' ma' mt' sl' g1 g2 g3 g4
end
end
section
/-! equilibria, and their canonical list -/
def cm_Best (A : Nat → Nat → Int) (other : Nat) (x : cm_T) (j : Nat) : Prop := ∀ o, o < 3 → other.testBit o = true → cm_val A x o ≤ cm_val A x j
def cm_cp (x : cm_T) (i : Nat) : Int :=
  match i with
  | 0 => x.1
  | 1 => x.2.1
  | _ => x.2.2
def cm_Eq (A0 A1 : Nat → Nat → Int) (R C : Nat) (z : cm_T × cm_T) : Prop :=
  cm_Cor A0 R C z.1 ∧ cm_Cor A1 C R z.2 ∧ (∀ i, i < 3 → 0 < cm_cp z.1 i → cm_Best A1 R z.2 i) ∧ (∀ j, j < 3 → 0 < cm_cp z.2 j → cm_Best A0 C z.1 j)
def od_lt2 (z w : cm_T × cm_T) : Prop := od_lt z.1 w.1 ∨ (z.1 = w.1 ∧ od_lt z.2 w.2)
def cm_Can (A0 A1 : Nat → Nat → Int) (R C : Nat) (V : List (cm_T × cm_T)) : Prop := V.Pairwise od_lt2 ∧ ∀ z, z ∈ V ↔ cm_Eq A0 A1 R C z
theorem od_asymm2 (z w : cm_T × cm_T) (h : od_lt2 z w) (h' : od_lt2 w z) : False := by
  rcases h with h | ⟨e, h⟩ <;> rcases h' with h' | ⟨e', h'⟩
  · exact od_asymm h h'
  · rw [e'] at h; exact od_irr _ h
  · rw [e] at h'; exact od_irr _ h'
  · exact od_asymm h h'
theorem cm_Can_uniq {A0 A1 : Nat → Nat → Int} {R C : Nat} {V V' : List (cm_T × cm_T)} (h : cm_Can A0 A1 R C V) (h' : cm_Can A0 A1 R C V') : V = V' :=
  so_uniq od_asymm2 V V' h.1 h'.1 (fun z => (h.2 z).trans (h'.2 z).symm)
theorem od_trans2 {x y z : cm_T × cm_T} (x1 : 0 < cm_sum x.1) (y1 : 0 < cm_sum y.1) (z1 : 0 < cm_sum z.1) (x2 : 0 < cm_sum x.2) (y2 : 0 < cm_sum y.2) (z2 : 0 < cm_sum z.2) (h : od_lt2 x y) (h' : od_lt2 y z) : od_lt2 x z := by
  rcases h with h | ⟨e, h⟩ <;> rcases h' with h' | ⟨e', h'⟩
  · exact Or.inl (od_trans x1 y1 z1 h h')
  · rw [e'] at h; exact Or.inl h
  · rw [← e] at h'; exact Or.inl h'
  · exact Or.inr ⟨e.trans e', od_trans x2 y2 z2 h h'⟩
theorem od_tri2 {x y : cm_T × cm_T} (x1 : od_ok x.1) (y1 : od_ok y.1) (x2 : od_ok x.2) (y2 : od_ok y.2) : od_lt2 x y ∨ x = y ∨ od_lt2 y x := by
  rcases od_tri x1 y1 with h | h | h
  · exact Or.inl (Or.inl h)
  · rcases od_tri x2 y2 with g | g | g
    · exact Or.inl (Or.inr ⟨h, g⟩)
    · exact Or.inr (Or.inl (Prod.ext h g))
    · exact Or.inr (Or.inr (Or.inr ⟨h.symm, g⟩))
  · exact Or.inr (Or.inr (Or.inl h))
theorem cm_cp_g (A : Nat → Nat → Int) {i : Nat} (hi : i < 3) (q : dd_R) : cm_cp (dd_tr q) i = dd_g A i q := by
  match i, hi with
  | 0, _ => rfl
  | 1, _ => rfl
  | 2, _ => rfl
/-- a bit of a corner's mask, for the own choices -/
theorem cm_bit3 {A : Nat → Nat → Int} {own other : Nat} (ho : own < 8) (h8 : other < 8) (h0 : 0 < other) {e : dd_R × Nat} (he : e ∈ dd_fin A own other) {i : Nat} (hi : i < 3) (hb : own.testBit i = true) : e.2.testBit i = true ↔ ¬ 0 < cm_cp (dd_tr e.1) i := by
  have I := dd_all_inv A ho h8 h0
  obtain ⟨ha, hs⟩ := dd_fin_mem he
  have ex := I.1.1 _ (List.mem_map.mpr ⟨e, ha, rfl⟩)
  rw [dd_msk_t (I.2.2.2 e ha) (by omega), cm_cp_g A hi]
  have n := cm_nn ex.1 hi
  constructor
  · intro h; omega
  · intro h; exact ⟨by rw [cm_K3 hi]; exact hb, by omega⟩
theorem cm_bit6 {A : Nat → Nat → Int} {own other : Nat} (ho : own < 8) (h8 : other < 8) (h0 : 0 < other) {e : dd_R × Nat} (he : e ∈ dd_fin A own other) {j : Nat} (hj : j < 3) (hb : other.testBit j = true) : e.2.testBit (j + 3) = true ↔ cm_Best A other (dd_tr e.1) j := by
  have I := dd_all_inv A ho h8 h0
  obtain ⟨ha, hs⟩ := dd_fin_mem he
  have ex := I.1.1 _ (List.mem_map.mpr ⟨e, ha, rfl⟩)
  rw [dd_msk_t (I.2.2.2 e ha) (by omega)]
  have gv : ∀ o, dd_g A (o + 3) e.1 = e.1.2.2.2 - cm_val A (dd_tr e.1) o := fun _ => rfl
  constructor
  · rintro ⟨_, h⟩ o ho' bo
    have := ex.1.2 (o + 3) (by omega) (by rw [cm_Ko ho']; exact bo)
    rw [gv] at h this
    omega
  · intro h
    refine ⟨by rw [cm_Ko hj]; exact hb, ?_⟩
    obtain ⟨o, ho', bo, hg⟩ := cm_tight ex hs
    have h1 := h o ho' bo
    have h2 := ex.1.2 (j + 3) (by omega) (by rw [cm_Ko hj]; exact hb)
    rw [gv] at hg h2 ⊢
    omega
def cm_fit (x y R C : Nat) : Bool := dd_inc (x ||| y / 8) R && dd_inc (y ||| x / 8) C
theorem cm_div8 (y t : Nat) : (y / 8).testBit t = y.testBit (t + 3) := by
  rw [show (8 : Nat) = 2 ^ 3 from rfl, Nat.testBit_div_two_pow]
theorem cm_fit_iff {A0 A1 : Nat → Nat → Int} {R C : Nat} (hR : R < 8) (hC : C < 8) (R0 : 0 < R) (C0 : 0 < C) {e f : dd_R × Nat} (he : e ∈ dd_fin A0 R C) (hf : f ∈ dd_fin A1 C R) : cm_fit e.2 f.2 R C = true ↔ cm_Eq A0 A1 R C (dd_tr e.1, dd_tr f.1) := by
  have Ie := dd_all_inv A0 hR hC C0
  have If := dd_all_inv A1 hC hR R0
  have xe := Ie.1.1 _ (List.mem_map.mpr ⟨e, (dd_fin_mem he).1, rfl⟩)
  have xf := If.1.1 _ (List.mem_map.mpr ⟨f, (dd_fin_mem hf).1, rfl⟩)
  have b6 : ∀ (m : Nat), m < 8 → ∀ t, 3 ≤ t → m.testBit t = false := fun m hm t ht => Nat.testBit_lt_two_pow (Nat.lt_of_lt_of_le hm (Nat.pow_le_pow_right (n := 2) (by decide) ht))
  have key : ∀ (own other x y : Nat), own < 8 → (dd_inc (x ||| y / 8) own = true ↔ ∀ i, i < 3 → own.testBit i = true → (x.testBit i = true ∨ y.testBit (i + 3) = true)) := by
    intro own other x y h
    rw [dd_inc_iff (by omega)]
    constructor
    · intro H i hi b
      have := H i (by omega) b
      rw [Nat.testBit_or, cm_div8, Bool.or_eq_true] at this
      exact this
    · intro H t ht b
      by_cases c : t < 3
      · rw [Nat.testBit_or, cm_div8, Bool.or_eq_true]
        exact H t c b
      · rw [b6 own h t (by omega)] at b
        exact absurd b (by decide)
  rw [cm_fit, Bool.and_eq_true, key R C _ _ hR, key C R _ _ hC]
  constructor
  · rintro ⟨h1, h2⟩
    refine ⟨(dd_fin_cor hR hC C0 _).mpr ⟨e, he, rfl⟩, (dd_fin_cor hC hR R0 _).mpr ⟨f, hf, rfl⟩, fun i hi p => ?_, fun j hj p => ?_⟩
    · have bi : R.testBit i = true := by
        cases hw : R.testBit i with
        | true => rfl
        | false =>
          have z := xe.1.1 i hi hw
          rw [← cm_cp_g A0 hi] at z
          have p : 0 < cm_cp (dd_tr e.1) i := p
          omega
      rcases h1 i hi bi with h | h
      · exact absurd p ((cm_bit3 hR hC C0 he hi bi).mp h)
      · exact (cm_bit6 hC hR R0 hf hi bi).mp h
    · have bj : C.testBit j = true := by
        cases hw : C.testBit j with
        | true => rfl
        | false =>
          have z := xf.1.1 j hj hw
          rw [← cm_cp_g A1 hj] at z
          have p : 0 < cm_cp (dd_tr f.1) j := p
          omega
      rcases h2 j hj bj with h | h
      · exact absurd p ((cm_bit3 hC hR R0 hf hj bj).mp h)
      · exact (cm_bit6 hR hC C0 he hj bj).mp h
  · rintro ⟨_, _, h1, h2⟩
    refine ⟨fun i hi bi => ?_, fun j hj bj => ?_⟩
    · by_cases p : 0 < cm_cp (dd_tr e.1) i
      · exact Or.inr ((cm_bit6 hC hR R0 hf hi bi).mpr (h1 i hi p))
      · exact Or.inl ((cm_bit3 hR hC C0 he hi bi).mpr p)
    · by_cases p : 0 < cm_cp (dd_tr f.1) j
      · exact Or.inr ((cm_bit6 hR hC C0 he hj bj).mpr (h2 j hj p))
      · exact Or.inl ((cm_bit3 hC hR R0 hf hj bj).mpr p)
end
section
/-! the component's list of equilibria -/
def xs_vec (E0 E1 : List (dd_R × Nat)) (z : Nat × Nat) : cm_T × cm_T := (dd_tr (dd_at E0 z.1).1, dd_tr (dd_at E1 z.2).1)
theorem ar_cmp {a b sa sb : Int} (a1 : 0 ≤ a) (a2 : a ≤ 648) (b1 : 0 ≤ b) (b2 : b ≤ 648) (s1 : 0 ≤ sa) (s2 : sa ≤ 1944) (t1 : 0 ≤ sb) (t2 : sb ≤ 1944) : -1259712 ≤ od_c a b sa sb ∧ od_c a b sa sb ≤ 1259712 := by
  have h1 := Int.mul_nonneg a1 t1
  have h2 := Int.mul_nonneg b1 s1
  have h3 : a * sb ≤ 648 * sb := Int.mul_le_mul_of_nonneg_right a2 t1
  have h4 : b * sa ≤ 648 * sa := Int.mul_le_mul_of_nonneg_right b2 s1
  simp only [od_c]
  omega
theorem dd_Bd_sm {q : dd_R} (h : dd_Bd q) : 0 ≤ dd_sm q ∧ dd_sm q ≤ 1944 := by
  obtain ⟨b0, b1, b2, _⟩ := h
  simp only [dd_sm]; omega
theorem dd_Bd_c3 {q : dd_R} (h : dd_Bd q) {i : Nat} (hi : i < 3) : 0 ≤ dd_c q i ∧ dd_c q i ≤ 648 := by
  obtain ⟨b0, b1, b2, _⟩ := h
  match i, hi with
  | 0, _ => exact b0
  | 1, _ => exact b1
  | 2, _ => exact b2
section
variable {rw cl mc ws os ld lc : Int32} {ft fb : Int64} {pa ec : Nat → Int32} {ed : Nat → Int64} {ti : Nat → Int32} {ma : Nat → Int64} {mt : Nat → Int32} {sl : Nat → Int64} {ls lx ly : Nat → Int32}
theorem xs_cmp_s {post : Int32 → Prop} {e f i n : Nat} {p q : dd_R} (he : e < 48) (hf : f < 48) (hi : i < 3) (hp : ∀ i, i < 4 → ed (4 * e + i) = zl_n (dd_c p i)) (hq : ∀ i, i < 4 → ed (4 * f + i) = zl_n (dd_c q i)) (Bp : dd_Bd p) (Bq : dd_Bd q)
    (h0 : od_c (dd_c p i) (dd_c q i) (dd_sm p) (dd_sm q) = 0 → wX_compare_16 post (nI e) (nI f) (zl_n (dd_sm p)) (zl_n (dd_sm q)) rw cl mc ws os ld lc ft fb pa ec ed ti ma mt sl ls lx ly n (nI (i + 1)))
    (hn : od_c (dd_c p i) (dd_c q i) (dd_sm p) (dd_sm q) < 0 → post (-1)) (hg : 0 < od_c (dd_c p i) (dd_c q i) (dd_sm p) (dd_sm q) → post 1) :
    wX_compare_16 post (nI e) (nI f) (zl_n (dd_sm p)) (zl_n (dd_sm q)) rw cl mc ws os ld lc ft fb pa ec ed ti ma mt sl ls lx ly (n + 1) (nI i) := by
  have ie : (4 * nI e) + nI i = nI (4 * e + i) := xi_4 e i
  have jf : (4 * nI f) + nI i = nI (4 * f + i) := xi_4 f i
  have b := ar_cmp (dd_Bd_c3 Bp hi).1 (dd_Bd_c3 Bp hi).2 (dd_Bd_c3 Bq hi).1 (dd_Bd_c3 Bq hi).2 (dd_Bd_sm Bp).1 (dd_Bd_sm Bp).2 (dd_Bd_sm Bq).1 (dd_Bd_sm Bq).2
  have z0 : (0 : Int64) = zl_n 0 := rfl
  refine br_f (nI_ge (b := 3) (by omega) (by decide)) ⟨pk_in _ 192 (by omega) ie, pk_in _ 192 (by omega) jf, fun y ey => ?_⟩
  rw [ie, jf, nI_clamp (by omega), nI_clamp (by omega), hp i (by omega), hq i (by omega), zl_mul, zl_mul, zl_sub] at ey
  have ey : y = zl_n (od_c (dd_c p i) (dd_c q i) (dd_sm p) (dd_sm q)) := ey
  rw [ey]
  by_cases c : od_c (dd_c p i) (dd_c q i) (dd_sm p) (dd_sm q) = 0
  · refine br_t (by rw [c]; rfl) fun y ey => ?_
    rw [ey, nI_1]
    exact h0 c
  · refine br_f (by rw [z0]; exact fun h => c ((zl_eq (by omega) (by omega) (by decide) (by decide)).mp h)) ?_
    by_cases c2 : 0 ≤ od_c (dd_c p i) (dd_c q i) (dd_sm p) (dd_sm q)
    · exact br_t (by rw [z0]; exact (zl_le (by decide) (by decide) (by omega) (by omega)).mpr c2) (hg (by omega))
    · exact br_f (by rw [z0]; exact fun h => c2 ((zl_le (by decide) (by decide) (by omega) (by omega)).mp h)) (hn (by omega))
theorem xs_compare {post : Int32 → Prop} {e f : Nat} {p q : dd_R} (he : e < 48) (hf : f < 48) (hp : ∀ i, i < 4 → ed (4 * e + i) = zl_n (dd_c p i)) (hq : ∀ i, i < 4 → ed (4 * f + i) = zl_n (dd_c q i)) (Bp : dd_Bd p) (Bq : dd_Bd q)
    (okp : od_ok (dd_tr p)) (okq : od_ok (dd_tr q)) (hlt : od_lt (dd_tr p) (dd_tr q) → post (-1)) (heq : dd_tr p = dd_tr q → post 0) (hgt : od_lt (dd_tr q) (dd_tr p) → post 1) : wpX_compare post (rw, cl, mc, ws, os, ld, lc, ft, fb, pa, ec, ed, ti, ma, mt, sl, ls, lx, ly) (nI e) (nI f) := by
  unfold wpX_compare
  refine xs_sumOf he hp (xs_sumOf hf hq ⟨4, ?_⟩)
  have n0 := od_c_neg (dd_c p 0) (dd_c q 0) (dd_sm p) (dd_sm q)
  have n1 := od_c_neg (dd_c p 1) (dd_c q 1) (dd_sm p) (dd_sm q)
  have n2 := od_c_neg (dd_c p 2) (dd_c q 2) (dd_sm p) (dd_sm q)
  refine xs_cmp_s (n := 3) (i := 0) he hf (by decide) hp hq Bp Bq (fun e0 => ?_) (fun h => hlt (Or.inl h)) (fun h => hgt (Or.inl (show od_c (dd_c q 0) (dd_c p 0) (dd_sm q) (dd_sm p) < 0 by omega)))
  refine xs_cmp_s (n := 2) (i := 1) he hf (by decide) hp hq Bp Bq (fun e1 => ?_) (fun h => hlt (Or.inr ⟨e0, Or.inl h⟩)) (fun h => hgt (Or.inr ⟨show od_c (dd_c q 0) (dd_c p 0) (dd_sm q) (dd_sm p) = 0 by omega, Or.inl (show od_c (dd_c q 1) (dd_c p 1) (dd_sm q) (dd_sm p) < 0 by omega)⟩))
  refine xs_cmp_s (n := 1) (i := 2) he hf (by decide) hp hq Bp Bq (fun e2 => ?_) (fun h => hlt (Or.inr ⟨e0, Or.inr ⟨e1, h⟩⟩)) (fun h => hgt (Or.inr ⟨show od_c (dd_c q 0) (dd_c p 0) (dd_sm q) (dd_sm p) = 0 by omega, Or.inr ⟨show od_c (dd_c q 1) (dd_c p 1) (dd_sm q) (dd_sm p) = 0 by omega, show od_c (dd_c q 2) (dd_c p 2) (dd_sm q) (dd_sm p) < 0 by omega⟩⟩))
  exact br_t (show (3 : Int32) ≤ nI 3 by decide) (heq (od_eq0 okp okq e0 e1 e2))
def xs_OK (E : List (dd_R × Nat)) : Prop := E.length ≤ 8 ∧ (∀ j, j < E.length → dd_Bd (dd_at E j).1 ∧ od_ok (dd_tr (dd_at E j).1)) ∧ (E.map (fun e => dd_tr e.1)).Nodup
theorem xs_isBefore {post : Int32 → Prop} {E0 E1 : List (dd_R × Nat)} {k l a b t : Nat} (ok0 : xs_OK E0) (ok1 : xs_OK E1) (H0 : xs_HE ed ti 0 E0) (H1 : xs_HE ed ti 24 E1) (hk : k < E0.length) (hl : l < E1.length) (ha : a < E0.length) (hb : b < E1.length) (ht : t < 64) (hx : lx t = nI a) (hy : ly t = nI b)
    (h1 : od_lt2 (xs_vec E0 E1 (k, l)) (xs_vec E0 E1 (a, b)) → post 1) (h0 : ¬ od_lt2 (xs_vec E0 E1 (k, l)) (xs_vec E0 E1 (a, b)) → post 0) : wpX_isBefore post (rw, cl, mc, ws, os, ld, lc, ft, fb, pa, ec, ed, ti, ma, mt, sl, ls, lx, ly) (nI k) (nI l) (nI t) := by
  have l0 := ok0.1
  have l1 := ok1.1
  have g0 : ∀ j, j < E0.length → ∀ i, i < 4 → ed (4 * j + i) = zl_n (dd_c (dd_at E0 j).1 i) := fun j hj i hi => by
    have := (H0 j hj).1 i hi
    rw [Nat.zero_add] at this
    exact this
  refine ⟨pk_in _ 64 ht, ?_⟩
  rw [nI_clamp (by omega), hx, hy]
  refine xs_compare (by omega) (by omega) (g0 k hk) (g0 a ha) (ok0.2.1 k hk).1 (ok0.2.1 a ha).1 (ok0.2.1 k hk).2 (ok0.2.1 a ha).2 (fun h => ?_) (fun h => ?_) (fun h => ?_)
  · exact br_f (by decide) (br_f (by decide) (h1 (Or.inl h)))
  · refine br_t rfl ⟨pk_in _ 64 ht, ?_⟩
    rw [xi_24p, xi_24p]
    refine xs_compare (by omega) (by omega) (H1 l hl).1 (H1 b hb).1 (ok1.2.1 l hl).1 (ok1.2.1 b hb).1 (ok1.2.1 l hl).2 (ok1.2.1 b hb).2 (fun h' => ?_) (fun h' => ?_) (fun h' => ?_)
    · exact br_f (by decide) (h1 (Or.inr ⟨h, h'⟩))
    · refine br_t (by decide) (h0 ?_)
      rintro (g | ⟨_, g⟩)
      · have g : od_lt (dd_tr (dd_at E0 k).1) (dd_tr (dd_at E0 a).1) := g
        rw [h] at g; exact od_irr _ g
      · have g : od_lt (dd_tr (dd_at E1 l).1) (dd_tr (dd_at E1 b).1) := g
        rw [h'] at g; exact od_irr _ g
    · refine br_t (by decide) (h0 ?_)
      rintro (g | ⟨_, g⟩)
      · have g : od_lt (dd_tr (dd_at E0 k).1) (dd_tr (dd_at E0 a).1) := g
        rw [h] at g; exact od_irr _ g
      · exact od_asymm g h'
  · refine br_f (by decide) (br_t (by decide) (h0 ?_))
    rintro (g | ⟨g, _⟩)
    · exact od_asymm g h
    · have g : dd_tr (dd_at E0 k).1 = dd_tr (dd_at E0 a).1 := g
      rw [g] at h; exact od_irr _ h
def xs_HI (lx ly : Nat → Int32) (I : List (Nat × Nat)) : Prop := ∀ j, j < I.length → lx j = nI (I.getD j (0, 0)).1 ∧ ly j = nI (I.getD j (0, 0)).2
theorem xs_ins55 {post : SX → Prop} {k l a : Nat} {I : List (Nat × Nat)} (hI : I.length < 64) (hk : k < 24) (hl : l < 24) (ha : a ≤ I.length) {lx0 ly0 : Nat → Int32}
    (h1 : ∀ j, j < a → lx0 j = nI (I.getD j (0, 0)).1 ∧ ly0 j = nI (I.getD j (0, 0)).2) (h2 : ∀ j, a ≤ j → j < I.length → lx0 (j + 1) = nI (I.getD j (0, 0)).1 ∧ ly0 (j + 1) = nI (I.getD j (0, 0)).2)
    (K : ∀ lx' ly', xs_HI lx' ly' (so_ins I a (k, l)) → post (rw, cl, mc, ws, os, ld, nI (I.length + 1), ft, fb, pa, ec, ed, ti, ma, mt, sl, ls, lx', ly')) : wX_insert_55 post (nI k) (nI l) (nI a) rw cl mc ws os ld (nI I.length) ft fb pa ec ed ti ma mt sl ls lx0 ly0 := by
  refine ⟨pk_in a 64 (by omega), fun p ep => ⟨pk_in a 64 (by omega), fun q eq y ey => ?_⟩⟩
  rw [ey, nI_1]
  rw [nI_clamp (by omega), nI_nar2 (by omega)] at ep eq
  refine K p q (fun j hj => ?_)
  rw [so_ins_len I ha] at hj
  rw [so_ins_getD I ha, ep, eq]
  by_cases c : j < a
  · rw [if_pos c, pk_un (by omega), pk_un (by omega)]; exact h1 j c
  · rw [if_neg c]
    by_cases c2 : j = a
    · rw [if_pos c2, c2, pk_us, pk_us]; exact ⟨rfl, rfl⟩
    · rw [if_neg c2, pk_un c2, pk_un c2]
      have := h2 (j - 1) (by omega) (by omega)
      rw [show j - 1 + 1 = j by omega] at this
      exact this
theorem xs_ins_lp {post : SX → Prop} {E0 E1 : List (dd_R × Nat)} {k l : Nat} {I : List (Nat × Nat)} (ok0 : xs_OK E0) (ok1 : xs_OK E1) (H0 : xs_HE ed ti 0 E0) (H1 : xs_HE ed ti 24 E1) (hk : k < E0.length) (hl : l < E1.length) (hI : I.length < 64) (hin : ∀ z, z ∈ I → z.1 < E0.length ∧ z.2 < E1.length)
    (K : ∀ a lx' ly', a ≤ I.length → (∀ j, a ≤ j → j < I.length → od_lt2 (xs_vec E0 E1 (k, l)) (xs_vec E0 E1 (I.getD j (0, 0)))) → (0 < a → ¬ od_lt2 (xs_vec E0 E1 (k, l)) (xs_vec E0 E1 (I.getD (a - 1) (0, 0)))) → xs_HI lx' ly' (so_ins I a (k, l)) → post (rw, cl, mc, ws, os, ld, nI (I.length + 1), ft, fb, pa, ec, ed, ti, ma, mt, sl, ls, lx', ly')) :
    ∀ (a n : Nat) (lx0 ly0 : Nat → Int32), a ≤ I.length → a < n → (∀ j, j < a → lx0 j = nI (I.getD j (0, 0)).1 ∧ ly0 j = nI (I.getD j (0, 0)).2) → (∀ j, a ≤ j → j < I.length → lx0 (j + 1) = nI (I.getD j (0, 0)).1 ∧ ly0 (j + 1) = nI (I.getD j (0, 0)).2) → (∀ j, a ≤ j → j < I.length → od_lt2 (xs_vec E0 E1 (k, l)) (xs_vec E0 E1 (I.getD j (0, 0)))) →
      wX_insert_5 post (nI k) (nI l) rw cl mc ws os ld (nI I.length) ft fb n (nI a) pa ec ed ti ma mt sl ls lx0 ly0 := by
  have l0 := ok0.1
  have l1 := ok1.1
  intro a
  induction a with
  | zero =>
    intro n lx0 ly0 ha hn h1 h2 h3
    obtain ⟨n, rfl⟩ : ∃ m, n = m + 1 := ⟨n - 1, by omega⟩
    exact br_t (show nI 0 ≤ 0 by decide) (xs_ins55 hI (by omega) (by omega) ha h1 h2 (fun lx' ly' h => K 0 lx' ly' ha h3 (fun h => by omega) h))
  | succ a ih =>
    intro n lx0 ly0 ha hn h1 h2 h3
    obtain ⟨n, rfl⟩ : ∃ m, n = m + 1 := ⟨n - 1, by omega⟩
    have em : nI (a + 1) - 1 = nI a := nI_pred a
    have hz := hin _ (so_getD_mem (d := (0, 0)) (show a < I.length by omega))
    refine br_f (nI_nle (by omega) (by omega)) ?_
    rw [em]
    refine xs_isBefore ok0 ok1 H0 H1 hk hl hz.1 hz.2 (by omega) (h1 a (by omega)).1 (h1 a (by omega)).2 (fun h => ?_) (fun h => ?_)
    · refine br_f (by decide) ⟨pk_in _ 64 (show a < 64 by omega), pk_in _ 64 (show a + 1 < 64 by omega), fun p ep => ⟨pk_in a 64 (by omega), pk_in (a + 1) 64 (by omega), fun q eq y ey => ?_⟩⟩
      rw [ey, pk_m1]
      rw [nI_clamp (by omega), nI_clamp (by omega), (h1 a (by omega)).1, nI_nar (by omega)] at ep
      rw [nI_clamp (by omega), nI_clamp (by omega), (h1 a (by omega)).2, nI_nar (by omega)] at eq
      refine ih n p q (by omega) (by omega) (fun j hj => ?_) (fun j hj hj' => ?_) (fun j hj hj' => ?_)
      · rw [ep, eq, pk_un (by omega), pk_un (by omega)]; exact h1 j (by omega)
      · rw [ep, eq]
        by_cases c : j = a
        · rw [c, pk_us, pk_us]; exact ⟨rfl, rfl⟩
        · rw [pk_un (by omega), pk_un (by omega)]; exact h2 j (by omega) hj'
      · by_cases c : j = a
        · rw [c]; exact h
        · exact h3 j (by omega) hj'
    · exact br_t rfl (xs_ins55 hI (by omega) (by omega) ha h1 h2 (fun lx' ly' h' => K (a + 1) lx' ly' ha h3 (fun _ => h) h'))
theorem xs_insert {post : SX → Prop} {E0 E1 : List (dd_R × Nat)} {k l : Nat} {I : List (Nat × Nat)} (ok0 : xs_OK E0) (ok1 : xs_OK E1) (H0 : xs_HE ed ti 0 E0) (H1 : xs_HE ed ti 24 E1) (hk : k < E0.length) (hl : l < E1.length) (hI : I.length < 64) (hin : ∀ z, z ∈ I → z.1 < E0.length ∧ z.2 < E1.length) (HI : xs_HI lx ly I)
    (K : ∀ a lx' ly', a ≤ I.length → (∀ j, a ≤ j → j < I.length → od_lt2 (xs_vec E0 E1 (k, l)) (xs_vec E0 E1 (I.getD j (0, 0)))) → (0 < a → ¬ od_lt2 (xs_vec E0 E1 (k, l)) (xs_vec E0 E1 (I.getD (a - 1) (0, 0)))) → xs_HI lx' ly' (so_ins I a (k, l)) → post (rw, cl, mc, ws, os, ld, nI (I.length + 1), ft, fb, pa, ec, ed, ti, ma, mt, sl, ls, lx', ly')) :
    wpX_insert post (rw, cl, mc, ws, os, ld, nI I.length, ft, fb, pa, ec, ed, ti, ma, mt, sl, ls, lx, ly) (nI k) (nI l) :=
  ⟨I.length + 1, xs_ins_lp ok0 ok1 H0 H1 hk hl hI hin K I.length _ lx ly (Nat.le_refl _) (by omega) HI (fun j h1 h2 => by omega) (fun j h1 h2 => by omega)⟩
theorem xs_fit {post : Int32 → Prop} {x y R C : Nat} (hx : x < 64) (hy : y < 64) (hR : R < 8) (hC : C < 8) (h1 : cm_fit x y R C = true → post 1) (h0 : cm_fit x y R C = false → post 0) : wpX_fit post (rw, cl, mc, ws, os, ld, lc, ft, fb, pa, ec, ed, ti, ma, mt, sl, ls, lx, ly) (nI x) (nI y) (nI R) (nI C) := by
  have sh : ∀ z, z < 64 → nI z >>> ((3 : Int32) &&& 31) = nI (z / 8) := fun z hz => pk_shrN (by omega) _ 3 (by decide)
  have e1 : (nI x ||| (nI y >>> ((3 : Int32) &&& 31))) &&& nI R = nI ((x ||| y / 8) &&& R) := by rw [sh y hy, xi_or, xi_and]
  have e2 : (nI y ||| (nI x >>> ((3 : Int32) &&& 31))) &&& nI C = nI ((y ||| x / 8) &&& C) := by rw [sh x hx, xi_or, xi_and]
  have q1 : (x ||| y / 8) &&& R ≤ R := Nat.and_le_right
  have q2 : (y ||| x / 8) &&& C ≤ C := Nat.and_le_right
  by_cases c1 : (x ||| y / 8) &&& R = R
  · refine br_t (by rw [e1, c1]) (br_f (by decide) ?_)
    by_cases c2 : (y ||| x / 8) &&& C = C
    · refine br_t (by rw [e2, c2]) (h1 ?_)
      rw [cm_fit, dd_inc, dd_inc, c1, c2, beq_self_eq_true, beq_self_eq_true]; rfl
    · refine br_f (by rw [e2]; exact fun h => c2 ((nI_eq (by omega) (by omega)).mp h)) (h0 ?_)
      have : dd_inc (y ||| x / 8) C = false := by rw [dd_inc]; simpa using c2
      rw [cm_fit, this, Bool.and_false]
  · refine br_f (by rw [e1]; exact fun h => c1 ((nI_eq (by omega) (by omega)).mp h)) (br_t rfl (h0 ?_))
    have : dd_inc (x ||| y / 8) R = false := by rw [dd_inc]; simpa using c1
    rw [cm_fit, this, Bool.false_and]
/-- the pairs that were seen and fit, in order -/
def xs_LI (E0 E1 : List (dd_R × Nat)) (R C k l : Nat) (I : List (Nat × Nat)) : Prop :=
  (∀ z, z ∈ I ↔ (z.1 < E0.length ∧ z.2 < E1.length ∧ cm_fit (dd_at E0 z.1).2 (dd_at E1 z.2).2 R C = true) ∧ (z.1 < k ∨ (z.1 = k ∧ z.2 < l))) ∧ I.Pairwise (fun z w => od_lt2 (xs_vec E0 E1 z) (xs_vec E0 E1 w))
def xs_prod (a b : Nat) : List (Nat × Nat) := (List.range a).flatMap (fun k => (List.range b).map (fun l => (k, l)))
theorem xs_prod_len (b : Nat) : ∀ a, (xs_prod a b).length = a * b := by
  intro a
  induction a with
  | zero => simp [xs_prod]
  | succ a ih =>
    rw [xs_prod, List.range_succ, List.flatMap_append, List.length_append, ← xs_prod, ih]
    simp [Nat.succ_mul]
theorem xs_LI_len {E0 E1 : List (dd_R × Nat)} {R C k l : Nat} {I : List (Nat × Nat)} (h0 : E0.length ≤ 8) (h1 : E1.length ≤ 8) (h : xs_LI E0 E1 R C k l I) : I.length ≤ 64 := by
  have nd : I.Nodup := h.2.imp (fun r e => by rw [e] at r; exact od_asymm2 _ _ r r)
  have sub : I ⊆ xs_prod 8 8 := by
    intro z hz
    have := ((h.1 z).mp hz).1
    refine List.mem_flatMap.mpr ⟨z.1, List.mem_range.mpr (by omega), List.mem_map.mpr ⟨z.2, List.mem_range.mpr (by omega), rfl⟩⟩
  have := List.Nodup.length_le_of_subset nd sub
  rw [xs_prod_len] at this
  exact this
theorem xs_at_map (E : List (dd_R × Nat)) {j : Nat} (hj : j < E.length) : (E.map (fun e => dd_tr e.1))[j]'(by rw [List.length_map]; exact hj) = dd_tr (dd_at E j).1 := by
  rw [List.getElem_map, dd_at, List.getD_eq_getElem?_getD, List.getElem?_eq_getElem hj]; rfl
theorem xs_tr_inj {E : List (dd_R × Nat)} (hn : (E.map (fun e => dd_tr e.1)).Nodup) {j k : Nat} (hj : j < E.length) (hk : k < E.length) (e : dd_tr (dd_at E j).1 = dd_tr (dd_at E k).1) : j = k := by
  rw [← xs_at_map E hj, ← xs_at_map E hk] at e
  exact (List.getElem_inj hn).mp e
theorem xs_LI_ins {E0 E1 : List (dd_R × Nat)} {R C k l a : Nat} {I : List (Nat × Nat)} (ok0 : xs_OK E0) (ok1 : xs_OK E1) (hk : k < E0.length) (hl : l < E1.length) (hf : cm_fit (dd_at E0 k).2 (dd_at E1 l).2 R C = true) (h : xs_LI E0 E1 R C k l I) (ha : a ≤ I.length)
    (h1 : ∀ j, a ≤ j → j < I.length → od_lt2 (xs_vec E0 E1 (k, l)) (xs_vec E0 E1 (I.getD j (0, 0)))) (h2 : 0 < a → ¬ od_lt2 (xs_vec E0 E1 (k, l)) (xs_vec E0 E1 (I.getD (a - 1) (0, 0)))) : xs_LI E0 E1 R C k (l + 1) (so_ins I a (k, l)) := by
  refine ⟨fun z => ?_, ?_⟩
  · rw [so_ins_mem, h.1 z]
    constructor
    · rintro (⟨p, q⟩ | rfl)
      · exact ⟨p, by omega⟩
      · exact ⟨⟨hk, hl, hf⟩, Or.inr ⟨rfl, Nat.lt_succ_self _⟩⟩
    · rintro ⟨p, q⟩
      by_cases c : z.1 = k ∧ z.2 = l
      · exact Or.inr (Prod.ext c.1 c.2)
      · exact Or.inl ⟨p, by omega⟩
  · have okz : ∀ z : Nat × Nat, z.1 < E0.length → z.2 < E1.length → od_ok (xs_vec E0 E1 z).1 ∧ od_ok (xs_vec E0 E1 z).2 := fun z p q => ⟨(ok0.2.1 _ p).2, (ok1.2.1 _ q).2⟩
    have okI : ∀ z, z ∈ I → od_ok (xs_vec E0 E1 z).1 ∧ od_ok (xs_vec E0 E1 z).2 := fun z hz => okz z ((h.1 z).mp hz).1.1 ((h.1 z).mp hz).1.2.1
    have okn := okz (k, l) hk hl
    refine so_place (d := (0, 0)) h.2 (fun y z hy hz r1 r2 => ?_) (fun y hy => ?_) ha h1 h2
    · exact od_trans2 (okI y hy).1.1 (okI z hz).1.1 okn.1.1 (okI y hy).2.1 (okI z hz).2.1 okn.2.1 r1 r2
    · rcases od_tri2 okn.1 (okI y hy).1 okn.2 (okI y hy).2 with g | g | g
      · exact Or.inl g
      · exfalso
        have m := (h.1 y).mp hy
        have e1 := xs_tr_inj ok0.2.2 hk m.1.1 (congrArg (fun x : cm_T × cm_T => x.1) g)
        have e2 := xs_tr_inj ok1.2.2 hl m.1.2.1 (congrArg (fun x : cm_T × cm_T => x.2) g)
        omega
      · exact Or.inr g
theorem xs_LI_skip {E0 E1 : List (dd_R × Nat)} {R C k l : Nat} {I : List (Nat × Nat)} (hf : cm_fit (dd_at E0 k).2 (dd_at E1 l).2 R C = false) (h : xs_LI E0 E1 R C k l I) : xs_LI E0 E1 R C k (l + 1) I := by
  refine ⟨fun z => ?_, h.2⟩
  rw [h.1 z]
  constructor
  · rintro ⟨p, q⟩; exact ⟨p, by omega⟩
  · rintro ⟨p, q⟩
    refine ⟨p, ?_⟩
    by_cases c : z.1 = k ∧ z.2 = l
    · have := p.2.2
      rw [c.1, c.2, hf] at this
      exact absurd this (by decide)
    · omega
theorem xs_LI_row {E0 E1 : List (dd_R × Nat)} {R C k : Nat} {I : List (Nat × Nat)} (h : xs_LI E0 E1 R C k E1.length I) : xs_LI E0 E1 R C (k + 1) 0 I := by
  refine ⟨fun z => ?_, h.2⟩
  rw [h.1 z]
  constructor
  · rintro ⟨p, q⟩; exact ⟨p, by omega⟩
  · rintro ⟨p, q⟩; exact ⟨p, by omega⟩
theorem xs_l77 {post : SX → Prop} {J64 : Int32 → Int32 → Int32 → Int32 → Int32 → Int32 → Int32 → Int32 → Int64 → Int64 → (Nat → Int32) → (Nat → Int32) → (Nat → Int64) → (Nat → Int32) → (Nat → Int64) → (Nat → Int32) → (Nat → Int64) → (Nat → Int32) → (Nat → Int32) → (Nat → Int32) → Prop}
    {E0 E1 : List (dd_R × Nat)} {R C k : Nat} (hR : R < 8) (hC : C < 8) (ok0 : xs_OK E0) (ok1 : xs_OK E1) (H0 : xs_HE ed ti 0 E0) (H1 : xs_HE ed ti 24 E1) (m0 : ∀ j, j < E0.length → (dd_at E0 j).2 < 64) (m1 : ∀ j, j < E1.length → (dd_at E1 j).2 < 64) (hk : k < E0.length) (he1 : ec 1 = nI E1.length)
    (K : ∀ I lx' ly', xs_LI E0 E1 R C (k + 1) 0 I → xs_HI lx' ly' I → J64 (nI (k + 1)) rw cl mc ws os ld (nI I.length) ft fb pa ec ed ti ma mt sl ls lx' ly') :
    ∀ (d l n : Nat) (I : List (Nat × Nat)) (lx0 ly0 : Nat → Int32), l + d = E1.length → d < n → xs_LI E0 E1 R C k l I → xs_HI lx0 ly0 I →
      wX_list_77 post J64 (nI R) (nI C) (nI k) n (nI l) rw cl mc ws os ld (nI I.length) ft fb pa ec ed ti ma mt sl ls lx0 ly0 := by
  have l0 := ok0.1
  have l1 := ok1.1
  intro d
  induction d with
  | zero =>
    intro l n I lx0 ly0 hl hn hI HI
    obtain ⟨n, rfl⟩ : ∃ m, n = m + 1 := ⟨n - 1, by omega⟩
    have e : l = E1.length := by omega
    subst e
    refine br_t (by rw [he1]; exact nI_le (Nat.le_refl _) (by omega)) fun y ey => ?_
    rw [ey, nI_1]
    exact K I lx0 ly0 (xs_LI_row hI) HI
  | succ d ih =>
    intro l n I lx0 ly0 hl hn hI HI
    obtain ⟨n, rfl⟩ : ∃ m, n = m + 1 := ⟨n - 1, by omega⟩
    have hl' : l < E1.length := by omega
    refine br_f (by rw [he1]; exact nI_ge (by omega) (by omega)) ⟨pk_in k 48 (by omega), pk_in _ 48 (show 24 + l < 48 by omega) (xi_24p l), ?_⟩
    have t0 := (H0 k hk).2
    rw [Nat.zero_add] at t0
    rw [xi_24p, nI_clamp (by omega), nI_clamp (by omega), t0, (H1 l hl').2]
    refine xs_fit (m0 k hk) (m1 l hl') hR hC (fun hf => ?_) (fun hf => ?_)
    · refine br_f (by decide) ?_
      have hlen : I.length < 64 := by
        have nd : I.Nodup := hI.2.imp (fun r e => by rw [e] at r; exact od_asymm2 _ _ r r)
        have nm : (k, l) ∉ I := fun h => by
          have h := ((hI.1 _).mp h).2
          have h : k < k ∨ (k = k ∧ l < l) := h
          omega
        have nd' : ((k, l) :: I).Nodup := List.nodup_cons.mpr ⟨nm, nd⟩
        have sub : ((k, l) :: I) ⊆ xs_prod 8 8 := by
          intro z hz
          have hz' : z.1 < 8 ∧ z.2 < 8 := by
            rcases List.mem_cons.mp hz with rfl | hz
            · exact ⟨by show k < 8; omega, by show l < 8; omega⟩
            · have := ((hI.1 z).mp hz).1
              exact ⟨by omega, by omega⟩
          exact List.mem_flatMap.mpr ⟨z.1, List.mem_range.mpr hz'.1, List.mem_map.mpr ⟨z.2, List.mem_range.mpr hz'.2, rfl⟩⟩
        have := List.Nodup.length_le_of_subset nd' sub
        rw [xs_prod_len, List.length_cons] at this
        omega
      refine xs_insert ok0 ok1 H0 H1 hk hl' hlen (fun z hz => ⟨((hI.1 z).mp hz).1.1, ((hI.1 z).mp hz).1.2.1⟩) HI fun a lx' ly' ha h1 h2 h3 y ey => ?_
      rw [ey, nI_1]
      have hI' := xs_LI_ins ok0 ok1 hk hl' hf hI ha h1 h2
      have el := so_ins_len I ha (k, l)
      rw [← el]
      exact ih (l + 1) n _ lx' ly' (by omega) (by omega) hI' h3
    · refine br_t rfl fun y ey => ?_
      rw [ey, nI_1]
      exact ih (l + 1) n I lx0 ly0 (by omega) (by omega) (xs_LI_skip hf hI) HI
theorem xs_l64 {post : SX → Prop} {E0 E1 : List (dd_R × Nat)} {R C : Nat} (hR : R < 8) (hC : C < 8) (ok0 : xs_OK E0) (ok1 : xs_OK E1) (H0 : xs_HE ed ti 0 E0) (H1 : xs_HE ed ti 24 E1) (m0 : ∀ j, j < E0.length → (dd_at E0 j).2 < 64) (m1 : ∀ j, j < E1.length → (dd_at E1 j).2 < 64) (he0 : ec 0 = nI E0.length) (he1 : ec 1 = nI E1.length)
    (K : ∀ I lx' ly', xs_LI E0 E1 R C E0.length 0 I → xs_HI lx' ly' I → post (rw, cl, mc, ws, os, ld, nI I.length, ft, fb, pa, ec, ed, ti, ma, mt, sl, ls, lx', ly')) :
    ∀ (d k n : Nat) (I : List (Nat × Nat)) (lx0 ly0 : Nat → Int32), k + d = E0.length → d < n → xs_LI E0 E1 R C k 0 I → xs_HI lx0 ly0 I →
      wX_list_64 post (nI R) (nI C) n (nI k) rw cl mc ws os ld (nI I.length) ft fb pa ec ed ti ma mt sl ls lx0 ly0 := by
  have l0 := ok0.1
  have l1 := ok1.1
  intro d
  induction d with
  | zero =>
    intro k n I lx0 ly0 hk hn hI HI
    obtain ⟨n, rfl⟩ : ∃ m, n = m + 1 := ⟨n - 1, by omega⟩
    have e : k = E0.length := by omega
    subst e
    exact br_t (by rw [he0]; exact nI_le (Nat.le_refl _) (by omega)) (K I lx0 ly0 hI HI)
  | succ d ih =>
    intro k n I lx0 ly0 hk hn hI HI
    obtain ⟨n, rfl⟩ : ∃ m, n = m + 1 := ⟨n - 1, by omega⟩
    refine br_f (by rw [he0]; exact nI_ge (by omega) (by omega)) ⟨E1.length + 1, ?_⟩
    exact xs_l77 (J64 := wX_list_64 post (nI R) (nI C) n) hR hC ok0 ok1 H0 H1 m0 m1 (by omega) he1 (fun I' lx' ly' h1 h2 => ih (k + 1) n I' lx' ly' (by omega) (by omega) h1 h2) E1.length 0 _ I lx0 ly0 (by omega) (by omega) hI HI
end
/-! what a listed state holds -/
def xs_Lst (ed : Nat → Int64) (lx ly : Nat → Int32) (lc : Int32) (V : List (cm_T × cm_T)) : Prop :=
  lc = nI V.length ∧ V.length ≤ 64 ∧ ∀ k, k < V.length → ∃ a b, a < 24 ∧ b < 24 ∧ lx k = nI a ∧ ly k = nI b ∧ (∃ q : dd_R, dd_Bd q ∧ dd_tr q = (V.getD k ((0, 0, 0), (0, 0, 0))).1 ∧ ∀ i, i < 4 → ed (4 * a + i) = zl_n (dd_c q i)) ∧ (∃ q : dd_R, dd_Bd q ∧ dd_tr q = (V.getD k ((0, 0, 0), (0, 0, 0))).2 ∧ ∀ i, i < 4 → ed (4 * (24 + b) + i) = zl_n (dd_c q i))
theorem xs_fin_OK {A : Nat → Nat → Int} {own other : Nat} (hA : cm_Rng A) (ho : own < 8) (h8 : other < 8) (h0 : 0 < other) : xs_OK (dd_fin A own other) := by
  have I := dd_all_inv A ho h8 h0
  obtain ⟨l1, l2, l3⟩ := dd_low_spec other h8 h0
  refine ⟨dd_fin_len A ho h8 h0, fun j hj => ?_, dd_fin_nodup ho h8 h0⟩
  have hm := dd_at_mem hj
  exact ⟨dd_bnd hA (Nat.le_refl _) l1 l2 I (dd_fin_mem hm).1, cm_ok ((dd_fin_cor ho h8 h0 _).mpr ⟨_, hm, rfl⟩)⟩
theorem xs_fin_64 {A : Nat → Nat → Int} {own other : Nat} (ho : own < 8) (h8 : other < 8) (h0 : 0 < other) (j : Nat) (hj : j < (dd_fin A own other).length) : (dd_at (dd_fin A own other) j).2 < 64 :=
  ((dd_all_inv A ho h8 h0).2.2.2 _ (dd_fin_mem (dd_at_mem hj)).1).1
theorem xs_can {A0 A1 : Nat → Nat → Int} {R C : Nat} (hR : R < 8) (hC : C < 8) (R0 : 0 < R) (C0 : 0 < C) {I : List (Nat × Nat)} (h : xs_LI (dd_fin A0 R C) (dd_fin A1 C R) R C (dd_fin A0 R C).length 0 I) : cm_Can A0 A1 R C (I.map (xs_vec (dd_fin A0 R C) (dd_fin A1 C R))) := by
  refine ⟨List.pairwise_map.mpr h.2, fun z => ?_⟩
  rw [List.mem_map]
  constructor
  · rintro ⟨w, hw, rfl⟩
    obtain ⟨⟨h1, h2, h3⟩, _⟩ := (h.1 w).mp hw
    exact (cm_fit_iff hR hC R0 C0 (dd_at_mem h1) (dd_at_mem h2)).mp h3
  · intro hz
    obtain ⟨e, he, ex⟩ := (dd_fin_cor hR hC C0 _).mp hz.1
    obtain ⟨f, hf, fx⟩ := (dd_fin_cor hC hR R0 _).mp hz.2.1
    obtain ⟨k, hk, rfl⟩ := dd_at_of he
    obtain ⟨l, hl, rfl⟩ := dd_at_of hf
    have ez : z = (dd_tr (dd_at (dd_fin A0 R C) k).1, dd_tr (dd_at (dd_fin A1 C R) l).1) := Prod.ext ex.symm fx.symm
    refine ⟨(k, l), (h.1 _).mpr ⟨⟨hk, hl, ?_⟩, Or.inl hk⟩, ez.symm⟩
    rw [ez] at hz
    exact (cm_fit_iff hR hC R0 C0 (dd_at_mem hk) (dd_at_mem hl)).mpr hz
theorem xi_msk : ∀ r, r < 4 → ((1 : Int32) <<< (nI r &&& 31)) - 1 = nI (2 ^ r - 1) := by decide +kernel
theorem xi_m8 : ∀ r, r < 4 → 2 ^ r - 1 < 8 := by decide
theorem xi_m0 : ∀ r, r < 4 → 0 < r → 0 < 2 ^ r - 1 := by decide
section
variable {rw cl mc ws os ld lc : Int32} {ft fb : Int64} {pa ec : Nat → Int32} {ed : Nat → Int64} {ti : Nat → Int32} {ma : Nat → Int64} {mt : Nat → Int32} {sl : Nat → Int64} {ls lx ly : Nat → Int32} {P : Nat → Int}
theorem xs_list {post : SX → Prop} {r c : Nat} (hp : pm_ok pa P) (r1 : 0 < r) (r3 : r < 4) (c1 : 0 < c) (c3 : c < 4)
    (K : ∀ mc' ws' os' lc' ec' ed' ti' ma' mt' sl' ls' lx' ly' V, cm_Can (pm_A P 0 false) (pm_A P 1 false) (2 ^ r - 1) (2 ^ c - 1) V → xs_Lst ed' lx' ly' lc' V → post (nI r, nI c, mc', ws', os', 1, lc', ft, fb, pa, ec', ed', ti', ma', mt', sl', ls', lx', ly')) :
    wpX_list post (nI r, nI c, mc, ws, os, 0, lc, ft, fb, pa, ec, ed, ti, ma, mt, sl, ls, lx, ly) := by
  have hR := xi_m8 r r3
  have hC := xi_m8 c c3
  have R0 := xi_m0 r r3 r1
  have C0 := xi_m0 c c3 c1
  refine br_t rfl fun x ex y ey => ?_
  rw [xi_msk r r3] at ex
  rw [xi_msk c c3] at ey
  rw [ex, ey]
  refine xs_setLosses (s := 0) hp false (by decide) fun ls1 hl1 => ?_
  refine xs_makeCone (s := 0) (A := pm_A P 0 false) (by decide) hR hC C0 (pm_rng hp 0 false) hl1 fun mc1 ec1 ed1 ti1 ma1 mt1 sl1 a1 a2 a3 a4 => ?_
  refine xs_setLosses (s := 1) hp false (by decide) fun ls2 hl2 => ?_
  refine xs_makeCone (s := 1) (A := pm_A P 1 false) (by decide) hC hR R0 (pm_rng hp 1 false) hl2 fun mc2 ec2 ed2 ti2 ma2 mt2 sl2 b1 b2 b3 b4 => ?_
  have ok0 := xs_fin_OK (pm_rng hp 0 false) hR hC C0
  have ok1 := xs_fin_OK (pm_rng hp 1 false) hC hR R0
  have l0 := ok0.1
  have l1 := ok1.1
  have H0 : xs_HE ed2 ti2 0 (dd_fin (pm_A P 0 false) (2 ^ r - 1) (2 ^ c - 1)) := by
    intro k hk
    refine ⟨fun i hi => ?_, ?_⟩
    · rw [b4.1 _ (by omega)]; exact (a3 k hk).1 i hi
    · rw [b4.2 _ (by omega)]; exact (a3 k hk).2
  have H1 : xs_HE ed2 ti2 24 (dd_fin (pm_A P 1 false) (2 ^ c - 1) (2 ^ r - 1)) := b3
  have e0 : ec2 0 = nI (dd_fin (pm_A P 0 false) (2 ^ r - 1) (2 ^ c - 1)).length := by rw [b2 0 (by decide)]; exact a1
  refine ⟨_, xs_l64 hR hC ok0 ok1 H0 H1 (xs_fin_64 hR hC C0) (xs_fin_64 hC hR R0) e0 b1 ?_ _ 0 _ [] lx ly (Nat.zero_add _) (Nat.lt_succ_self _) ⟨fun z => ⟨fun h => absurd h List.not_mem_nil, fun h => by omega⟩, List.Pairwise.nil⟩ (fun j hj => by simp at hj)⟩
  intro I lx' ly' hI HI
  have hlen := xs_LI_len l0 l1 hI
  refine K mc2 _ _ _ ec2 ed2 ti2 ma2 mt2 sl2 ls2 lx' ly' _ (xs_can hR hC R0 C0 hI) ⟨by rw [List.length_map], by rw [List.length_map]; exact hlen, fun k hk => ?_⟩
  rw [List.length_map] at hk
  have hz := ((hI.1 _).mp (so_getD_mem (d := (0, 0)) hk)).1
  have ev : (I.map (xs_vec (dd_fin (pm_A P 0 false) (2 ^ r - 1) (2 ^ c - 1)) (dd_fin (pm_A P 1 false) (2 ^ c - 1) (2 ^ r - 1)))).getD k ((0, 0, 0), (0, 0, 0)) = xs_vec (dd_fin (pm_A P 0 false) (2 ^ r - 1) (2 ^ c - 1)) (dd_fin (pm_A P 1 false) (2 ^ c - 1) (2 ^ r - 1)) (I.getD k (0, 0)) := by
    rw [List.getD_eq_getElem?_getD, List.getElem?_map, List.getD_eq_getElem?_getD, List.getElem?_eq_getElem hk]; rfl
  rw [ev]
  refine ⟨(I.getD k (0, 0)).1, (I.getD k (0, 0)).2, by omega, by omega, (HI k hk).1, (HI k hk).2, ⟨_, (ok0.2.1 _ hz.1).1, rfl, fun i hi => ?_⟩, ⟨_, (ok1.2.1 _ hz.2.1).1, rfl, (H1 _ hz.2.1).1⟩⟩
  have := (H0 _ hz.1).1 i hi
  rw [Nat.zero_add] at this
  exact this
end
end
section
/-! the reference's small methods -/
def pm_V (P : Nat → Int) (w s i j : Nat) : Int := P (9 * w + (if s = 0 then 3 * i + j else 3 * j + i))
def pm_w (s : Nat) (own : Bool) : Nat := if own = true then s else 1 - s
def pm_B (P : Nat → Int) (s : Nat) (own : Bool) (i j : Nat) : Int := pm_V P (pm_w s own) s i j
def pm_e (own : Bool) : Int := if own = true then -1 else 1
theorem pm_AB1 (P : Nat → Int) {s : Nat} (hs : s < 2) (own : Bool) (c o : Nat) : pm_A P s own c o = 10 + pm_e own * pm_B P s own c o := by
  match s, hs, own with
  | 0, _, false =>
    show 10 + P (9 * 1 + 3 * c + o) = 10 + 1 * P (9 * 1 + (3 * c + o))
    rw [Int.one_mul, Nat.add_assoc]
  | 0, _, true =>
    show 10 - P (9 * 0 + 3 * c + o) = 10 + -1 * P (9 * 0 + (3 * c + o))
    rw [Nat.add_assoc]; omega
  | 1, _, false =>
    show 10 + P (9 * 0 + 3 * o + c) = 10 + 1 * P (9 * 0 + (3 * o + c))
    rw [Int.one_mul, Nat.add_assoc]
  | 1, _, true =>
    show 10 - P (9 * 1 + 3 * o + c) = 10 + -1 * P (9 * 1 + (3 * o + c))
    rw [Nat.add_assoc]; omega
theorem pm_AB (P : Nat → Int) {s : Nat} (hs : s < 2) (own : Bool) : ys_AB (pm_A P s own) (pm_B P s own) := by
  refine ⟨pm_e own, ?_, fun c j k _ _ _ => ?_⟩
  · cases own
    · exact Or.inl rfl
    · exact Or.inr rfl
  · rw [pm_AB1 P hs, pm_AB1 P hs, Int.mul_sub]; omega
def ys_gp (A : Nat → Nat → Int) (x : cm_T) (j : Nat) : Nat → Int
  | 0 => 0
  | i + 1 => ys_gp A x j i + cm_cp x i * (A i j - 10)
theorem ys_gp_3 (A : Nat → Nat → Int) (x : cm_T) (j : Nat) : ys_gp A x j 3 = cm_val A x j - 10 * cm_sum x := by
  show 0 + x.1 * (A 0 j - 10) + x.2.1 * (A 1 j - 10) + x.2.2 * (A 2 j - 10) = x.1 * A 0 j + x.2.1 * A 1 j + x.2.2 * A 2 j - 10 * (x.1 + x.2.1 + x.2.2)
  rw [Int.mul_sub, Int.mul_sub, Int.mul_sub]; omega
def ys_mx (g : Nat → Int) (m : Nat) : Nat → Int
  | 0 => -1000000
  | j + 1 => if m.testBit j = true ∧ ys_mx g m j < g j then g j else ys_mx g m j
theorem ys_mx_b {g : Nat → Int} {m : Nat} (hg : ∀ j, j < 3 → -1000000 < g j ∧ g j ≤ 1000000) : ∀ n, n ≤ 3 → -1000000 ≤ ys_mx g m n ∧ ys_mx g m n ≤ 1000000 := by
  intro n
  induction n with
  | zero => intro _; show (-1000000 : Int) ≤ -1000000 ∧ (-1000000 : Int) ≤ 1000000; decide
  | succ n ih =>
    intro h
    have := ih (by omega)
    have := hg n (by omega)
    rw [ys_mx]; split <;> omega
theorem ys_mx_ge {g : Nat → Int} {m : Nat} : ∀ n j, j < n → m.testBit j = true → g j ≤ ys_mx g m n := by
  intro n
  induction n with
  | zero => intro j h; omega
  | succ n ih =>
    intro j h b
    rw [ys_mx]
    by_cases e : j = n
    · subst e
      split
      · exact Int.le_refl _
      · rename_i h'
        have : ¬ ys_mx g m j < g j := fun h'' => h' ⟨b, h''⟩
        omega
    · have := ih j (by omega) b
      split
      · rename_i h'; omega
      · exact this
theorem ys_mx_at {g : Nat → Int} {m : Nat} (hg : ∀ j, j < 3 → -1000000 < g j) : ∀ n, n ≤ 3 → (∃ j, j < n ∧ m.testBit j = true) → ∃ j, j < n ∧ m.testBit j = true ∧ ys_mx g m n = g j := by
  intro n
  induction n with
  | zero => intro _ ⟨j, h, _⟩; omega
  | succ n ih =>
    intro hn ⟨j, hj, b⟩
    rw [ys_mx]
    by_cases c : m.testBit n = true ∧ ys_mx g m n < g n
    · rw [if_pos c]; exact ⟨n, by omega, c.1, rfl⟩
    · rw [if_neg c]
      by_cases e : ∃ j, j < n ∧ m.testBit j = true
      · obtain ⟨k, k1, k2, k3⟩ := ih (by omega) e
        exact ⟨k, by omega, k2, k3⟩
      · exfalso
        have ej : j = n := by
          apply Classical.byContradiction
          intro hne
          exact e ⟨j, by omega, b⟩
        subst ej
        have z : ∀ k, k ≤ j → ys_mx g m k = -1000000 := by
          intro k
          induction k with
          | zero => intro _; rfl
          | succ k ihk =>
            intro hk
            rw [ys_mx, if_neg (fun h => e ⟨k, by omega, h.1⟩)]
            exact ihk (by omega)
        have := z j (Nat.le_refl _)
        have := hg j (by omega)
        exact c ⟨b, by omega⟩
def ys_fib : Nat → Nat
  | 0 => 0
  | 1 => 1
  | n + 2 => ys_fib n + ys_fib (n + 1)
theorem ys_fib_s (n : Nat) : ys_fib (n + 2) = ys_fib n + ys_fib (n + 1) := rfl
theorem ys_fib_pos : ∀ n, 0 < ys_fib (n + 1) := by
  intro n
  induction n with
  | zero => decide
  | succ n ih => rw [ys_fib_s]; omega
theorem ys_size_e : ∀ m, m < 8 → ((nI m &&& 1) + ((nI m >>> ((1 : Int32) &&& 31)) &&& 1)) + ((nI m >>> ((2 : Int32) &&& 31)) &&& 1) = nI (ys_sz m) := by decide +kernel
section
variable {rw cl : Int32} {pa sp nu pt wh mx gt : Nat → Int32} {P : Nat → Int}
theorem ys_value {post : Int32 → Prop} (hp : pm_ok pa P) {w s i j : Nat} (hw : w < 2) (hs : s < 2) (hi : i < 3) (hj : j < 3) (h : post (zi_n (pm_V P w s i j))) : wpY_value post (rw, cl, pa, sp, nu, pt, wh, mx, gt) (nI w) (nI s) (nI i) (nI j) := by
  by_cases c : s = 0
  · subst c
    have e : (9 * nI w) + ((3 * nI i) + nI j) = nI (9 * w + (3 * i + j)) := by rw [xi_3, xi_9]
    refine br_t rfl ⟨pk_in _ 18 (by omega) e, ?_⟩
    rw [e, nI_clamp (by omega), (hp _).1]
    exact h
  · have e : (9 * nI w) + ((3 * nI j) + nI i) = nI (9 * w + (3 * j + i)) := by rw [xi_3, xi_9]
    refine br_f (nI_ne0 (by omega) (by omega)) ⟨pk_in _ 18 (by omega) e, ?_⟩
    rw [e, nI_clamp (by omega), (hp _).1]
    rw [pm_V, if_neg c] at h
    exact h
theorem ys_atom {post : Int32 → Prop} (hp : pm_ok pa P) {w s i j k : Nat} (hw : w < 2) (hs : s < 2) (hi : i < 3) (hj : j < 3) (hk : k < 3) (h : post (zi_n (ys_d (pm_V P w s) i j k))) : wpY_atom post (rw, cl, pa, sp, nu, pt, wh, mx, gt) (nI w) (nI s) (nI i) (nI j) (nI k) := by
  unfold wpY_atom
  refine ys_value hp hw hs hi hj (ys_value hp hw hs hi hk ?_)
  rw [zi_sub]
  exact h
theorem ys_first {post : Int32 → Prop} {m : Nat} (hm : m < 8) (h : post (nI (ys_fst m))) : wpY_first post (rw, cl, pa, sp, nu, pt, wh, mx, gt) (nI m) := by
  match m, hm, h with
  | 0, _, h => exact br_f (by decide) (br_f (by decide) h)
  | 1, _, h => exact br_t (by decide) h
  | 2, _, h => exact br_f (by decide) (br_t (by decide) h)
  | 3, _, h => exact br_t (by decide) h
  | 4, _, h => exact br_f (by decide) (br_f (by decide) h)
  | 5, _, h => exact br_t (by decide) h
  | 6, _, h => exact br_f (by decide) (br_t (by decide) h)
  | 7, _, h => exact br_t (by decide) h
theorem ys_last {post : Int32 → Prop} {m : Nat} (hm : m < 8) (h : post (nI (ys_lst m))) : wpY_last post (rw, cl, pa, sp, nu, pt, wh, mx, gt) (nI m) := by
  match m, hm, h with
  | 0, _, h => exact br_f (by decide) (br_f (by decide) h)
  | 1, _, h => exact br_f (by decide) (br_f (by decide) h)
  | 2, _, h => exact br_f (by decide) (br_t (by decide) h)
  | 3, _, h => exact br_f (by decide) (br_t (by decide) h)
  | 4, _, h => exact br_t (by decide) h
  | 5, _, h => exact br_t (by decide) h
  | 6, _, h => exact br_t (by decide) h
  | 7, _, h => exact br_t (by decide) h
theorem ys_size {post : Int32 → Prop} {m : Nat} (hm : m < 8) (h : post (nI (ys_sz m))) : wpY_size post (rw, cl, pa, sp, nu, pt, wh, mx, gt) (nI m) := by
  show post _
  rw [ys_size_e m hm]
  exact h
theorem ys_ag17 {post : SY → Prop} {J2 : Int32 → (Nat → Int32) → (Nat → Int32) → (Nat → Int32) → (Nat → Int32) → (Nat → Int32) → (Nat → Int32) → (Nat → Int32) → Prop} (hp : pm_ok pa P) {s j : Nat} (own : Bool) {x : cm_T} (hs : s < 2) (hj : j < 3) (hm : ∀ i, i < 3 → mx i = zi_n (cm_cp x i))
    (hJ : ∀ gt', gt' j = zi_n (ys_gp (pm_A P s own) x j 3) → (∀ k, k ≠ j → gt' k = gt k) → J2 (nI (j + 1)) pa sp nu pt wh mx gt') :
    ∀ (d i n : Nat) (gt0 : Nat → Int32), i + d = 3 → d < n → gt0 j = zi_n (ys_gp (pm_A P s own) x j i) → (∀ k, k ≠ j → gt0 k = gt k) → wY_against_17 post J2 (nI s) (xs_bI own) (nI j) rw cl n (nI i) pa sp nu pt wh mx gt0 := by
  intro d
  induction d with
  | zero =>
    intro i n gt0 hi hn h0 hk
    obtain ⟨n, rfl⟩ : ∃ m, n = m + 1 := ⟨n - 1, by omega⟩
    have e : i = 3 := by omega
    subst e
    refine br_t (show (3 : Int32) ≤ nI 3 by decide) fun y ey => ?_
    rw [ey, nI_1]
    exact hJ gt0 h0 hk
  | succ d ih =>
    intro i n gt0 hi hn h0 hk
    obtain ⟨n, rfl⟩ : ∃ m, n = m + 1 := ⟨n - 1, by omega⟩
    have hi3 : i < 3 := by omega
    have cj : (nI j).toNatClampNeg = j := nI_clamp (by omega)
    have ci : (nI i).toNatClampNeg = i := nI_clamp (by omega)
    have go : ∀ a, a = upd gt0 j (zi_n (ys_gp (pm_A P s own) x j i) + zi_n (cm_cp x i) * zi_n (pm_e own * pm_B P s own i j)) → wY_against_17 post J2 (nI s) (xs_bI own) (nI j) rw cl n (nI i + 1) pa sp nu pt wh mx a := by
      intro a ea
      rw [zi_mul, zi_add] at ea
      rw [nI_1]
      refine ih (i + 1) n a (by omega) (by omega) ?_ (fun k h => by rw [ea, pk_un h]; exact hk k h)
      rw [ea, pk_us, ys_gp, pm_AB1 P hs]
      congr 2
      congr 1
      omega
    refine br_f (nI_ge (b := 3) (by omega) (by decide)) ⟨pk_in j 3 hj, pk_in i 3 hi3, ?_⟩
    cases own with
    | false =>
      refine br_t rfl ?_
      rw [xi_1m hs]
      refine ys_value hp (by omega) hs hi3 hj ⟨pk_in j 3 hj, fun a ea y ey => ?_⟩
      rw [ey]
      refine go a ?_
      rw [ea, cj, ci, h0, hm i hi3]
      show _ = upd gt0 j (_ + _ * zi_n (1 * pm_V P (1 - s) s i j))
      rw [Int.one_mul]
    | true =>
      refine br_f (by decide) ?_
      refine ys_value hp hs hs hi3 hj ⟨pk_in j 3 hj, fun a ea y ey => ?_⟩
      rw [ey]
      refine go a ?_
      rw [ea, cj, ci, h0, hm i hi3, zi_neg]
      show _ = upd gt0 j (_ + _ * zi_n (-1 * pm_V P s s i j))
      rw [Int.neg_mul, Int.one_mul]
theorem ys_ag2 {post : SY → Prop} (hp : pm_ok pa P) {s : Nat} (own : Bool) {x : cm_T} (hs : s < 2) (hm : ∀ i, i < 3 → mx i = zi_n (cm_cp x i))
    (K : ∀ gt', (∀ j, j < 3 → gt' j = zi_n (ys_gp (pm_A P s own) x j 3)) → post (rw, cl, pa, sp, nu, pt, wh, mx, gt')) :
    ∀ (d j n : Nat) (gt0 : Nat → Int32), j + d = 3 → d < n → (∀ k, k < j → gt0 k = zi_n (ys_gp (pm_A P s own) x k 3)) → wY_against_2 post (nI s) (xs_bI own) rw cl n (nI j) pa sp nu pt wh mx gt0 := by
  intro d
  induction d with
  | zero =>
    intro j n gt0 hj hn h0
    obtain ⟨n, rfl⟩ : ∃ m, n = m + 1 := ⟨n - 1, by omega⟩
    have e : j = 3 := by omega
    subst e
    exact br_t (show (3 : Int32) ≤ nI 3 by decide) (K gt0 h0)
  | succ d ih =>
    intro j n gt0 hj hn h0
    obtain ⟨n, rfl⟩ : ∃ m, n = m + 1 := ⟨n - 1, by omega⟩
    refine br_f (nI_ge (b := 3) (by omega) (by decide)) ⟨pk_in j 3 (by omega), fun a ea => ⟨4, ?_⟩⟩
    rw [nI_clamp (by omega)] at ea
    refine ys_ag17 (gt := gt0) (J2 := wY_against_2 post (nI s) (xs_bI own) rw cl n) hp own hs (by omega) hm ?_ 3 0 4 a rfl (by decide) (by rw [ea, pk_us]; rfl) (fun k h => by rw [ea, pk_un h])
    intro gt' h1 h2
    refine ih (j + 1) n gt' (by omega) (by omega) (fun k hk => ?_)
    by_cases c : k = j
    · rw [c]; exact h1
    · rw [h2 k c]; exact h0 k (by omega)
theorem ys_against {post : SY → Prop} (hp : pm_ok pa P) {s : Nat} (own : Bool) {x : cm_T} (hs : s < 2) (hm : ∀ i, i < 3 → mx i = zi_n (cm_cp x i))
    (K : ∀ gt', (∀ j, j < 3 → gt' j = zi_n (ys_gp (pm_A P s own) x j 3)) → post (rw, cl, pa, sp, nu, pt, wh, mx, gt')) : wpY_against post (rw, cl, pa, sp, nu, pt, wh, mx, gt) (nI s) (xs_bI own) :=
  ⟨4, ys_ag2 hp own hs hm K 3 0 4 gt rfl (by decide) (fun k hk => by omega)⟩
theorem ys_gr5 {post : Int32 → Prop} {m : Nat} {g : Nat → Int} (hm : m < 8) (hg : ∀ j, j < 3 → gt j = zi_n (g j)) (hb : ∀ j, j < 3 → -1000000 < g j ∧ g j ≤ 1000000) (K : post (zi_n (ys_mx g m 3))) :
    ∀ (d j n : Nat), j + d = 3 → d < n → wY_greatest_5 post (nI m) rw cl pa sp nu pt wh mx gt n (zi_n (ys_mx g m j)) (nI j) := by
  intro d
  induction d with
  | zero =>
    intro j n hj hn
    obtain ⟨n, rfl⟩ : ∃ m, n = m + 1 := ⟨n - 1, by omega⟩
    have e : j = 3 := by omega
    subst e
    exact br_t (show (3 : Int32) ≤ nI 3 by decide) K
  | succ d ih =>
    intro j n hj hn
    obtain ⟨n, rfl⟩ : ∃ m, n = m + 1 := ⟨n - 1, by omega⟩
    have hj3 : j < 3 := by omega
    have cj : (nI j).toNatClampNeg = j := nI_clamp (by omega)
    have e := xi_bit (m := m) (k := j) (by omega) (by omega)
    have b1 := ys_mx_b (m := m) hb j (by omega)
    have b2 := hb j hj3
    have ih' := ih (j + 1) n (by omega) (by omega)
    refine br_f (nI_ge (b := 3) (by omega) (by decide)) ?_
    cases b : m.testBit j with
    | true =>
      rw [b, xi_b1] at e
      refine br_t e ⟨pk_in j 3 hj3, ?_⟩
      rw [cj, hg j hj3]
      by_cases c : g j ≤ ys_mx g m j
      · refine br_t ((zi_le (by omega) (by omega) (by omega) (by omega)).mpr c) fun y ey => ?_
        rw [ys_mx, if_neg (by omega)] at ih'
        rw [ey, nI_1]
        exact ih'
      · refine br_f (fun h => c ((zi_le (by omega) (by omega) (by omega) (by omega)).mp h)) ⟨pk_in j 3 hj3, fun z ez y ey => ?_⟩
        rw [ys_mx, if_pos ⟨b, by omega⟩] at ih'
        rw [ey, nI_1, ez]
        exact ih'
    | false =>
      rw [b, xi_b0] at e
      refine br_f (by rw [e]; decide) fun y ey => ?_
      rw [ys_mx, if_neg (by rw [b]; simp)] at ih'
      rw [ey, nI_1]
      exact ih'
theorem ys_greatest {post : Int32 → Prop} {m : Nat} {g : Nat → Int} (hm : m < 8) (hg : ∀ j, j < 3 → gt j = zi_n (g j)) (hb : ∀ j, j < 3 → -1000000 < g j ∧ g j ≤ 1000000) (K : post (zi_n (ys_mx g m 3))) : wpY_greatest post (rw, cl, pa, sp, nu, pt, wh, mx, gt) (nI m) :=
  ⟨4, ys_gr5 hm hg hb K 3 0 4 rfl (by decide)⟩
theorem ys_cm26 {post : Int32 → Prop} : ∀ (d step g h n : Nat), step + d = 40 → d < n → g < 2147483648 → h < 2147483648 → (h < ys_fib (d + 1) ∨ (h ≤ g ∧ g < ys_fib (d + 2))) → post (nI (if Nat.gcd g h < 1 then 1 else Nat.gcd g h)) → wY_common_26 post rw cl pa sp nu pt wh mx gt n (nI g) (nI h) (nI step) := by
  intro d
  induction d with
  | zero =>
    intro step g h n hs hn hg hh hc K
    obtain ⟨n, rfl⟩ : ∃ m, n = m + 1 := ⟨n - 1, by omega⟩
    have e : step = 40 := by omega
    subst e
    have h0 : h = 0 := by
      have f1 : ys_fib (0 + 1) = 1 := rfl
      have f2 : ys_fib (0 + 2) = 1 := rfl
      rw [f1, f2] at hc
      omega
    subst h0
    rw [Nat.gcd_zero_right] at K
    refine br_t (show (40 : Int32) ≤ nI 40 by decide) ?_
    by_cases c : 1 ≤ g
    · rw [if_neg (by omega)] at K
      exact br_t (nI_le (a := 1) c hg) K
    · rw [if_pos (by omega)] at K
      exact br_f (nI_ge (b := 1) (by omega) (by decide)) K
  | succ d ih =>
    intro step g h n hs hn hg hh hc K
    obtain ⟨n, rfl⟩ : ∃ m, n = m + 1 := ⟨n - 1, by omega⟩
    refine br_f (nI_ge (b := 40) (by omega) (by decide)) ?_
    by_cases z : h = 0
    · subst z
      refine br_t rfl fun y ey => ?_
      rw [ey, nI_1]
      exact ih (step + 1) g 0 n (by omega) (by omega) hg hh (Or.inl (ys_fib_pos d)) K
    · have hne : ¬ nI h = 0 := nI_ne0 (by omega) (by omega)
      refine br_f hne (br_f hne ⟨hne, fun y ey z ez => ?_⟩)
      rw [ez, nI_1, ey, pk_rem hg (by omega) hh]
      have hlt : g % h < h := Nat.mod_lt _ (by omega)
      have K' : post (nI (if Nat.gcd h (g % h) < 1 then 1 else Nat.gcd h (g % h))) := by
        have e : Nat.gcd h (g % h) = Nat.gcd g h := by rw [Nat.gcd_comm, ← Nat.gcd_rec, Nat.gcd_comm]
        rw [e]; exact K
      refine ih (step + 1) h (g % h) n (by omega) (by omega) hh (by omega) ?_ K'
      by_cases c : h < ys_fib (d + 2)
      · exact Or.inr ⟨by omega, c⟩
      · left
        have c2 : h ≤ g ∧ g < ys_fib (d + 1 + 2) := by
          rcases hc with hc | hc
          · exact absurd hc c
          · exact hc
        have f := ys_fib_s (d + 1)
        have e : g % h = (g - h) % h := Nat.mod_eq_sub_mod c2.1
        have l : (g - h) % h ≤ g - h := Nat.mod_le _ _
        have f' : ys_fib (d + 1 + 1) = ys_fib (d + 2) := rfl
        omega
theorem ys_abs {z : Int} (h1 : -2147483648 < z) (h2 : z < 2147483648) {A B : Prop} (f : zi_n z = nI z.natAbs → A) (g : -zi_n z = nI z.natAbs → B) : (0 ≤ zi_n z → A) ∧ (¬ 0 ≤ zi_n z → B) := by
  have e0 : (0 : Int32) = zi_n 0 := rfl
  have c : (0 : Int32) ≤ zi_n z ↔ 0 ≤ z := by rw [e0]; exact zi_le (by decide) (by decide) (by omega) (by omega)
  refine ⟨fun h => f ?_, fun h => g ?_⟩
  · have := c.mp h
    rw [zi_nat]; congr 1; omega
  · have := mt c.mpr h
    rw [zi_nat, zi_neg]; congr 1; omega
def ys_cg (a b : Int) : Nat := if Nat.gcd a.natAbs b.natAbs < 1 then 1 else Nat.gcd a.natAbs b.natAbs
theorem ys_fib41 : ys_fib 41 = 165580141 := by decide +kernel
theorem ys_common {post : Int32 → Prop} {a b : Int} (a1 : -2147483648 < a) (a2 : a < 2147483648) (b1 : -165580141 < b) (b2 : b < 165580141) (K : post (nI (ys_cg a b))) : wpY_common post (rw, cl, pa, sp, nu, pt, wh, mx, gt) (zi_n a) (zi_n b) := by
  have k : ∀ z0, z0 = nI a.natAbs → wY_common_10 post (zi_n b) z0 rw cl pa sp nu pt wh mx gt := by
    intro z0 e
    rw [e]
    have go : wY_common_26 post rw cl pa sp nu pt wh mx gt 41 (nI a.natAbs) (nI b.natAbs) (nI 0) := ys_cm26 40 0 a.natAbs b.natAbs 41 rfl (by decide) (by omega) (by omega) (Or.inl (by rw [ys_fib41]; omega)) K
    refine ys_abs (by omega) (by omega) (fun eb => ⟨41, ?_⟩) (fun eb y ey => ⟨41, ?_⟩)
    · rw [eb]; exact go
    · rw [ey, eb]; exact go
  exact ys_abs a1 a2 (fun e => k _ e) (fun e => k _ e)
end
end
section
/-! the reference's solve -/
def ys_nn (x : cm_T) : Prop := 0 ≤ x.1 ∧ 0 ≤ x.2.1 ∧ 0 ≤ x.2.2
theorem ys_nn_cp {x : cm_T} : ys_nn x ↔ ∀ t, t < 3 → 0 ≤ cm_cp x t := by
  constructor
  · intro h t ht
    match t, ht with
    | 0, _ => exact h.1
    | 1, _ => exact h.2.1
    | 2, _ => exact h.2.2
  · intro h
    exact ⟨h 0 (by decide), h 1 (by decide), h 2 (by decide)⟩
theorem ys_ray_gcd (w : Nat → Int) : dd_gcd (ys_ray w) = Nat.gcd (Nat.gcd (w 0).natAbs (w 1).natAbs) (w 2).natAbs := by
  have f : ∀ z : Int, (ys_sg w * z).natAbs = z.natAbs := by
    intro z
    rcases ys_sg_1 w with e | e <;> rw [e] <;> omega
  show Nat.gcd (Nat.gcd (Nat.gcd (Nat.gcd 0 (ys_sg w * w 0).natAbs) (ys_sg w * w 1).natAbs) (ys_sg w * w 2).natAbs) 0 = _
  rw [f, f, f, Nat.gcd_zero_left, Nat.gcd_zero_right]
theorem ys_nrm_cp (w : Nat → Int) {t : Nat} (ht : t < 3) : cm_cp (ys_nrm w) t = ys_sg w * w t / (dd_gcd (ys_ray w) : Int) := by
  match t, ht with
  | 0, _ => rfl
  | 1, _ => rfl
  | 2, _ => rfl
theorem ys_ray_dvd (w : Nat → Int) {t : Nat} (ht : t < 3) : (dd_gcd (ys_ray w) : Int) ∣ ys_sg w * w t := by
  match t, ht with
  | 0, _ => exact Int.ofNat_dvd_left.mpr (dd_gcd_d1 (ys_ray w))
  | 1, _ => exact Int.ofNat_dvd_left.mpr (dd_gcd_d2 (ys_ray w))
  | 2, _ => exact Int.ofNat_dvd_left.mpr (dd_gcd_d3 (ys_ray w))
section
variable {rw cl : Int32} {pa sp nu pt wh mx gt : Nat → Int32} {P : Nat → Int}
theorem ys_s342 {post : Int32 → SY → Prop} {w : Nat → Int} {σ : Int} {G : Nat} (hσ : σ = 1 ∨ σ = -1) (G1 : 0 < G) (G2 : G ≤ 100000) (hw : ∀ t, t < 3 → -648 ≤ w t ∧ w t ≤ 648) (hd : ∀ t, t < 3 → (G : Int) ∣ σ * w t)
    (K1 : (∀ t, t < 3 → 0 ≤ σ * w t / (G : Int)) → ∀ mx', (∀ t, t < 3 → mx' t = zi_n (σ * w t / (G : Int))) → post 1 (rw, cl, pa, sp, nu, pt, wh, mx', gt))
    (K0 : (∃ t, t < 3 ∧ σ * w t / (G : Int) < 0) → ∀ mx', post 0 (rw, cl, pa, sp, nu, pt, wh, mx', gt)) :
    ∀ (d i n : Nat) (mx0 : Nat → Int32), i + d = 3 → d < n → (∀ t, t < i → mx0 t = zi_n (σ * w t / (G : Int)) ∧ 0 ≤ σ * w t / (G : Int)) → (∀ t, i ≤ t → t < 3 → mx0 t = zi_n (w t)) → wY_solve_342 post (zi_n σ) (nI G) rw cl n (nI i) pa sp nu pt wh mx0 gt := by
  intro d
  induction d with
  | zero =>
    intro i n mx0 hi hn h0 h1
    obtain ⟨n, rfl⟩ : ∃ m, n = m + 1 := ⟨n - 1, by omega⟩
    have e : i = 3 := by omega
    subst e
    exact br_t (show (3 : Int32) ≤ nI 3 by decide) (K1 (fun t ht => (h0 t ht).2) mx0 (fun t ht => (h0 t ht).1))
  | succ d ih =>
    intro i n mx0 hi hn h0 h1
    obtain ⟨n, rfl⟩ : ∃ m, n = m + 1 := ⟨n - 1, by omega⟩
    have hi3 : i < 3 := by omega
    have ci : (nI i).toNatClampNeg = i := nI_clamp (by omega)
    have hne : ¬ nI G = 0 := nI_ne0 G1 (by omega)
    have b := hw i hi3
    have bσ : -648 ≤ σ * w i ∧ σ * w i ≤ 648 := by rcases hσ with e | e <;> rw [e] <;> omega
    have ev : zi_n σ * mx0 (nI i).toNatClampNeg / nI G = zi_n (σ * w i / (G : Int)) := by
      rw [ci, h1 i (Nat.le_refl _) hi3, zi_mul, zi_nat, zi_div (by omega) (by omega) (by omega) (by omega), Int.tdiv_eq_ediv_of_dvd (hd i hi3)]
    have bv : -648 ≤ σ * w i / (G : Int) ∧ σ * w i / (G : Int) ≤ 648 := by
      have e := Int.mul_ediv_cancel' (hd i hi3)
      generalize σ * w i / (G : Int) = v at e
      by_cases c : 0 ≤ v
      · have : 1 * v ≤ (G : Int) * v := Int.mul_le_mul_of_nonneg_right (by omega) c
        omega
      · have := Int.mul_le_mul_of_nonneg_right (a := 1) (b := (G : Int)) (c := -v) (by omega) (by omega)
        rw [Int.mul_neg, Int.mul_neg] at this
        omega
    have z0 : (0 : Int32) = zi_n 0 := rfl
    refine br_f (nI_ge (b := 3) (by omega) (by decide)) ⟨pk_in i 3 hi3, br_t (nI_le (a := 1) (by omega) (by omega)) ⟨hne, pk_in i 3 hi3, fun a ea => ⟨pk_in i 3 hi3, ?_⟩⟩⟩
    rw [ev, ci] at ea
    rw [ci]
    have ai : a i = zi_n (σ * w i / (G : Int)) := by rw [ea, pk_us]
    rw [ai]
    by_cases c : 0 ≤ σ * w i / (G : Int)
    · refine br_t (by rw [z0]; exact (zi_le (by decide) (by decide) (by omega) (by omega)).mpr c) fun y ey => ?_
      rw [ey, nI_1]
      refine ih (i + 1) n a (by omega) (by omega) (fun t ht => ?_) (fun t ht ht3 => ?_)
      · by_cases c2 : t = i
        · rw [c2]; exact ⟨ai, c⟩
        · rw [ea, pk_un c2]; exact h0 t (by omega)
      · rw [ea, pk_un (by omega)]; exact h1 t (by omega) ht3
    · refine br_f (by rw [z0]; exact fun h => c ((zi_le (by decide) (by decide) (by omega) (by omega)).mp h)) (K0 ⟨i, hi3, by omega⟩ a)
theorem ys_s209 {post : Int32 → SY → Prop} {w : Nat → Int} (hw : ∀ t, t < 3 → -648 ≤ w t ∧ w t ≤ 648) (hm : ∀ t, t < 3 → mx t = zi_n (w t))
    (K1 : w 0 + w 1 + w 2 ≠ 0 → ys_nn (ys_nrm w) → ∀ mx', (∀ t, t < 3 → mx' t = zi_n (cm_cp (ys_nrm w) t)) → post 1 (rw, cl, pa, sp, nu, pt, wh, mx', gt))
    (K0 : (w 0 + w 1 + w 2 = 0 ∨ ¬ ys_nn (ys_nrm w)) → ∀ mx', post 0 (rw, cl, pa, sp, nu, pt, wh, mx', gt)) : wY_solve_209 post rw cl pa sp nu pt wh mx gt := by
  have b0 := hw 0 (by decide)
  have b1 := hw 1 (by decide)
  have b2 := hw 2 (by decide)
  have m0 := hm 0 (by decide)
  have m1 := hm 1 (by decide)
  have m2 := hm 2 (by decide)
  have z0 : (0 : Int32) = zi_n 0 := rfl
  intro y ey
  rw [m0, m1, m2, zi_add, zi_add] at ey
  rw [ey]
  by_cases c : w 0 + w 1 + w 2 = 0
  · exact br_t (by rw [c]; rfl) (K0 (Or.inl c) mx)
  · refine br_f (by rw [z0]; exact fun h => c ((zi_eq (by omega) (by omega) (by decide) (by decide)).mp h)) ?_
    have gp := dd_gcd_pos (ys_ray_0 c)
    have gl : dd_gcd (ys_ray w) ≤ 648 := by
      rw [ys_ray_gcd]
      by_cases e2 : (w 2).natAbs = 0
      · rw [e2, Nat.gcd_zero_right]
        by_cases e1 : (w 1).natAbs = 0
        · rw [e1, Nat.gcd_zero_right]; omega
        · have := Nat.gcd_le_right (w 0).natAbs (n := (w 1).natAbs) (by omega); omega
      · have := Nat.gcd_le_right (Nat.gcd (w 0).natAbs (w 1).natAbs) (n := (w 2).natAbs) (by omega); omega
    have go : ∀ n, 3 < n → wY_solve_342 post (zi_n (ys_sg w)) (nI (dd_gcd (ys_ray w))) rw cl n 0 pa sp nu pt wh mx gt := by
      intro n hn
      refine ys_s342 (ys_sg_1 w) gp (by omega) hw (fun t ht => ys_ray_dvd w ht) (fun h mx' hx => ?_) (fun h mx' => ?_) 3 0 n mx rfl hn (fun t ht => by omega) (fun t _ ht => hm t ht)
      · refine K1 c (ys_nn_cp.mpr fun t ht => ?_) mx' (fun t ht => ?_)
        · rw [ys_nrm_cp w ht]; exact h t ht
        · rw [ys_nrm_cp w ht]; exact hx t ht
      · refine K0 (Or.inr fun hn => ?_) mx'
        obtain ⟨t, ht, hl⟩ := h
        have := ys_nn_cp.mp hn t ht
        rw [ys_nrm_cp w ht] at this
        omega
    have k248 : ∀ z, z = zi_n (ys_sg w) → wY_solve_248 post z rw cl pa sp nu pt wh mx gt := by
      intro z ez
      rw [ez]
      unfold wY_solve_248
      rw [m0, m1, m2]
      refine ys_common (by omega) (by omega) (by omega) (by omega) ?_
      have k316 : (w 0).natAbs ≠ 0 ∨ (w 1).natAbs ≠ 0 → wY_solve_316 post (zi_n (ys_sg w)) (nI (ys_cg (w 0) (w 1))) rw cl pa sp nu pt wh mx gt := by
        intro hnz
        have g01 : 0 < Nat.gcd (w 0).natAbs (w 1).natAbs := by
          apply Nat.pos_of_ne_zero
          intro e
          have := Nat.gcd_eq_zero_iff.mp e
          omega
        have gl01 : Nat.gcd (w 0).natAbs (w 1).natAbs ≤ 648 := by
          by_cases e1 : (w 1).natAbs = 0
          · rw [e1, Nat.gcd_zero_right]; omega
          · have := Nat.gcd_le_right (w 0).natAbs (n := (w 1).natAbs) (by omega); omega
        have ecg : ys_cg (w 0) (w 1) = Nat.gcd (w 0).natAbs (w 1).natAbs := by rw [ys_cg, if_neg (by omega)]
        rw [ecg]
        unfold wY_solve_316
        rw [m2]
        by_cases z2 : w 2 = 0
        · refine br_t (by rw [z2]; rfl) ⟨4, ?_⟩
          have : dd_gcd (ys_ray w) = Nat.gcd (w 0).natAbs (w 1).natAbs := by
            rw [ys_ray_gcd, z2]; exact Nat.gcd_zero_right _
          rw [← this]
          exact go 4 (by decide)
        · refine br_f (by rw [z0]; exact fun h => z2 ((zi_eq (by omega) (by omega) (by decide) (by decide)).mp h)) ?_
          rw [zi_nat]
          refine ys_common (by omega) (by omega) (by omega) (by omega) ⟨4, ?_⟩
          have : ys_cg ((Nat.gcd (w 0).natAbs (w 1).natAbs : Nat) : Int) (w 2) = dd_gcd (ys_ray w) := by
            rw [ys_cg, Int.natAbs_natCast, ← ys_ray_gcd, if_neg (by omega)]
          rw [this]
          exact go 4 (by decide)
      by_cases e0 : w 0 = 0
      · refine br_t (by rw [e0]; rfl) ?_
        by_cases e1 : w 1 = 0
        · refine br_t (by rw [e1]; rfl) ?_
          have eg : dd_gcd (ys_ray w) = (w 2).natAbs := by rw [ys_ray_gcd, e0, e1]; exact Nat.gcd_zero_left _
          refine ys_abs (by omega) (by omega) (fun ea v ev => ⟨4, ?_⟩) (fun ea v ev => ⟨4, ?_⟩)
          · rw [ev, ea, ← eg]; exact go 4 (by decide)
          · rw [ev, ea, ← eg]; exact go 4 (by decide)
        · refine br_f (by rw [z0]; exact fun h => e1 ((zi_eq (by omega) (by omega) (by decide) (by decide)).mp h)) (k316 (Or.inr (by omega)))
      · refine br_f (by rw [z0]; exact fun h => e0 ((zi_eq (by omega) (by omega) (by decide) (by decide)).mp h)) (k316 (Or.inl (by omega)))
    by_cases c2 : 0 ≤ w 0 + w 1 + w 2
    · refine br_t (by rw [z0]; exact (zi_le (by decide) (by decide) (by omega) (by omega)).mpr c2) (k248 1 ?_)
      rw [ys_sg, if_neg (by omega)]; rfl
    · refine br_f (by rw [z0]; exact fun h => c2 ((zi_le (by decide) (by decide) (by omega) (by omega)).mp h)) (k248 (-1) ?_)
      rw [ys_sg, if_pos (by omega)]; rfl
theorem ys_s131 {post : Int32 → SY → Prop} (hp : pm_ok pa P) {wh0 s T : Nat} (hw0 : wh0 < 2) (hs : s < 2)
    (K : ∀ mx', (∀ t, t < 3 → mx' t = zi_n (ys_raw (pm_V P wh0 s) 7 T t)) → wY_solve_209 post rw cl pa sp nu pt wh mx' gt) :
    ∀ (d i n : Nat) (mx0 : Nat → Int32), i + d = 3 → d < n → (∀ t, t < i → mx0 t = zi_n (ys_raw (pm_V P wh0 s) 7 T t)) → wY_solve_131 post (nI wh0) (nI s) rw cl n (nI i) pa sp nu pt wh mx0 gt := by
  intro d
  induction d with
  | zero =>
    intro i n mx0 hi hn h0
    obtain ⟨n, rfl⟩ : ∃ m, n = m + 1 := ⟨n - 1, by omega⟩
    have e : i = 3 := by omega
    subst e
    exact br_t (show (3 : Int32) ≤ nI 3 by decide) (K mx0 h0)
  | succ d ih =>
    intro i n mx0 hi hn h0
    obtain ⟨n, rfl⟩ : ∃ m, n = m + 1 := ⟨n - 1, by omega⟩
    have hi3 : i < 3 := by omega
    have e3 : (3 : Int32) = nI 3 := rfl
    have e2 : nI i + 2 = nI (i + 2) := nI_add i 2
    have m1 : (i + 1) % 3 < 3 := Nat.mod_lt _ (by decide)
    have m2 : (i + 2) % 3 < 3 := Nat.mod_lt _ (by decide)
    refine br_f (nI_ge (b := 3) (by omega) (by decide)) ⟨by decide, fun x ex => ⟨by decide, fun y ey => ?_⟩⟩
    rw [nI_1, e3, pk_rem (by omega) (by decide) (by decide)] at ex
    rw [e2, e3, pk_rem (by omega) (by decide) (by decide)] at ey
    rw [ex, ey]
    refine ys_atom (j := 0) (k := 1) hp hw0 hs m1 (by decide) (by decide) ?_
    refine ys_atom (j := 1) (k := 2) hp hw0 hs m2 (by decide) (by decide) ?_
    refine ys_atom (j := 0) (k := 1) hp hw0 hs m2 (by decide) (by decide) ?_
    refine ys_atom (j := 1) (k := 2) hp hw0 hs m1 (by decide) (by decide) ⟨pk_in i 3 hi3, fun a ea z ez => ?_⟩
    rw [ez, nI_1]
    rw [nI_clamp (by omega), zi_mul, zi_mul, zi_sub] at ea
    refine ih (i + 1) n a (by omega) (by omega) (fun t ht => ?_)
    by_cases c : t = i
    · rw [c, ea, pk_us]; rfl
    · rw [ea, pk_un c]; exact h0 t (by omega)
theorem ys_s3 {post : Int32 → SY → Prop} (hp : pm_ok pa P) {wh0 s S T : Nat} (hw0 : wh0 < 2) (hs : s < 2) (S8 : S < 8) (S0 : 0 < S) (T8 : T < 8) (T0 : 0 < T)
    (K1 : ys_raw (pm_V P wh0 s) S T 0 + ys_raw (pm_V P wh0 s) S T 1 + ys_raw (pm_V P wh0 s) S T 2 ≠ 0 → ys_nn (ys_nrm (ys_raw (pm_V P wh0 s) S T)) → ∀ mx', (∀ t, t < 3 → mx' t = zi_n (cm_cp (ys_nrm (ys_raw (pm_V P wh0 s) S T)) t)) → post 1 (rw, cl, pa, sp, nu, pt, wh, mx', gt))
    (K0 : (ys_raw (pm_V P wh0 s) S T 0 + ys_raw (pm_V P wh0 s) S T 1 + ys_raw (pm_V P wh0 s) S T 2 = 0 ∨ ¬ ys_nn (ys_nrm (ys_raw (pm_V P wh0 s) S T))) → ∀ mx', post 0 (rw, cl, pa, sp, nu, pt, wh, mx', gt)) :
    ∀ (d i n : Nat) (mx0 : Nat → Int32), i + d = 3 → d < n → (∀ t, t < i → mx0 t = 0) → wY_solve_3 post (nI wh0) (nI s) (nI S) (nI T) rw cl n (nI i) pa sp nu pt wh mx0 gt := by
  have hB : ∀ c j k, c < 3 → j < 3 → k < 3 → -18 ≤ ys_d (pm_V P wh0 s) c j k ∧ ys_d (pm_V P wh0 s) c j k ≤ 18 := by
    intro c j k _ _ _
    have h1 := hp (9 * wh0 + (if s = 0 then 3 * c + j else 3 * j + c))
    have h2 := hp (9 * wh0 + (if s = 0 then 3 * c + k else 3 * k + c))
    simp only [ys_d, pm_V]
    omega
  have hw : ∀ t, t < 3 → -648 ≤ ys_raw (pm_V P wh0 s) S T t ∧ ys_raw (pm_V P wh0 s) S T t ≤ 648 := fun t ht => ys_rb hB S8 S0 T8 T0 ht
  obtain ⟨sf, sl, _, _, s0⟩ := ys_tab S S8 S0
  obtain ⟨tf, tl, _, _, _⟩ := ys_tab T T8 T0
  have fin : ∀ mx', (∀ t, t < 3 → mx' t = zi_n (ys_raw (pm_V P wh0 s) S T t)) → wY_solve_209 post rw cl pa sp nu pt wh mx' gt := fun mx' h => ys_s209 hw h K1 K0
  intro d
  induction d with
  | zero =>
    intro i n mx0 hi hn h0
    obtain ⟨n, rfl⟩ : ∃ m, n = m + 1 := ⟨n - 1, by omega⟩
    have e : i = 3 := by omega
    subst e
    refine br_t (show (3 : Int32) ≤ nI 3 by decide) ?_
    refine ys_size S8 ?_
    have sc : ys_sz S = 1 ∨ ys_sz S = 2 ∨ ys_sz S = 3 := by
      have : ∀ S, S < 8 → ys_sz S ≤ 3 := by decide
      have := this S S8
      omega
    rcases sc with e | e | e
    · rw [e]
      refine br_t rfl (ys_first S8 ⟨pk_in _ 3 sf, fun a ea => ?_⟩)
      rw [nI_clamp (by omega)] at ea
      refine br_f (by decide) (br_f (by decide) (fin a fun t ht => ?_))
      rw [ys_raw, if_pos e, ea]
      by_cases c : t = ys_fst S
      · rw [if_pos c, c, pk_us]; rfl
      · rw [if_neg c, pk_un c]; exact h0 t ht
    · rw [e]
      refine br_f (by decide) (br_t rfl ?_)
      refine ys_first S8 (ys_last S8 (ys_first T8 (ys_last T8 ?_)))
      refine ys_atom hp hw0 hs sl tf tl ⟨pk_in _ 3 sf, fun a ea => ?_⟩
      refine ys_atom hp hw0 hs sf tf tl ⟨pk_in _ 3 sl, fun b eb => ?_⟩
      rw [nI_clamp (by omega), zi_neg] at ea
      rw [nI_clamp (by omega)] at eb
      refine br_f (by decide) (fin b fun t ht => ?_)
      rw [ys_raw, if_neg (by omega), if_pos e, eb, ea]
      by_cases c : t = ys_lst S
      · rw [if_pos c, c, pk_us]
      · rw [if_neg c, pk_un c]
        by_cases c2 : t = ys_fst S
        · rw [if_pos c2, c2, pk_us]
        · rw [if_neg c2, pk_un c2]; exact h0 t ht
    · have e7 : S = 7 := by
        have : ∀ S, S < 8 → ys_sz S = 3 → S = 7 := by decide
        exact this S S8 e
      subst e7
      rw [e]
      refine br_f (by decide) (br_f (by decide) (br_t rfl ⟨4, ?_⟩))
      exact ys_s131 hp hw0 hs fin 3 0 4 mx0 rfl (by decide) (fun t ht => by omega)
  | succ d ih =>
    intro i n mx0 hi hn h0
    obtain ⟨n, rfl⟩ : ∃ m, n = m + 1 := ⟨n - 1, by omega⟩
    refine br_f (nI_ge (b := 3) (by omega) (by decide)) ⟨pk_in i 3 (by omega), fun a ea y ey => ?_⟩
    rw [ey, nI_1]
    rw [nI_clamp (by omega)] at ea
    refine ih (i + 1) n a (by omega) (by omega) (fun t ht => ?_)
    by_cases c : t = i
    · rw [c, ea, pk_us]
    · rw [ea, pk_un c]; exact h0 t (by omega)
theorem ys_solve {post : Int32 → SY → Prop} (hp : pm_ok pa P) {wh0 s S T : Nat} (hw0 : wh0 < 2) (hs : s < 2) (S8 : S < 8) (S0 : 0 < S) (T8 : T < 8) (T0 : 0 < T)
    (K1 : ys_raw (pm_V P wh0 s) S T 0 + ys_raw (pm_V P wh0 s) S T 1 + ys_raw (pm_V P wh0 s) S T 2 ≠ 0 → ys_nn (ys_nrm (ys_raw (pm_V P wh0 s) S T)) → ∀ mx', (∀ t, t < 3 → mx' t = zi_n (cm_cp (ys_nrm (ys_raw (pm_V P wh0 s) S T)) t)) → post 1 (rw, cl, pa, sp, nu, pt, wh, mx', gt))
    (K0 : (ys_raw (pm_V P wh0 s) S T 0 + ys_raw (pm_V P wh0 s) S T 1 + ys_raw (pm_V P wh0 s) S T 2 = 0 ∨ ¬ ys_nn (ys_nrm (ys_raw (pm_V P wh0 s) S T))) → ∀ mx', post 0 (rw, cl, pa, sp, nu, pt, wh, mx', gt)) : wpY_solve post (rw, cl, pa, sp, nu, pt, wh, mx, gt) (nI wh0) (nI s) (nI S) (nI T) :=
  ⟨4, ys_s3 hp hw0 hs S8 S0 T8 T0 K1 K0 3 0 4 mx rfl (by decide) (fun t ht => by omega)⟩
end
end
section
/-! the reference's sorted corners -/
def ys_at (C : List cm_T) (k : Nat) : cm_T := C.getD k (0, 0, 0)
def ys_HY (pt wh : Nat → Int32) (s : Nat) (C : List cm_T) : Prop := ∀ k, k < C.length → (∀ i, i < 3 → pt (48 * s + 3 * k + i) = zi_n (cm_cp (ys_at C k) i)) ∧ wh (16 * s + k) = zi_n (cm_sum (ys_at C k))
def ys_out (s : Nat) (pt pt' wh wh' : Nat → Int32) : Prop := (∀ j, (j < 48 * s ∨ 48 * s + 48 ≤ j) → pt' j = pt j) ∧ (∀ j, (j < 16 * s ∨ 16 * s + 16 ≤ j) → wh' j = wh j)
theorem ys_out_refl (s : Nat) (pt wh : Nat → Int32) : ys_out s pt pt wh wh := ⟨fun _ _ => rfl, fun _ _ => rfl⟩
theorem ys_out_trans {s : Nat} {pt pt' pt'' wh wh' wh'' : Nat → Int32} (h : ys_out s pt pt' wh wh') (h' : ys_out s pt' pt'' wh' wh'') : ys_out s pt pt'' wh wh'' :=
  ⟨fun j hj => (h'.1 j hj).trans (h.1 j hj), fun j hj => (h'.2 j hj).trans (h.2 j hj)⟩
def cm_b (x : cm_T) : Prop := ∀ i, i < 3 → 0 ≤ cm_cp x i ∧ cm_cp x i ≤ 648
theorem cm_b_sum {x : cm_T} (h : cm_b x) : 0 ≤ cm_sum x ∧ cm_sum x ≤ 1944 := by
  have h0 : 0 ≤ x.1 ∧ x.1 ≤ 648 := h 0 (by decide)
  have h1 : 0 ≤ x.2.1 ∧ x.2.1 ≤ 648 := h 1 (by decide)
  have h2 : 0 ≤ x.2.2 ∧ x.2.2 ≤ 648 := h 2 (by decide)
  simp only [cm_sum]; omega
theorem cm_ext {x y : cm_T} (h : ∀ i, i < 3 → cm_cp x i = cm_cp y i) : x = y := Prod.ext (h 0 (by decide)) (Prod.ext (h 1 (by decide)) (h 2 (by decide)))
theorem xi_48 (s k i : Nat) : ((48 : Int32) * nI s + 3 * nI k) + nI i = nI (48 * s + 3 * k + i) := by
  rw [show (48 : Int32) = nI 48 from rfl, pk_mul, xi_3m, nI_add, nI_add]
theorem xi_16 (s k : Nat) : (16 : Int32) * nI s + nI k = nI (16 * s + k) := by
  rw [show (16 : Int32) = nI 16 from rfl, pk_mul, nI_add]
section
variable {rw cl : Int32} {pa sp nu pt wh mx gt : Nat → Int32}
theorem ys_same_s {post : Int32 → Prop} {s k i n : Nat} {x y : cm_T} (hs : s < 2) (hk : k < 16) (hi : i < 3) (hm : ∀ i, i < 3 → mx i = zi_n (cm_cp x i)) (hy : ∀ i, i < 3 → pt (48 * s + 3 * k + i) = zi_n (cm_cp y i)) (bx : cm_b x) (b_y : cm_b y)
    (h1 : cm_cp x i = cm_cp y i → wY_isSame_2 post (nI s) (nI k) rw cl pa sp nu pt wh mx gt n (nI (i + 1))) (h0 : cm_cp x i ≠ cm_cp y i → post 0) : wY_isSame_2 post (nI s) (nI k) rw cl pa sp nu pt wh mx gt (n + 1) (nI i) := by
  have e := xi_48 s k i
  have b1 := bx i hi
  have b2 := b_y i hi
  refine br_f (nI_ge (b := 3) (by omega) (by decide)) ⟨pk_in i 3 hi, pk_in _ 96 (by omega) e, ?_⟩
  rw [e, nI_clamp (by omega), nI_clamp (by omega), hm i hi, hy i hi]
  by_cases c : cm_cp x i = cm_cp y i
  · refine br_t (by rw [c]) fun z ez => ?_
    rw [ez, nI_1]; exact h1 c
  · exact br_f (fun h => c ((zi_eq (by omega) (by omega) (by omega) (by omega)).mp h)) (h0 c)
theorem ys_isSame {post : Int32 → Prop} {s k : Nat} {x y : cm_T} (hs : s < 2) (hk : k < 16) (hm : ∀ i, i < 3 → mx i = zi_n (cm_cp x i)) (hy : ∀ i, i < 3 → pt (48 * s + 3 * k + i) = zi_n (cm_cp y i)) (bx : cm_b x) (b_y : cm_b y)
    (h1 : x = y → post 1) (h0 : x ≠ y → post 0) : wpY_isSame post (rw, cl, pa, sp, nu, pt, wh, mx, gt) (nI s) (nI k) := by
  have ne : ∀ i, i < 3 → cm_cp x i ≠ cm_cp y i → post 0 := fun i _ h => h0 (fun e => h (by rw [e]))
  refine ⟨4, ys_same_s (n := 3) (i := 0) hs hk (by decide) hm hy bx b_y (fun e0 => ?_) (ne 0 (by decide))⟩
  refine ys_same_s (n := 2) (i := 1) hs hk (by decide) hm hy bx b_y (fun e1 => ?_) (ne 1 (by decide))
  refine ys_same_s (n := 1) (i := 2) hs hk (by decide) hm hy bx b_y (fun e2 => ?_) (ne 2 (by decide))
  refine br_t (show (3 : Int32) ≤ nI 3 by decide) (h1 (cm_ext fun i hi => ?_))
  match i, hi with
  | 0, _ => exact e0
  | 1, _ => exact e1
  | 2, _ => exact e2
theorem ys_bef_s {post : Int32 → Prop} {s k i n : Nat} {x y : cm_T} (hs : s < 2) (hk : k < 16) (hi : i < 3) (hm : ∀ i, i < 3 → mx i = zi_n (cm_cp x i)) (hy : ∀ i, i < 3 → pt (48 * s + 3 * k + i) = zi_n (cm_cp y i)) (hw : wh (16 * s + k) = zi_n (cm_sum y)) (bx : cm_b x) (b_y : cm_b y)
    (h0 : od_c (cm_cp x i) (cm_cp y i) (cm_sum x) (cm_sum y) = 0 → wY_isBefore_24 post (nI s) (nI k) (zi_n (cm_sum x)) rw cl pa sp nu pt wh mx gt n (nI (i + 1))) (hn : od_c (cm_cp x i) (cm_cp y i) (cm_sum x) (cm_sum y) < 0 → post 1) (hg : 0 < od_c (cm_cp x i) (cm_cp y i) (cm_sum x) (cm_sum y) → post 0) :
    wY_isBefore_24 post (nI s) (nI k) (zi_n (cm_sum x)) rw cl pa sp nu pt wh mx gt (n + 1) (nI i) := by
  have e := xi_48 s k i
  have e2 := xi_16 s k
  have b := ar_cmp (bx i hi).1 (bx i hi).2 (b_y i hi).1 (b_y i hi).2 (cm_b_sum bx).1 (cm_b_sum bx).2 (cm_b_sum b_y).1 (cm_b_sum b_y).2
  have z0 : (0 : Int32) = zi_n 0 := rfl
  refine br_f (nI_ge (b := 3) (by omega) (by decide)) ⟨pk_in i 3 hi, pk_in _ 32 (by omega) e2, pk_in _ 96 (by omega) e, fun v ev => ?_⟩
  rw [e, e2, nI_clamp (by omega), nI_clamp (by omega), nI_clamp (by omega), hm i hi, hy i hi, hw, zi_mul, zi_mul, zi_sub] at ev
  have ev : v = zi_n (od_c (cm_cp x i) (cm_cp y i) (cm_sum x) (cm_sum y)) := ev
  rw [ev]
  by_cases c : od_c (cm_cp x i) (cm_cp y i) (cm_sum x) (cm_sum y) = 0
  · refine br_t (by rw [c]; rfl) fun z ez => ?_
    rw [ez, nI_1]; exact h0 c
  · refine br_f (by rw [z0]; exact fun h => c ((zi_eq (by omega) (by omega) (by decide) (by decide)).mp h)) ?_
    by_cases c2 : 0 ≤ od_c (cm_cp x i) (cm_cp y i) (cm_sum x) (cm_sum y)
    · exact br_t (by rw [z0]; exact (zi_le (by decide) (by decide) (by omega) (by omega)).mpr c2) (hg (by omega))
    · exact br_f (by rw [z0]; exact fun h => c2 ((zi_le (by decide) (by decide) (by omega) (by omega)).mp h)) (hn (by omega))
theorem ys_isBefore {post : Int32 → Prop} {s k : Nat} {x y : cm_T} (hs : s < 2) (hk : k < 16) (hm : ∀ i, i < 3 → mx i = zi_n (cm_cp x i)) (hy : ∀ i, i < 3 → pt (48 * s + 3 * k + i) = zi_n (cm_cp y i)) (hw : wh (16 * s + k) = zi_n (cm_sum y)) (bx : cm_b x) (b_y : cm_b y)
    (h1 : od_lt x y → post 1) (h0 : ¬ od_lt x y → post 0) : wpY_isBefore post (rw, cl, pa, sp, nu, pt, wh, mx, gt) (nI s) (nI k) := by
  intro v ev
  have ev : v = zi_n (cm_sum x) := by
    rw [ev, hm 0 (by decide), hm 1 (by decide), hm 2 (by decide), zi_add, zi_add]; rfl
  rw [ev]
  have L : od_lt x y ↔ (od_c (cm_cp x 0) (cm_cp y 0) (cm_sum x) (cm_sum y) < 0 ∨ (od_c (cm_cp x 0) (cm_cp y 0) (cm_sum x) (cm_sum y) = 0 ∧ (od_c (cm_cp x 1) (cm_cp y 1) (cm_sum x) (cm_sum y) < 0 ∨ (od_c (cm_cp x 1) (cm_cp y 1) (cm_sum x) (cm_sum y) = 0 ∧ od_c (cm_cp x 2) (cm_cp y 2) (cm_sum x) (cm_sum y) < 0)))) := Iff.rfl
  rw [L] at h1 h0
  refine ⟨4, ys_bef_s (n := 3) (i := 0) hs hk (by decide) hm hy hw bx b_y (fun e0 => ?_) (fun h => h1 (by omega)) (fun h => h0 (by omega))⟩
  refine ys_bef_s (n := 2) (i := 1) hs hk (by decide) hm hy hw bx b_y (fun e1 => ?_) (fun h => h1 (by omega)) (fun h => h0 (by omega))
  refine ys_bef_s (n := 1) (i := 2) hs hk (by decide) hm hy hw bx b_y (fun e2 => ?_) (fun h => h1 (by omega)) (fun h => h0 (by omega))
  exact br_t (show (3 : Int32) ≤ nI 3 by decide) (h0 (by omega))
/-- the mix goes to place a -/
theorem ys_k136 {post : SY → Prop} {s a : Nat} {x : cm_T} {m : Nat} (hs : s < 2) (ha : a < 16) (hm : ∀ i, i < 3 → mx i = zi_n (cm_cp x i)) (hn : nu s = nI m)
    (K : ∀ pt', (∀ i, i < 3 → pt' (48 * s + 3 * a + i) = zi_n (cm_cp x i)) → (∀ j, (j < 48 * s + 3 * a ∨ 48 * s + 3 * a + 3 ≤ j) → pt' j = pt j) → post (rw, cl, pa, sp, upd nu s (nI (m + 1)), pt', upd wh (16 * s + a) (zi_n (cm_sum x)), mx, gt)) :
    ∀ (d i n : Nat) (pt0 : Nat → Int32), i + d = 3 → d < n → (∀ t, t < i → pt0 (48 * s + 3 * a + t) = zi_n (cm_cp x t)) → (∀ j, (j < 48 * s + 3 * a ∨ 48 * s + 3 * a + 3 ≤ j) → pt0 j = pt j) → wY_keep_136 post (nI s) (nI a) rw cl n (nI i) pa sp nu pt0 wh mx gt := by
  intro d
  induction d with
  | zero =>
    intro i n pt0 hi hn' h0 h1
    obtain ⟨n, rfl⟩ : ∃ m, n = m + 1 := ⟨n - 1, by omega⟩
    have e : i = 3 := by omega
    subst e
    have e2 := xi_16 s a
    refine br_t (show (3 : Int32) ≤ nI 3 by decide) ⟨pk_in _ 32 (by omega) e2, fun p ep => ⟨pk_in s 2 hs, pk_in s 2 hs, fun q eq => ?_⟩⟩
    rw [e2, nI_clamp (by omega), hm 0 (by decide), hm 1 (by decide), hm 2 (by decide), zi_add, zi_add] at ep
    rw [nI_clamp (by omega), hn, nI_1] at eq
    rw [ep, eq]
    exact K pt0 h0 h1
  | succ d ih =>
    intro i n pt0 hi hn' h0 h1
    obtain ⟨n, rfl⟩ : ∃ m, n = m + 1 := ⟨n - 1, by omega⟩
    have e := xi_48 s a i
    refine br_f (nI_ge (b := 3) (by omega) (by decide)) ⟨pk_in i 3 (by omega), pk_in _ 96 (by omega) e, fun p ep y ey => ?_⟩
    rw [ey, nI_1]
    rw [e, nI_clamp (by omega), nI_clamp (by omega), hm i (by omega)] at ep
    refine ih (i + 1) n p (by omega) (by omega) (fun t ht => ?_) (fun j hj => ?_)
    · by_cases c : t = i
      · rw [ep, c, pk_us]
      · rw [ep, pk_un (by omega)]; exact h0 t (by omega)
    · rw [ep, pk_un (by omega)]; exact h1 j hj
/-- one corner moves up by one place -/
theorem ys_k82 {post : SY → Prop} {J50 : Int32 → (Nat → Int32) → (Nat → Int32) → (Nat → Int32) → (Nat → Int32) → (Nat → Int32) → (Nat → Int32) → (Nat → Int32) → Prop} {x2 : Int32} {s k : Nat} (hs : s < 2) (hk : k + 1 < 16)
    (K : ∀ pt', (∀ i, i < 3 → pt' (48 * s + 3 * (k + 1) + i) = pt (48 * s + 3 * k + i)) → (∀ j, (j < 48 * s + 3 * (k + 1) ∨ 48 * s + 3 * (k + 1) + 3 ≤ j) → pt' j = pt j) → J50 (nI k) pa sp nu pt' wh mx gt) :
    ∀ (d i n : Nat) (pt0 : Nat → Int32), i + d = 3 → d < n → (∀ t, t < i → pt0 (48 * s + 3 * (k + 1) + t) = pt (48 * s + 3 * k + t)) → (∀ j, (j < 48 * s + 3 * (k + 1) ∨ 48 * s + 3 * (k + 1) + 3 ≤ j) → pt0 j = pt j) → wY_keep_82 post J50 (nI s) x2 (nI (k + 1)) rw cl n (nI i) pa sp nu pt0 wh mx gt := by
  intro d
  induction d with
  | zero =>
    intro i n pt0 hi hn' h0 h1
    obtain ⟨n, rfl⟩ : ∃ m, n = m + 1 := ⟨n - 1, by omega⟩
    have e : i = 3 := by omega
    subst e
    refine br_t (show (3 : Int32) ≤ nI 3 by decide) fun y ey => ?_
    rw [ey, pk_m1]
    exact K pt0 h0 h1
  | succ d ih =>
    intro i n pt0 hi hn' h0 h1
    obtain ⟨n, rfl⟩ : ∃ m, n = m + 1 := ⟨n - 1, by omega⟩
    have e := xi_48 s (k + 1) i
    have e2 : (((48 : Int32) * nI s + 3 * nI (k + 1)) - 3) + nI i = nI (48 * s + 3 * k + i) := by
      rw [show (48 : Int32) = nI 48 from rfl, pk_mul, xi_3m, nI_add, show (3 : Int32) = nI 3 from rfl, pk_sub (by omega), nI_add]
      congr 1
    refine br_f (nI_ge (b := 3) (by omega) (by decide)) ⟨pk_in _ 96 (by omega) e2, pk_in _ 96 (by omega) e, fun p ep y ey => ?_⟩
    rw [ey, nI_1]
    rw [e, e2, nI_clamp (by omega), nI_clamp (by omega), h1 _ (by omega)] at ep
    refine ih (i + 1) n p (by omega) (by omega) (fun t ht => ?_) (fun j hj => ?_)
    · by_cases c : t = i
      · rw [ep, c, pk_us]
      · rw [ep, pk_un (by omega)]; exact h0 t (by omega)
    · rw [ep, pk_un (by omega)]; exact h1 j hj
/-- room is made at place a, from k down -/
theorem ys_k50 {post : SY → Prop} {s a : Nat} {x : cm_T} {C : List cm_T} (hs : s < 2) (hC : C.length < 16) (ha : a ≤ C.length) (hm : ∀ i, i < 3 → mx i = zi_n (cm_cp x i)) (hn : nu s = nI C.length)
    (K : ∀ pt' wh', ys_HY pt' wh' s (so_ins C a x) → ys_out s pt pt' wh wh' → post (rw, cl, pa, sp, upd nu s (nI (C.length + 1)), pt', wh', mx, gt)) :
    ∀ (d n : Nat) (pt0 wh0 : Nat → Int32), a + d ≤ C.length → d < n → (∀ k, k < a + d → (∀ i, i < 3 → pt0 (48 * s + 3 * k + i) = zi_n (cm_cp (ys_at C k) i)) ∧ wh0 (16 * s + k) = zi_n (cm_sum (ys_at C k))) →
      (∀ k, a + d ≤ k → k < C.length → (∀ i, i < 3 → pt0 (48 * s + 3 * (k + 1) + i) = zi_n (cm_cp (ys_at C k) i)) ∧ wh0 (16 * s + (k + 1)) = zi_n (cm_sum (ys_at C k))) → ys_out s pt pt0 wh wh0 →
      wY_keep_50 post (nI s) (nI a) rw cl n (nI (a + d)) pa sp nu pt0 wh0 mx gt := by
  intro d
  induction d with
  | zero =>
    intro n pt0 wh0 had hn' h0 h1 ho
    obtain ⟨n, rfl⟩ : ∃ m, n = m + 1 := ⟨n - 1, by omega⟩
    refine br_t (nI_le (Nat.le_refl _) (by omega)) ⟨4, ?_⟩
    refine ys_k136 (m := C.length) hs (by omega) hm hn ?_ 3 0 4 pt0 rfl (by decide) (fun t ht => by omega) (fun _ _ => rfl)
    intro pt' f1 f2
    refine K pt' _ (fun k hk => ?_) (ys_out_trans ho ⟨fun j hj => f2 j (by omega), fun j hj => pk_un (by omega)⟩)
    rw [so_ins_len C ha] at hk
    rw [ys_at, so_ins_getD C ha]
    by_cases c : k < a
    · rw [if_pos c, pk_un (by omega)]
      refine ⟨fun i hi => ?_, (h0 k (by omega)).2⟩
      rw [f2 _ (by omega)]; exact (h0 k (by omega)).1 i hi
    · rw [if_neg c]
      by_cases c2 : k = a
      · rw [if_pos c2, c2, pk_us]; exact ⟨f1, rfl⟩
      · rw [if_neg c2, pk_un (by omega)]
        have := h1 (k - 1) (by omega) (by omega)
        rw [show k - 1 + 1 = k by omega] at this
        refine ⟨fun i hi => ?_, this.2⟩
        rw [f2 _ (by omega)]; exact this.1 i hi
  | succ d ih =>
    intro n pt0 wh0 had hn' h0 h1 ho
    obtain ⟨n, rfl⟩ : ∃ m, n = m + 1 := ⟨n - 1, by omega⟩
    have e1 : (16 : Int32) * nI s + nI (a + (d + 1)) = nI (16 * s + (a + (d + 1))) := xi_16 s _
    have e2 : (16 : Int32) * nI s + nI (a + (d + 1)) - 1 = nI (16 * s + (a + d)) := by rw [e1]; exact nI_pred (16 * s + (a + d))
    refine br_f (nI_ge (by omega) (by omega)) ⟨pk_in _ 32 (by omega) e2, pk_in _ 32 (by omega) e1, fun p ep => ⟨4, ?_⟩⟩
    rw [e2, e1, nI_clamp (by omega), nI_clamp (by omega)] at ep
    refine ys_k82 (k := a + d) (pt := pt0) (J50 := wY_keep_50 post (nI s) (nI a) rw cl n) hs (by omega) ?_ 3 0 4 pt0 rfl (by decide) (fun t ht => by omega) (fun _ _ => rfl)
    intro pt' f1 f2
    refine ih n pt' p (by omega) (by omega) (fun k hk => ?_) (fun k hk hk' => ?_) (ys_out_trans ho ⟨fun j hj => f2 j (by omega), fun j hj => by rw [ep, pk_un (by omega)]⟩)
    · refine ⟨fun i hi => ?_, ?_⟩
      · rw [f2 _ (by omega)]; exact (h0 k (by omega)).1 i hi
      · rw [ep, pk_un (by omega)]; exact (h0 k (by omega)).2
    · by_cases c : k = a + d
      · subst c
        refine ⟨fun i hi => ?_, ?_⟩
        · rw [f1 i hi]; exact (h0 _ (by omega)).1 i hi
        · rw [ep, show 16 * s + (a + d + 1) = 16 * s + (a + (d + 1)) by omega, pk_us]; exact (h0 _ (by omega)).2
      · refine ⟨fun i hi => ?_, ?_⟩
        · rw [f2 _ (by omega)]; exact (h1 k (by omega) hk').1 i hi
        · rw [ep, pk_un (by omega)]; exact (h1 k (by omega) hk').2
theorem ys_k4 {post : SY → Prop} {s : Nat} {x : cm_T} {C : List cm_T} (hs : s < 2) (hC : C.length < 16) (hm : ∀ i, i < 3 → mx i = zi_n (cm_cp x i)) (hn : nu s = nI C.length) (HY : ys_HY pt wh s C) (bx : cm_b x) (bC : ∀ y, y ∈ C → cm_b y)
    (Ks : x ∈ C → post (rw, cl, pa, sp, nu, pt, wh, mx, gt))
    (K : ∀ a pt' wh', a ≤ C.length → (∀ j, a ≤ j → j < C.length → od_lt x (ys_at C j)) → (0 < a → ¬ od_lt x (ys_at C (a - 1))) → x ∉ C → ys_HY pt' wh' s (so_ins C a x) → ys_out s pt pt' wh wh' → post (rw, cl, pa, sp, upd nu s (nI (C.length + 1)), pt', wh', mx, gt)) :
    ∀ (d k n a : Nat), k + d = C.length → d < n → a ≤ k → (∀ j, a ≤ j → j < k → od_lt x (ys_at C j)) → (0 < a → ¬ od_lt x (ys_at C (a - 1))) → (∀ j, j < k → x ≠ ys_at C j) → wY_keep_4 post (nI s) rw cl pa sp nu pt wh mx gt n (nI a) (nI k) := by
  have cs : (nI s).toNatClampNeg = s := nI_clamp (by omega)
  intro d
  induction d with
  | zero =>
    intro k n a hk hn' ha h1 h2 h3
    obtain ⟨n, rfl⟩ : ∃ m, n = m + 1 := ⟨n - 1, by omega⟩
    have e : k = C.length := by omega
    subst e
    refine ⟨pk_in s 2 hs, br_t (by rw [cs, hn]; exact nI_le (Nat.le_refl _) (by omega)) ⟨pk_in s 2 hs, fun y ey => ⟨C.length + 1, ?_⟩⟩⟩
    rw [ey, cs, hn]
    have nm : x ∉ C := fun hx => by
      obtain ⟨j, hj, ej⟩ := so_mem_getD (d := (0, 0, 0)) hx
      exact h3 j hj ej.symm
    have := ys_k50 (a := a) (x := x) (post := post) hs hC ha hm hn (fun pt' wh' g1 g2 => K a pt' wh' ha h1 h2 nm g1 g2) (C.length - a) (C.length + 1) pt wh (by omega) (by omega) (fun k hk => HY k (by omega)) (fun k g1 g2 => by omega) (ys_out_refl s pt wh)
    rw [show a + (C.length - a) = C.length by omega] at this
    exact this
  | succ d ih =>
    intro k n a hk hn' ha h1 h2 h3
    obtain ⟨n, rfl⟩ : ∃ m, n = m + 1 := ⟨n - 1, by omega⟩
    have hk' : k < C.length := by omega
    have hy := HY k hk'
    have b_y := bC _ (so_getD_mem (d := (0, 0, 0)) hk')
    refine ⟨pk_in s 2 hs, br_f (by rw [cs, hn]; exact nI_ge (by omega) (by omega)) ?_⟩
    refine ys_isSame hs (by omega) hm hy.1 bx b_y (fun e => ?_) (fun e => ?_)
    · exact br_f (by decide) (Ks (by rw [e]; exact so_getD_mem hk'))
    · refine br_t rfl ?_
      refine ys_isBefore hs (by omega) hm hy.1 hy.2 bx b_y (fun h => ?_) (fun h => ?_)
      · refine br_f (by decide) fun y ey => ?_
        rw [ey, nI_1]
        refine ih (k + 1) n a (by omega) (by omega) (by omega) (fun j g1 g2 => ?_) h2 (fun j g => ?_)
        · by_cases c : j = k
          · rw [c]; exact h
          · exact h1 j g1 (by omega)
        · by_cases c : j = k
          · rw [c]; exact e
          · exact h3 j (by omega)
      · refine br_t rfl fun y ey z ez => ?_
        rw [ey, ez, nI_1]
        refine ih (k + 1) n (k + 1) (by omega) (by omega) (Nat.le_refl _) (fun j g1 g2 => by omega) (fun _ => h) (fun j g => ?_)
        by_cases c : j = k
        · rw [c]; exact e
        · exact h3 j (by omega)
/-- sorted lists of corners: what keep does to them -/
def ys_ins (C : List cm_T) (x : cm_T) (C' : List cm_T) : Prop := C'.Pairwise od_lt ∧ (∀ y, y ∈ C' ↔ y ∈ C ∨ y = x)
theorem ys_keep {post : SY → Prop} {s : Nat} {x : cm_T} {C : List cm_T} (hs : s < 2) (hC : C.length < 16) (hm : ∀ i, i < 3 → mx i = zi_n (cm_cp x i)) (hn : nu s = nI C.length) (HY : ys_HY pt wh s C) (bx : cm_b x) (bC : ∀ y, y ∈ C → cm_b y) (okx : od_ok x) (okC : ∀ y, y ∈ C → od_ok y) (srt : C.Pairwise od_lt)
    (K : ∀ nu' pt' wh' C', ys_ins C x C' → nu' s = nI C'.length → (∀ j, j ≠ s → nu' j = nu j) → ys_HY pt' wh' s C' → ys_out s pt pt' wh wh' → post (rw, cl, pa, sp, nu', pt', wh', mx, gt)) : wpY_keep post (rw, cl, pa, sp, nu, pt, wh, mx, gt) (nI s) := by
  refine ⟨C.length + 1, ys_k4 hs hC hm hn HY bx bC (fun hx => ?_) ?_ C.length 0 _ 0 (by omega) (by omega) (Nat.le_refl _) (fun j _ h => by omega) (fun h => by omega) (fun j h => by omega)⟩
  · exact K nu pt wh C ⟨srt, fun y => ⟨Or.inl, fun h => by
      rcases h with h | h
      · exact h
      · rw [h]; exact hx⟩⟩ hn (fun _ _ => rfl) HY (ys_out_refl s pt wh)
  · intro a pt' wh' ha h1 h2 nm h3 h4
    refine K _ pt' wh' (so_ins C a x) ⟨?_, fun y => so_ins_mem C a x y⟩ (by rw [pk_us, so_ins_len C ha]) (fun j hj => pk_un hj) h3 h4
    refine so_place (d := (0, 0, 0)) srt (fun y z hy hz r1 r2 => od_trans (okC y hy).1 (okC z hz).1 okx.1 r1 r2) (fun y hy => ?_) ha h1 h2
    rcases od_tri okx (okC y hy) with g | g | g
    · exact Or.inl g
    · rw [g] at nm; exact absurd hy nm
    · exact Or.inr g
end
end
section
/-! the reference's corners of a side -/
theorem xi_sub : ∀ S, S < 8 → ∀ own, own < 8 → nI S &&& (nI own ^^^ (-1 : Int32)) = nI (S &&& (7 ^^^ own)) := by decide +kernel
theorem ys_sub0 : ∀ S, S < 8 → ∀ own, own < 8 → ((S &&& (7 ^^^ own)) == 0) = ((!S.testBit 0 || own.testBit 0) && ((!S.testBit 1 || own.testBit 1) && (!S.testBit 2 || own.testBit 2))) := by decide +kernel
theorem ys_sub_iff {S own : Nat} (hS : S < 8) (ho : own < 8) : S &&& (7 ^^^ own) = 0 ↔ ∀ c, c < 3 → S.testBit c = true → own.testBit c = true := by
  have e := ys_sub0 S hS own ho
  constructor
  · intro h c hc b
    rw [h] at e
    have e := e.symm
    rw [beq_self_eq_true, Bool.and_eq_true, Bool.and_eq_true] at e
    obtain ⟨e0, e1, e2⟩ := e
    match c, hc with
    | 0, _ => rw [b] at e0; simpa using e0
    | 1, _ => rw [b] at e1; simpa using e1
    | 2, _ => rw [b] at e2; simpa using e2
  · intro h
    have f : ∀ c, c < 3 → (!S.testBit c || own.testBit c) = true := by
      intro c hc
      cases b : S.testBit c with
      | false => rfl
      | true => rw [h c hc b]; rfl
    rw [f 0 (by decide), f 1 (by decide), f 2 (by decide)] at e
    exact beq_iff_eq.mp e
theorem ys_and8 {S m : Nat} (hS : S < 8) : S &&& m < 8 := Nat.lt_of_le_of_lt Nat.and_le_left hS
/-- numbers of the gets of a mix -/
theorem ar_g9 {x a : Int} (h0 : 0 ≤ x) (h1 : x ≤ 648) (a0 : 1 ≤ a) (a1 : a ≤ 19) : -5832 ≤ x * (a - 10) ∧ x * (a - 10) ≤ 5832 := by
  have h2 := Int.mul_nonneg h0 (show 0 ≤ 19 - a by omega)
  have h3 := Int.mul_nonneg h0 (show 0 ≤ a - 1 by omega)
  rw [Int.mul_sub] at h2 h3 ⊢
  omega
theorem ys_gp_b {A : Nat → Nat → Int} (hA : cm_Rng A) {x : cm_T} (bx : cm_b x) {j : Nat} (hj : j < 3) : -17496 ≤ ys_gp A x j 3 ∧ ys_gp A x j 3 ≤ 17496 := by
  have p0 := ar_g9 (bx 0 (by decide)).1 (bx 0 (by decide)).2 (hA 0 j (by decide) hj).1 (hA 0 j (by decide) hj).2
  have p1 := ar_g9 (bx 1 (by decide)).1 (bx 1 (by decide)).2 (hA 1 j (by decide) hj).1 (hA 1 j (by decide) hj).2
  have p2 := ar_g9 (bx 2 (by decide)).1 (bx 2 (by decide)).2 (hA 2 j (by decide) hj).1 (hA 2 j (by decide) hj).2
  show -17496 ≤ 0 + cm_cp x 0 * (A 0 j - 10) + cm_cp x 1 * (A 1 j - 10) + cm_cp x 2 * (A 2 j - 10) ∧ 0 + cm_cp x 0 * (A 0 j - 10) + cm_cp x 1 * (A 1 j - 10) + cm_cp x 2 * (A 2 j - 10) ≤ 17496
  omega
theorem ys_gp_le {A : Nat → Nat → Int} {x : cm_T} {i j : Nat} : ys_gp A x i 3 ≤ ys_gp A x j 3 ↔ cm_val A x i ≤ cm_val A x j := by
  rw [ys_gp_3, ys_gp_3]; omega
theorem ys_mx_best {A : Nat → Nat → Int} (hA : cm_Rng A) {x : cm_T} (bx : cm_b x) {other : Nat} (hne : ∃ j, j < 3 ∧ other.testBit j = true) {j : Nat} (hj : j < 3) (hb : other.testBit j = true) : ys_gp A x j 3 = ys_mx (fun j => ys_gp A x j 3) other 3 ↔ cm_Best A other x j := by
  obtain ⟨k, k1, k2, k3⟩ := ys_mx_at (g := fun j => ys_gp A x j 3) (m := other) (fun j hj => by have := ys_gp_b hA bx hj; omega) 3 (Nat.le_refl _) hne
  constructor
  · intro e o ho bo
    rw [← ys_gp_le, e]
    exact ys_mx_ge (g := fun j => ys_gp A x j 3) 3 o ho bo
  · intro h
    have h1 := ys_mx_ge (g := fun j => ys_gp A x j 3) (m := other) 3 j hj hb
    have h2 := ys_gp_le.mpr (h k k1 k2)
    have h1 : ys_gp A x j 3 ≤ ys_mx (fun j => ys_gp A x j 3) other 3 := h1
    have k3 : ys_mx (fun j => ys_gp A x j 3) other 3 = ys_gp A x k 3 := k3
    omega
theorem ys_low_bit {other : Nat} (h8 : other < 8) (h0 : 0 < other) : ∃ j, j < 3 ∧ other.testBit j = true := by
  obtain ⟨h1, h2, _⟩ := dd_low_spec other h8 h0
  exact ⟨_, h1, h2⟩
theorem cm_Cor_b {A : Nat → Nat → Int} {own other : Nat} {x : cm_T} (hA : cm_Rng A) (C : cm_Cor A own other x) : cm_b x := by
  obtain ⟨h0, h1, h2⟩ := cm_bnd hA C
  intro i hi
  match i, hi with
  | 0, _ => exact h0
  | 1, _ => exact h1
  | 2, _ => exact h2
/-- a list of different corners is short -/
theorem cm_short {A : Nat → Nat → Int} {own other : Nat} (ho : own < 8) (h8 : other < 8) (h0 : 0 < other) {C : List cm_T} (srt : C.Pairwise od_lt) (hC : ∀ x, x ∈ C → cm_Cor A own other x) : C.length ≤ 8 := by
  have nd : C.Nodup := srt.imp (fun r e => by rw [e] at r; exact od_irr _ r)
  have sub : C ⊆ (dd_fin A own other).map (fun e => dd_tr e.1) := by
    intro x hx
    obtain ⟨e, he, ex⟩ := (dd_fin_cor ho h8 h0 x).mp (hC x hx)
    exact List.mem_map.mpr ⟨e, he, ex⟩
  have := List.Nodup.length_le_of_subset nd sub
  rw [List.length_map] at this
  have := dd_fin_len A ho h8 h0
  omega
def ys_FI (A B : Nat → Nat → Int) (own other st : Nat) (C : List cm_T) : Prop :=
  C.Pairwise od_lt ∧ (∀ x, x ∈ C → cm_Cor A own other x) ∧ (∀ t, t < st → ∀ x, ys_hit A B own other (t / 8) (t % 8) x → x ∈ C)
theorem ys_FI_no {A B : Nat → Nat → Int} {own other st : Nat} {C : List cm_T} (h : ys_FI A B own other st C) (hn : ∀ x, ¬ ys_hit A B own other (st / 8) (st % 8) x) : ys_FI A B own other (st + 1) C := by
  refine ⟨h.1, h.2.1, fun t ht x hx => ?_⟩
  by_cases c : t = st
  · rw [c] at hx; exact absurd hx (hn x)
  · exact h.2.2 t (by omega) x hx
theorem ys_FI_yes {A B : Nat → Nat → Int} {own other st : Nat} {C C' : List cm_T} {x : cm_T} (h8 : other < 8) (h0 : 0 < other) (AB : ys_AB A B) (h : ys_FI A B own other st C) (hx : ys_hit A B own other (st / 8) (st % 8) x) (hi : ys_ins C x C') : ys_FI A B own other (st + 1) C' := by
  refine ⟨hi.1, fun y hy => ?_, fun t ht y hy => ?_⟩
  · rcases (hi.2 y).mp hy with g | g
    · exact h.2.1 y g
    · rw [g]; exact cm_of_hit h8 h0 AB hx
  · rw [hi.2]
    by_cases c : t = st
    · right
      rw [c] at hy
      have e1 : y = ys_nrm (ys_raw B (st / 8) (st % 8)) := hy.2.2.2.2.2.2.2.1
      have e2 : x = ys_nrm (ys_raw B (st / 8) (st % 8)) := hx.2.2.2.2.2.2.2.1
      rw [e1, e2]
    · exact Or.inl (h.2.2 t (by omega) y hy)
section
variable {rw cl : Int32} {pa sp nu pt wh mx gt : Nat → Int32} {P : Nat → Int}
/-- whether all ties are as good as can be, then keep -/
theorem ys_f125 {post : SY → Prop} {J10 : Int32 → Int32 → Int32 → (Nat → Int32) → (Nat → Int32) → (Nat → Int32) → (Nat → Int32) → (Nat → Int32) → (Nat → Int32) → (Nat → Int32) → Prop} {x2 x3 x4 : Int32} {s st T : Nat} {g : Nat → Int} {M : Int} (T8 : T < 8) (hg : ∀ j, j < 3 → gt j = zi_n (g j)) (hb : ∀ j, j < 3 → -1000000 < g j ∧ g j ≤ 1000000) (hM : -1000000 ≤ M ∧ M ≤ 1000000)
    (K1 : (∀ j, j < 3 → T.testBit j = true → g j = M) → wpY_keep (fun u => match u with | (rw, cl, pa, sp, nu, pt, wh, mx, gt) => J10 (nI (st + 1)) rw cl pa sp nu pt wh mx gt) (rw, cl, pa, sp, nu, pt, wh, mx, gt) (nI s)) (K0 : (∃ j, j < 3 ∧ T.testBit j = true ∧ g j ≠ M) → J10 (nI (st + 1)) rw cl pa sp nu pt wh mx gt) :
    ∀ (d j n : Nat) (all : Bool), j + d = 3 → d < n → (all = true → ∀ k, k < j → T.testBit k = true → g k = M) → (all = false → ∃ k, k < 3 ∧ T.testBit k = true ∧ g k ≠ M) → wY_findCorners_125 post J10 (nI s) x2 x3 x4 (nI st) (nI T) (zi_n M) rw cl pa sp nu pt wh mx gt n (xs_bI all) (nI j) := by
  intro d
  induction d with
  | zero =>
    intro j n all hj hn h1 h0
    obtain ⟨n, rfl⟩ : ∃ m, n = m + 1 := ⟨n - 1, by omega⟩
    have e : j = 3 := by omega
    subst e
    refine br_t (show (3 : Int32) ≤ nI 3 by decide) ?_
    cases all with
    | false =>
      refine br_t rfl fun y ey => ?_
      rw [ey, nI_1]
      exact K0 (h0 rfl)
    | true =>
      refine br_f (by decide) ?_
      have k := K1 (h1 rfl)
      refine (show wpY_keep (fun u => match u with | (rw, cl, pa, sp, nu, pt, wh, mx, gt) => (∀ y, y = nI st + 1 → J10 y rw cl pa sp nu pt wh mx gt)) (rw, cl, pa, sp, nu, pt, wh, mx, gt) (nI s) from ?_)
      have e : (fun u : SY => match u with | (rw, cl, pa, sp, nu, pt, wh, mx, gt) => (∀ y, y = nI st + 1 → J10 y rw cl pa sp nu pt wh mx gt)) = (fun u : SY => match u with | (rw, cl, pa, sp, nu, pt, wh, mx, gt) => J10 (nI (st + 1)) rw cl pa sp nu pt wh mx gt) := by
        funext u
        obtain ⟨a1, a2, a3, a4, a5, a6, a7, a8, a9⟩ := u
        apply propext
        constructor
        · intro h; have := h _ rfl; rw [nI_1] at this; exact this
        · intro h y ey; rw [ey, nI_1]; exact h
      rw [e]
      exact k
  | succ d ih =>
    intro j n all hj hn h1 h0
    obtain ⟨n, rfl⟩ : ∃ m, n = m + 1 := ⟨n - 1, by omega⟩
    have hj3 : j < 3 := by omega
    have e := xi_bit (m := T) (k := j) (by omega) (by omega)
    have bj := hb j hj3
    refine br_f (nI_ge (b := 3) (by omega) (by decide)) ?_
    cases b : T.testBit j with
    | true =>
      rw [b, xi_b1] at e
      refine br_t e ⟨pk_in j 3 hj3, ?_⟩
      rw [nI_clamp (by omega), hg j hj3]
      by_cases c : g j = M
      · refine br_t (by rw [c]) fun y ey => ?_
        rw [ey, nI_1]
        refine ih (j + 1) n all (by omega) (by omega) (fun ha k hk bk => ?_) h0
        by_cases ek : k = j
        · rw [ek]; exact c
        · exact h1 ha k (by omega) bk
      · refine br_f (fun h => c ((zi_eq (by omega) (by omega) (by omega) (by omega)).mp h)) fun y ey => ?_
        rw [ey, nI_1]
        exact ih (j + 1) n false (by omega) (by omega) (fun h => absurd h (by decide)) (fun _ => ⟨j, hj3, b, c⟩)
    | false =>
      rw [b, xi_b0] at e
      refine br_f (by rw [e]; decide) fun y ey => ?_
      rw [ey, nI_1]
      refine ih (j + 1) n all (by omega) (by omega) (fun ha k hk bk => ?_) h0
      by_cases ek : k = j
      · rw [ek, b] at bk; exact absurd bk (by decide)
      · exact h1 ha k (by omega) bk
theorem ys_nrm_b {B : Nat → Nat → Int} {S T : Nat} (hB : ∀ c j k, c < 3 → j < 3 → k < 3 → -18 ≤ ys_d B c j k ∧ ys_d B c j k ≤ 18) (S8 : S < 8) (S0 : 0 < S) (T8 : T < 8) (T0 : 0 < T) (ws : ys_raw B S T 0 + ys_raw B S T 1 + ys_raw B S T 2 ≠ 0) (nn : ys_nn (ys_nrm (ys_raw B S T))) : cm_b (ys_nrm (ys_raw B S T)) := by
  obtain ⟨g, hg, e0, e1, e2, en⟩ := ys_nrm_e ws
  have b0 := ys_rb hB S8 S0 T8 T0 (i := 0) (by decide)
  have b1 := ys_rb hB S8 S0 T8 T0 (i := 1) (by decide)
  have b2 := ys_rb hB S8 S0 T8 T0 (i := 2) (by decide)
  have hσ := ys_sg_1 (ys_raw B S T)
  intro i hi
  match i, hi with
  | 0, _ => exact ⟨nn.1, ar_sgb hg hσ nn.1 e0 b0.1 b0.2⟩
  | 1, _ => exact ⟨nn.2.1, ar_sgb hg hσ nn.2.1 e1 b1.1 b1.2⟩
  | 2, _ => exact ⟨nn.2.2, ar_sgb hg hσ nn.2.2 e2 b2.1 b2.2⟩
theorem ys_fc10 {post : SY → Prop} (hp : pm_ok pa P) {s own other : Nat} (fl : Bool) (hs : s < 2) (ho : own < 8) (h8 : other < 8) (h0 : 0 < other)
    (K : ∀ nu' pt' wh' mx' gt' C, nu' s = nI C.length → (∀ j, j ≠ s → nu' j = nu j) → ys_HY pt' wh' s C → ys_out s pt pt' wh wh' → ys_FI (pm_A P s fl) (pm_B P s fl) own other 64 C → post (rw, cl, pa, sp, nu', pt', wh', mx', gt')) :
    ∀ (d st n : Nat) (nu0 pt0 wh0 mx0 gt0 : Nat → Int32) (C : List cm_T), st + d = 64 → d < n → nu0 s = nI C.length → (∀ j, j ≠ s → nu0 j = nu j) → ys_HY pt0 wh0 s C → ys_out s pt pt0 wh wh0 → ys_FI (pm_A P s fl) (pm_B P s fl) own other st C →
      wY_findCorners_10 post (nI s) (nI own) (nI other) (xs_bI fl) n (nI st) rw cl pa sp nu0 pt0 wh0 mx0 gt0 := by
  have hA := pm_rng hp s fl
  have AB := pm_AB P hs fl
  have hB : ∀ c j k, c < 3 → j < 3 → k < 3 → -18 ≤ ys_d (pm_B P s fl) c j k ∧ ys_d (pm_B P s fl) c j k ≤ 18 := by
    intro c j k _ _ _
    have h1 := hp (9 * pm_w s fl + (if s = 0 then 3 * c + j else 3 * j + c))
    have h2 := hp (9 * pm_w s fl + (if s = 0 then 3 * c + k else 3 * k + c))
    simp only [ys_d, pm_B, pm_V]
    omega
  have hpw : pm_w s fl < 2 := by
    rw [pm_w]; split <;> omega
  intro d
  induction d with
  | zero =>
    intro st n nu0 pt0 wh0 mx0 gt0 C hst hn hnu hnj HY hout FI
    obtain ⟨n, rfl⟩ : ∃ m, n = m + 1 := ⟨n - 1, by omega⟩
    have e : st = 64 := by omega
    subst e
    exact br_t (show (64 : Int32) ≤ nI 64 by decide) (K nu0 pt0 wh0 mx0 gt0 C hnu hnj HY hout FI)
  | succ d ih =>
    intro st n nu0 pt0 wh0 mx0 gt0 C hst hn hnu hnj HY hout FI
    obtain ⟨n, rfl⟩ : ∃ m, n = m + 1 := ⟨n - 1, by omega⟩
    have S8 : st / 8 < 8 := by omega
    have T8 : st % 8 < 8 := Nat.mod_lt _ (by decide)
    have e8 : (8 : Int32) = nI 8 := rfl
    refine br_f (nI_ge (b := 64) (by omega) (by decide)) ⟨by decide, fun x ex => ⟨by decide, fun y ey => ?_⟩⟩
    rw [e8, pk_div (by omega) (by decide) (by decide)] at ex
    rw [e8, pk_rem (by omega) (by decide) (by decide)] at ey
    rw [ex, ey]
    -- nothing to keep here
    have skip : (∀ x, ¬ ys_hit (pm_A P s fl) (pm_B P s fl) own other (st / 8) (st % 8) x) → ∀ mx' gt', wY_findCorners_10 post (nI s) (nI own) (nI other) (xs_bI fl) n (nI (st + 1)) rw cl pa sp nu0 pt0 wh0 mx' gt' :=
      fun hno mx' gt' => ih (st + 1) n nu0 pt0 wh0 mx' gt' C (by omega) (by omega) hnu hnj HY hout (ys_FI_no FI hno)
    have k73 : (∀ x, ¬ ys_hit (pm_A P s fl) (pm_B P s fl) own other (st / 8) (st % 8) x) → wY_findCorners_73 post (wY_findCorners_10 post (nI s) (nI own) (nI other) (xs_bI fl) n) (nI s) (nI own) (nI other) (xs_bI fl) (nI st) (nI (st / 8)) (nI (st % 8)) rw cl pa sp nu0 pt0 wh0 mx0 gt0 := by
      intro hno
      unfold wY_findCorners_73
      refine br_t rfl fun z ez => ?_
      rw [ez, nI_1]
      exact skip hno mx0 gt0
    by_cases c1 : st / 8 = 0
    · refine br_t (by rw [c1]; decide) (k73 fun x h => ?_)
      have : 0 < st / 8 := h.2.2.1
      omega
    · refine br_f (nI_nle (by omega) (by omega)) ?_
      rw [xi_sub _ S8 own ho, xi_sub _ T8 other h8]
      have l1 := ys_and8 (m := 7 ^^^ own) S8
      have l2 := ys_and8 (m := 7 ^^^ other) T8
      by_cases c2 : st / 8 &&& (7 ^^^ own) = 0
      · refine br_t (by rw [c2]; rfl) ?_
        by_cases c3 : st % 8 &&& (7 ^^^ other) = 0
        · refine br_t (by rw [c3]; rfl) ?_
          refine ys_size S8 (ys_size T8 ?_)
          have q1 : ys_sz (st / 8) ≤ 3 := by
            have : ∀ S, S < 8 → ys_sz S ≤ 3 := by decide
            exact this _ S8
          have q2 : ys_sz (st % 8) ≤ 3 := by
            have : ∀ S, S < 8 → ys_sz S ≤ 3 := by decide
            exact this _ T8
          by_cases c4 : ys_sz (st / 8) = ys_sz (st % 8)
          · refine br_t (by rw [c4]) (br_f (by decide) ?_)
            have S0 : 0 < st / 8 := by omega
            have T0 := ys_T0 S8 S0 c4
            have Ssub := (ys_sub_iff S8 ho).mp c2
            have Tsub := (ys_sub_iff T8 h8).mp c3
            have k94 : wY_findCorners_94 post (wY_findCorners_10 post (nI s) (nI own) (nI other) (xs_bI fl) n) (nI s) (nI own) (nI other) (xs_bI fl) (nI st) (nI (st / 8)) (nI (st % 8)) (nI (pm_w s fl)) rw cl pa sp nu0 pt0 wh0 mx0 gt0 := by
              unfold wY_findCorners_94
              refine ys_solve hp hpw hs S8 S0 T8 T0 (fun ws nn mx' hmx => ?_) (fun hno mx' => ?_)
              · refine br_f (by decide) ?_
                have bx : cm_b (ys_nrm (ys_raw (pm_B P s fl) (st / 8) (st % 8))) := ys_nrm_b hB S8 S0 T8 T0 ws nn
                refine ys_against hp fl hs (x := ys_nrm (ys_raw (pm_B P s fl) (st / 8) (st % 8))) hmx fun gt' hgt => ?_
                have hgb : ∀ j, j < 3 → -1000000 < ys_gp (pm_A P s fl) (ys_nrm (ys_raw (pm_B P s fl) (st / 8) (st % 8))) j 3 ∧ ys_gp (pm_A P s fl) (ys_nrm (ys_raw (pm_B P s fl) (st / 8) (st % 8))) j 3 ≤ 1000000 := fun j hj => by
                  have := ys_gp_b hA bx hj
                  omega
                refine ys_greatest h8 hgt hgb ⟨4, ?_⟩
                have best : ∀ j, j < 3 → (st % 8).testBit j = true → (ys_gp (pm_A P s fl) (ys_nrm (ys_raw (pm_B P s fl) (st / 8) (st % 8))) j 3 = ys_mx (fun j => ys_gp (pm_A P s fl) (ys_nrm (ys_raw (pm_B P s fl) (st / 8) (st % 8))) j 3) other 3 ↔ cm_Best (pm_A P s fl) other (ys_nrm (ys_raw (pm_B P s fl) (st / 8) (st % 8))) j) :=
                  fun j hj b => ys_mx_best hA bx (ys_low_bit h8 h0) hj (Tsub j hj b)
                refine ys_f125 (st := st) (s := s) (T := st % 8) T8 hgt hgb (ys_mx_b hgb 3 (Nat.le_refl _)) (fun hall => ?_) (fun hno => ?_) 3 0 4 true rfl (by decide) (fun _ k hk => by omega) (fun h => absurd h (by decide))
                · have hit : ys_hit (pm_A P s fl) (pm_B P s fl) own other (st / 8) (st % 8) (ys_nrm (ys_raw (pm_B P s fl) (st / 8) (st % 8))) :=
                    ⟨S8, T8, S0, Ssub, Tsub, c4, ws, rfl, nn, fun j hj b => (best j hj b).mp (hall j hj b)⟩
                  have cor := cm_of_hit h8 h0 AB hit
                  have hlen := cm_short ho h8 h0 FI.1 FI.2.1
                  refine ys_keep hs (by omega) hmx hnu HY bx (fun y hy => cm_Cor_b hA (FI.2.1 y hy)) (cm_ok cor) (fun y hy => cm_ok (FI.2.1 y hy)) FI.1 ?_
                  intro nu' pt' wh' C' hins h1 h2 h3 h4
                  exact ih (st + 1) n nu' pt' wh' mx' gt' C' (by omega) (by omega) h1 (fun j hj => by rw [h2 j hj]; exact hnj j hj) h3 (ys_out_trans hout h4) (ys_FI_yes h8 h0 AB FI hit hins)
                · refine skip (fun x hx => ?_) mx' gt'
                  obtain ⟨j, hj, b, ne⟩ := hno
                  have e2 : x = ys_nrm (ys_raw (pm_B P s fl) (st / 8) (st % 8)) := hx.2.2.2.2.2.2.2.1
                  have := hx.2.2.2.2.2.2.2.2.2 j hj b
                  rw [e2] at this
                  exact ne ((best j hj b).mpr this)
              · refine br_t rfl fun z ez => ?_
                rw [ez, nI_1]
                refine skip (fun x hx => ?_) mx' gt0
                obtain ⟨_, _, _, _, _, _, ws, ex, nn, _⟩ := hx
                rcases hno with h | h
                · exact ws h
                · rw [ex] at nn; exact h nn
            cases fl with
            | false =>
              refine br_t rfl ?_
              rw [xi_1m hs]
              exact k94
            | true => exact br_f (by decide) k94
          · refine br_f (fun h => c4 ((nI_eq (by omega) (by omega)).mp h)) (k73 fun x h => c4 h.2.2.2.2.2.1)
        · refine br_f (fun h => c3 ((nI_eq (b := 0) (by omega) (by decide)).mp h)) (k73 fun x h => c3 ((ys_sub_iff T8 h8).mpr h.2.2.2.2.1))
      · refine br_f (fun h => c2 ((nI_eq (b := 0) (by omega) (by decide)).mp h)) (k73 fun x h => c2 ((ys_sub_iff S8 ho).mpr h.2.2.2.1))
theorem ys_findCorners {post : SY → Prop} (hp : pm_ok pa P) {s own other : Nat} (fl : Bool) (hs : s < 2) (ho : own < 8) (h8 : other < 8) (h0 : 0 < other)
    (K : ∀ nu' pt' wh' mx' gt' C, nu' s = nI C.length → (∀ j, j ≠ s → nu' j = nu j) → ys_HY pt' wh' s C → ys_out s pt pt' wh wh' → C.Pairwise od_lt → (∀ x, x ∈ C ↔ cm_Cor (pm_A P s fl) own other x) → C.length ≤ 8 → post (rw, cl, pa, sp, nu', pt', wh', mx', gt')) :
    wpY_findCorners post (rw, cl, pa, sp, nu, pt, wh, mx, gt) (nI s) (nI own) (nI other) (xs_bI fl) := by
  refine ⟨pk_in s 2 hs, fun a ea => ⟨65, ?_⟩⟩
  rw [nI_clamp (by omega)] at ea
  refine ys_fc10 hp fl hs ho h8 h0 ?_ 64 0 65 a pt wh mx gt [] rfl (by decide) (by rw [ea, pk_us]; rfl) (fun j hj => by rw [ea, pk_un hj]) (fun k hk => by simp at hk) (ys_out_refl s pt wh) ⟨List.Pairwise.nil, fun x hx => absurd hx List.not_mem_nil, fun t ht => by omega⟩
  intro nu' pt' wh' mx' gt' C h1 h2 h3 h4 FI
  refine K nu' pt' wh' mx' gt' C h1 h2 h3 h4 FI.1 (fun x => ⟨FI.2.1 x, fun hx => ?_⟩) (cm_short ho h8 h0 FI.1 FI.2.1)
  obtain ⟨S, T, H⟩ := cm_hit (pm_AB P hs fl) hx
  have S8 := H.1
  have T8 := H.2.1
  refine FI.2.2 (8 * S + T) (by omega) x ?_
  rw [show (8 * S + T) / 8 = S by omega, show (8 * S + T) % 8 = T by omega]
  exact H
end
end
section
/-! the reference's list of equilibria -/
noncomputable def ye_b (Q : Nat → Nat → Prop) (k l : Nat) : List (Nat × Nat) := @ite _ (Q k l) (Classical.propDecidable _) [(k, l)] []
theorem ye_b_t {Q : Nat → Nat → Prop} {k l : Nat} (h : Q k l) : ye_b Q k l = [(k, l)] := by unfold ye_b; exact if_pos h
theorem ye_b_f {Q : Nat → Nat → Prop} {k l : Nat} (h : ¬ Q k l) : ye_b Q k l = [] := by unfold ye_b; exact if_neg h
theorem ye_b_mem {Q : Nat → Nat → Prop} {k l : Nat} {z : Nat × Nat} : z ∈ ye_b Q k l ↔ z = (k, l) ∧ Q k l := by
  by_cases h : Q k l
  · rw [ye_b_t h, List.mem_singleton]; exact ⟨fun e => ⟨e, h⟩, fun e => e.1⟩
  · rw [ye_b_f h]; exact ⟨fun e => absurd e List.not_mem_nil, fun e => absurd e.2 h⟩
noncomputable def ye_row (Q : Nat → Nat → Prop) (b k : Nat) : List (Nat × Nat) := (List.range b).flatMap (ye_b Q k)
noncomputable def ye_D (Q : Nat → Nat → Prop) (a b : Nat) : List (Nat × Nat) := (List.range a).flatMap (ye_row Q b)
noncomputable def ye_pt (Q : Nat → Nat → Prop) (b k l : Nat) : List (Nat × Nat) := (List.range k).flatMap (ye_row Q b) ++ (List.range l).flatMap (ye_b Q k)
theorem ye_pt_s (Q : Nat → Nat → Prop) (b k l : Nat) : ye_pt Q b k (l + 1) = ye_pt Q b k l ++ ye_b Q k l := by
  rw [ye_pt, ye_pt, List.range_succ, List.flatMap_append]; simp
theorem ye_pt_n (Q : Nat → Nat → Prop) (b k : Nat) : ye_pt Q b k b = ye_pt Q b (k + 1) 0 := by
  rw [ye_pt, ye_pt, List.range_succ, List.flatMap_append]; simp [ye_row]
theorem ye_pt_e (Q : Nat → Nat → Prop) (a b : Nat) : ye_pt Q b a 0 = ye_D Q a b := by simp [ye_pt, ye_D]
theorem fm_pre {β : Type} (f : Nat → List β) (k : Nat) : ∀ d, ∃ R, (List.range (k + d)).flatMap f = (List.range k).flatMap f ++ R := by
  intro d
  induction d with
  | zero => exact ⟨[], by simp⟩
  | succ d ih =>
    obtain ⟨R, e⟩ := ih
    refine ⟨R ++ f (k + d), ?_⟩
    rw [show k + (d + 1) = (k + d) + 1 from rfl, List.range_succ, List.flatMap_append, e]
    simp
theorem ye_pre (Q : Nat → Nat → Prop) {a b k l : Nat} (hk : k < a) (hl : l ≤ b) : ∃ R, ye_D Q a b = ye_pt Q b k l ++ R := by
  obtain ⟨R1, e1⟩ := fm_pre (ye_row Q b) (k + 1) (a - (k + 1))
  obtain ⟨R2, e2⟩ := fm_pre (ye_b Q k) l (b - l)
  rw [show k + 1 + (a - (k + 1)) = a by omega] at e1
  rw [show l + (b - l) = b by omega] at e2
  refine ⟨R2 ++ R1, ?_⟩
  rw [ye_D, e1, List.range_succ, List.flatMap_append, ye_pt]
  simp only [List.flatMap_cons, List.flatMap_nil, List.append_nil, List.append_assoc]
  congr 1
  rw [ye_row, e2, List.append_assoc]
theorem ye_D_mem {Q : Nat → Nat → Prop} {a b : Nat} {z : Nat × Nat} : z ∈ ye_D Q a b ↔ z.1 < a ∧ z.2 < b ∧ Q z.1 z.2 := by
  rw [ye_D, List.mem_flatMap]
  constructor
  · rintro ⟨k, hk, h⟩
    obtain ⟨l, hl, h⟩ := List.mem_flatMap.mp h
    obtain ⟨e, q⟩ := ye_b_mem.mp h
    rw [e]
    exact ⟨List.mem_range.mp hk, List.mem_range.mp hl, q⟩
  · rintro ⟨h1, h2, h3⟩
    exact ⟨z.1, List.mem_range.mpr h1, List.mem_flatMap.mpr ⟨z.2, List.mem_range.mpr h2, ye_b_mem.mpr ⟨rfl, h3⟩⟩⟩
theorem ye_D_sorted (Q : Nat → Nat → Prop) (a b : Nat) : (ye_D Q a b).Pairwise (fun z w => z.1 < w.1 ∨ (z.1 = w.1 ∧ z.2 < w.2)) := by
  rw [ye_D, List.pairwise_flatMap]
  refine ⟨fun k _ => ?_, ?_⟩
  · rw [ye_row, List.pairwise_flatMap]
    refine ⟨fun l _ => ?_, ?_⟩
    · by_cases h : Q k l
      · rw [ye_b_t h]; exact List.pairwise_singleton _ _
      · rw [ye_b_f h]; exact List.Pairwise.nil
    · refine List.Pairwise.imp_of_mem ?_ List.pairwise_lt_range
      intro l l' _ _ hlt z hz w hw
      obtain ⟨e1, _⟩ := ye_b_mem.mp hz
      obtain ⟨e2, _⟩ := ye_b_mem.mp hw
      rw [e1, e2]
      exact Or.inr ⟨rfl, hlt⟩
  · refine List.Pairwise.imp_of_mem ?_ List.pairwise_lt_range
    intro k k' _ _ hlt z hz w hw
    obtain ⟨l, _, hz⟩ := List.mem_flatMap.mp hz
    obtain ⟨l', _, hw⟩ := List.mem_flatMap.mp hw
    obtain ⟨e1, _⟩ := ye_b_mem.mp hz
    obtain ⟨e2, _⟩ := ye_b_mem.mp hw
    rw [e1, e2]
    exact Or.inl hlt
def ye_vec (C0 C1 : List cm_T) (z : Nat × Nat) : cm_T × cm_T := (ys_at C0 z.1, ys_at C1 z.2)
theorem ye_can {A0 A1 : Nat → Nat → Int} {R C : Nat} {C0 C1 : List cm_T} (s0 : C0.Pairwise od_lt) (s1 : C1.Pairwise od_lt) (m0 : ∀ x, x ∈ C0 ↔ cm_Cor A0 R C x) (m1 : ∀ x, x ∈ C1 ↔ cm_Cor A1 C R x) : cm_Can A0 A1 R C ((ye_D (fun k l => cm_Eq A0 A1 R C (ye_vec C0 C1 (k, l))) C0.length C1.length).map (ye_vec C0 C1)) := by
  refine ⟨List.pairwise_map.mpr (List.Pairwise.imp_of_mem ?_ (ye_D_sorted _ _ _)), fun z => ?_⟩
  · intro z w hz hw h
    have m := ye_D_mem.mp hw
    rcases h with h | ⟨h, h'⟩
    · exact Or.inl (so_pw s0 h m.1)
    · exact Or.inr ⟨by show ys_at C0 z.1 = ys_at C0 w.1; rw [h], so_pw s1 h' m.2.1⟩
  · rw [List.mem_map]
    constructor
    · rintro ⟨w, hw, rfl⟩
      exact (ye_D_mem.mp hw).2.2
    · intro hz
      obtain ⟨k, hk, ek⟩ := so_mem_getD (d := (0, 0, 0)) ((m0 _).mpr hz.1)
      obtain ⟨l, hl, el⟩ := so_mem_getD (d := (0, 0, 0)) ((m1 _).mpr hz.2.1)
      have ez : ye_vec C0 C1 (k, l) = z := Prod.ext ek el
      refine ⟨(k, l), ye_D_mem.mpr ⟨hk, hl, ?_⟩, ez⟩
      show cm_Eq A0 A1 R C (ye_vec C0 C1 (k, l))
      rw [ez]; exact hz
def pm_ch (r c s : Nat) : Nat := if s = 0 then r else c
section
variable {rw cl : Int32} {pa sp nu pt wh mx gt : Nat → Int32} {P : Nat → Int}
theorem ys_choices {post : Int32 → Prop} {r c s : Nat} (hs : s < 2) (h : post (nI (pm_ch r c s))) : wpY_choices post (nI r, nI c, pa, sp, nu, pt, wh, mx, gt) (nI s) := by
  by_cases e : s = 0
  · subst e; exact br_t rfl h
  · rw [pm_ch, if_neg e] at h
    exact br_f (nI_ne0 (by omega) (by omega)) h
theorem ys_allOf {post : Int32 → Prop} {r c s : Nat} (r3 : r < 4) (c3 : c < 4) (hs : s < 2) (h : post (nI (2 ^ (pm_ch r c s) - 1))) : wpY_allOf post (nI r, nI c, pa, sp, nu, pt, wh, mx, gt) (nI s) := by
  unfold wpY_allOf
  refine ys_choices hs ?_
  have : pm_ch r c s < 4 := by rw [pm_ch]; split <;> omega
  rw [xi_msk _ this]
  exact h
theorem ys_lk2 {post : SY → Prop} (hp : pm_ok pa P) {s k : Nat} {x : cm_T} (hs : s < 2) (hk : k < 16) (hx : ∀ i, i < 3 → pt (48 * s + 3 * k + i) = zi_n (cm_cp x i))
    (K : ∀ mx' gt', (∀ j, j < 3 → gt' j = zi_n (ys_gp (pm_A P s false) x j 3)) → post (rw, cl, pa, sp, nu, pt, wh, mx', gt')) :
    ∀ (d i n : Nat) (mx0 : Nat → Int32), i + d = 3 → d < n → (∀ t, t < i → mx0 t = zi_n (cm_cp x t)) → wY_look_2 post (nI s) (nI k) rw cl n (nI i) pa sp nu pt wh mx0 gt := by
  intro d
  induction d with
  | zero =>
    intro i n mx0 hi hn h0
    obtain ⟨n, rfl⟩ : ∃ m, n = m + 1 := ⟨n - 1, by omega⟩
    have e : i = 3 := by omega
    subst e
    exact br_t (show (3 : Int32) ≤ nI 3 by decide) (ys_against hp false hs h0 fun gt' hg => K mx0 gt' hg)
  | succ d ih =>
    intro i n mx0 hi hn h0
    obtain ⟨n, rfl⟩ : ∃ m, n = m + 1 := ⟨n - 1, by omega⟩
    have e := xi_48 s k i
    refine br_f (nI_ge (b := 3) (by omega) (by decide)) ⟨pk_in _ 96 (by omega) e, pk_in i 3 (by omega), fun a ea y ey => ?_⟩
    rw [ey, nI_1]
    rw [e, nI_clamp (by omega), nI_clamp (by omega), hx i (by omega)] at ea
    refine ih (i + 1) n a (by omega) (by omega) (fun t ht => ?_)
    by_cases c : t = i
    · rw [ea, c, pk_us]
    · rw [ea, pk_un c]; exact h0 t (by omega)
theorem ys_look {post : SY → Prop} (hp : pm_ok pa P) {s k : Nat} {x : cm_T} (hs : s < 2) (hk : k < 16) (hx : ∀ i, i < 3 → pt (48 * s + 3 * k + i) = zi_n (cm_cp x i))
    (K : ∀ mx' gt', (∀ j, j < 3 → gt' j = zi_n (ys_gp (pm_A P s false) x j 3)) → post (rw, cl, pa, sp, nu, pt, wh, mx', gt')) : wpY_look post (rw, cl, pa, sp, nu, pt, wh, mx, gt) (nI s) (nI k) :=
  ⟨4, ys_lk2 hp hs hk hx K 3 0 4 mx rfl (by decide) (fun t ht => by omega)⟩
theorem ys_an26 {post : Int32 → SY → Prop} {s l : Nat} {x : cm_T} {g : Nat → Int} {M : Int} (hs : s < 2) (hl : l < 16) (hx : ∀ i, i < 3 → pt (48 * s + 3 * l + i) = zi_n (cm_cp x i)) (bx : cm_b x) (hg : ∀ j, j < 3 → gt j = zi_n (g j)) (hb : ∀ j, j < 3 → -1000000 < g j ∧ g j ≤ 1000000) (hM : -1000000 ≤ M ∧ M ≤ 1000000)
    (K1 : (∀ i, i < 3 → 0 < cm_cp x i → M ≤ g i) → post 1 (rw, cl, pa, sp, nu, pt, wh, mx, gt)) (K0 : (∃ i, i < 3 ∧ 0 < cm_cp x i ∧ g i < M) → post 0 (rw, cl, pa, sp, nu, pt, wh, mx, gt)) :
    ∀ (d i n : Nat), i + d = 3 → d < n → (∀ t, t < i → 0 < cm_cp x t → M ≤ g t) → wY_answers_26 post (nI s) (nI l) (zi_n M) rw cl pa sp nu pt wh mx gt n (nI i) := by
  intro d
  induction d with
  | zero =>
    intro i n hi hn h
    obtain ⟨n, rfl⟩ : ∃ m, n = m + 1 := ⟨n - 1, by omega⟩
    have e : i = 3 := by omega
    subst e
    exact br_t (show (3 : Int32) ≤ nI 3 by decide) (K1 h)
  | succ d ih =>
    intro i n hi hn h
    obtain ⟨n, rfl⟩ : ∃ m, n = m + 1 := ⟨n - 1, by omega⟩
    have hi3 : i < 3 := by omega
    have e := xi_48 s l i
    have bi := bx i hi3
    have bg := hb i hi3
    have z0 : (0 : Int32) = zi_n 0 := rfl
    refine br_f (nI_ge (b := 3) (by omega) (by decide)) ⟨pk_in _ 96 (by omega) e, ?_⟩
    rw [e, nI_clamp (by omega), hx i hi3]
    by_cases c : cm_cp x i ≤ 0
    · refine br_t (by rw [z0]; exact (zi_le (by omega) (by omega) (by decide) (by decide)).mpr c) fun y ey => ?_
      rw [ey, nI_1]
      refine ih (i + 1) n (by omega) (by omega) (fun t ht p => ?_)
      by_cases et : t = i
      · rw [et] at p; omega
      · exact h t (by omega) p
    · refine br_f (by rw [z0]; exact fun h => c ((zi_le (by omega) (by omega) (by decide) (by decide)).mp h)) ⟨pk_in i 3 hi3, ?_⟩
      rw [nI_clamp (by omega), hg i hi3]
      by_cases c2 : M ≤ g i
      · refine br_t ((zi_le (by omega) (by omega) (by omega) (by omega)).mpr c2) fun y ey => ?_
        rw [ey, nI_1]
        refine ih (i + 1) n (by omega) (by omega) (fun t ht p => ?_)
        by_cases et : t = i
        · rw [et]; exact c2
        · exact h t (by omega) p
      · exact br_f (fun h => c2 ((zi_le (by omega) (by omega) (by omega) (by omega)).mp h)) (K0 ⟨i, hi3, by omega, by omega⟩)
theorem ys_answers {post : Int32 → SY → Prop} (hp : pm_ok pa P) {r c s l k : Nat} {x y : cm_T} {other : Nat} (r3 : r < 4) (c3 : c < 4) (hs : s < 2) (hl : l < 16) (hk : k < 16) (hx : ∀ i, i < 3 → pt (48 * s + 3 * l + i) = zi_n (cm_cp x i)) (hy : ∀ i, i < 3 → pt (48 * (1 - s) + 3 * k + i) = zi_n (cm_cp y i)) (bx : cm_b x) (b_y : cm_b y)
    (ch0 : 0 < pm_ch r c s) (hcx : cm_Cor (pm_A P s false) (2 ^ (pm_ch r c s) - 1) other x)
    (K1 : (∀ i, i < 3 → 0 < cm_cp x i → cm_Best (pm_A P (1 - s) false) (2 ^ (pm_ch r c s) - 1) y i) → ∀ mx' gt', post 1 (nI r, nI c, pa, sp, nu, pt, wh, mx', gt'))
    (K0 : ¬ (∀ i, i < 3 → 0 < cm_cp x i → cm_Best (pm_A P (1 - s) false) (2 ^ (pm_ch r c s) - 1) y i) → ∀ mx' gt', post 0 (nI r, nI c, pa, sp, nu, pt, wh, mx', gt')) : wpY_answers post (nI r, nI c, pa, sp, nu, pt, wh, mx, gt) (nI s) (nI l) (nI k) := by
  unfold wpY_answers
  rw [xi_1m hs]
  have hA := pm_rng hp (1 - s) false
  have c4 : pm_ch r c s < 4 := by rw [pm_ch]; split <;> omega
  have m8 := xi_m8 _ c4
  have m0 := xi_m0 _ c4 ch0
  have inR : ∀ i, i < 3 → 0 < cm_cp x i → (2 ^ (pm_ch r c s) - 1).testBit i = true := by
    intro i hi p
    obtain ⟨q, hq, _, rfl, _⟩ := hcx
    cases hw : (2 ^ (pm_ch r c s) - 1).testBit i with
    | true => rfl
    | false =>
      have := hq.1.1 i hi hw
      rw [← cm_cp_g (pm_A P s false) hi] at this
      omega
  have key : ∀ i, i < 3 → 0 < cm_cp x i → (ys_mx (fun j => ys_gp (pm_A P (1 - s) false) y j 3) (2 ^ (pm_ch r c s) - 1) 3 ≤ ys_gp (pm_A P (1 - s) false) y i 3 ↔ cm_Best (pm_A P (1 - s) false) (2 ^ (pm_ch r c s) - 1) y i) := by
    intro i hi p
    have b := inR i hi p
    rw [← ys_mx_best hA b_y (ys_low_bit m8 m0) hi b]
    have := ys_mx_ge (g := fun j => ys_gp (pm_A P (1 - s) false) y j 3) (m := 2 ^ (pm_ch r c s) - 1) 3 i hi b
    have this : ys_gp (pm_A P (1 - s) false) y i 3 ≤ ys_mx (fun j => ys_gp (pm_A P (1 - s) false) y j 3) (2 ^ (pm_ch r c s) - 1) 3 := this
    omega
  refine ys_look hp (by omega) hk hy fun mx' gt' hgt => ?_
  refine ys_allOf r3 c3 hs ?_
  have hgb : ∀ j, j < 3 → -1000000 < ys_gp (pm_A P (1 - s) false) y j 3 ∧ ys_gp (pm_A P (1 - s) false) y j 3 ≤ 1000000 := fun j hj => by
    have := ys_gp_b hA b_y hj
    omega
  refine ys_greatest m8 hgt hgb ⟨4, ?_⟩
  refine ys_an26 hs hl hx bx hgt hgb (ys_mx_b hgb 3 (Nat.le_refl _)) (fun h => ?_) (fun h => ?_) 3 0 4 rfl (by decide) (fun t ht => by omega)
  · exact K1 (fun i hi p => (key i hi p).mp (h i hi p)) mx' gt'
  · refine K0 (fun hall => ?_) mx' gt'
    obtain ⟨i, hi, p, lt⟩ := h
    have := (key i hi p).mpr (hall i hi p)
    omega
theorem ys_isEq {post : Int32 → SY → Prop} (hp : pm_ok pa P) {r c k l : Nat} {x y : cm_T} (r3 : r < 4) (c3 : c < 4) (r1 : 0 < r) (c1 : 0 < c) (hk : k < 16) (hl : l < 16) (hx : ∀ i, i < 3 → pt (48 * 0 + 3 * k + i) = zi_n (cm_cp x i)) (hy : ∀ i, i < 3 → pt (48 * 1 + 3 * l + i) = zi_n (cm_cp y i))
    (hcx : cm_Cor (pm_A P 0 false) (2 ^ r - 1) (2 ^ c - 1) x) (hcy : cm_Cor (pm_A P 1 false) (2 ^ c - 1) (2 ^ r - 1) y)
    (K1 : cm_Eq (pm_A P 0 false) (pm_A P 1 false) (2 ^ r - 1) (2 ^ c - 1) (x, y) → ∀ mx' gt', post 1 (nI r, nI c, pa, sp, nu, pt, wh, mx', gt'))
    (K0 : ¬ cm_Eq (pm_A P 0 false) (pm_A P 1 false) (2 ^ r - 1) (2 ^ c - 1) (x, y) → ∀ mx' gt', post 0 (nI r, nI c, pa, sp, nu, pt, wh, mx', gt')) : wpY_isEquilibrium post (nI r, nI c, pa, sp, nu, pt, wh, mx, gt) (nI k) (nI l) := by
  have bx := cm_Cor_b (pm_rng hp 0 false) hcx
  have b_y := cm_Cor_b (pm_rng hp 1 false) hcy
  unfold wpY_isEquilibrium
  refine ys_answers (s := 0) (other := 2 ^ c - 1) hp r3 c3 (by decide) hk hl hx hy bx b_y r1 hcx (fun h mx' gt' => ?_) (fun h mx' gt' => ?_)
  · refine br_f (by decide) ?_
    refine ys_answers (s := 1) (other := 2 ^ r - 1) hp r3 c3 (by decide) hl hk hy hx b_y bx c1 hcy (fun h' mx'' gt'' => ?_) (fun h' mx'' gt'' => ?_)
    · exact br_f (by decide) (K1 ⟨hcx, hcy, h, h'⟩ mx'' gt'')
    · exact br_t rfl (K0 (fun e => h' e.2.2.2) mx'' gt'')
  · exact br_t rfl (K0 (fun e => h e.2.2.1) mx' gt')
end
/-! the whole list -/
def yl_Q (P : Nat → Int) (r c : Nat) (C0 C1 : List cm_T) (k l : Nat) : Prop := cm_Eq (pm_A P 0 false) (pm_A P 1 false) (2 ^ r - 1) (2 ^ c - 1) (ye_vec C0 C1 (k, l))
noncomputable def yl_D (P : Nat → Int) (r c : Nat) (C0 C1 : List cm_T) : List (Nat × Nat) := ye_D (yl_Q P r c C0 C1) C0.length C1.length
def yl_F (P : Nat → Int) (r c : Nat) (pt wh : Nat → Int32) (C0 C1 : List cm_T) : Prop :=
  ys_HY pt wh 0 C0 ∧ ys_HY pt wh 1 C1 ∧ C0.length ≤ 8 ∧ C1.length ≤ 8 ∧ C0.Pairwise od_lt ∧ C1.Pairwise od_lt ∧ (∀ x, x ∈ C0 ↔ cm_Cor (pm_A P 0 false) (2 ^ r - 1) (2 ^ c - 1) x) ∧ (∀ x, x ∈ C1 ↔ cm_Cor (pm_A P 1 false) (2 ^ c - 1) (2 ^ r - 1) x)
section
variable {rw cl : Int32} {pa sp nu pt wh mx gt : Nat → Int32} {P : Nat → Int}
theorem yl_23 {post : Int32 → SY → Prop} {J9 : Int32 → Int32 → Int32 → Int32 → (Nat → Int32) → (Nat → Int32) → (Nat → Int32) → (Nat → Int32) → (Nat → Int32) → (Nat → Int32) → (Nat → Int32) → Prop} (hp : pm_ok pa P) {r c k : Nat} {C0 C1 : List cm_T} {num : Int32} (al : Bool) (r3 : r < 4) (c3 : c < 4) (r1 : 0 < r) (c1 : 0 < c) (F : yl_F P r c pt wh C0 C1) (hk : k < C0.length) (hnu : nu 1 = nI C1.length)
    (K2 : al = false → ∀ mx' gt' m, m < (yl_D P r c C0 C1).length → num = nI m → post (nI (16 * ((yl_D P r c C0 C1).getD m (0, 0)).1 + ((yl_D P r c C0 C1).getD m (0, 0)).2)) (nI r, nI c, pa, sp, nu, pt, wh, mx', gt'))
    (K : ∀ mx' gt', (al = false → ∀ m, m < (ye_pt (yl_Q P r c C0 C1) C1.length (k + 1) 0).length → num ≠ nI m) → J9 (nI (ye_pt (yl_Q P r c C0 C1) C1.length (k + 1) 0).length) (nI (k + 1)) (nI r) (nI c) pa sp nu pt wh mx' gt') :
    ∀ (d l n : Nat) (mx0 gt0 : Nat → Int32), l + d = C1.length → d < n → (al = false → ∀ m, m < (ye_pt (yl_Q P r c C0 C1) C1.length k l).length → num ≠ nI m) →
      wY_list_23 post J9 num (xs_bI al) (nI k) n (nI (ye_pt (yl_Q P r c C0 C1) C1.length k l).length) (nI l) (nI r) (nI c) pa sp nu pt wh mx0 gt0 := by
  obtain ⟨H0, H1, l0, l1, s0, s1, m0, m1⟩ := F
  intro d
  induction d with
  | zero =>
    intro l n mx0 gt0 hl hn hnum
    obtain ⟨n, rfl⟩ : ∃ m, n = m + 1 := ⟨n - 1, by omega⟩
    have e : l = C1.length := by omega
    subst e
    rw [ye_pt_n] at hnum ⊢
    refine br_t (by rw [hnu]; exact nI_le (Nat.le_refl _) (by omega)) fun y ey => ?_
    rw [ey, nI_1]
    exact K mx0 gt0 hnum
  | succ d ih =>
    intro l n mx0 gt0 hl hn hnum
    obtain ⟨n, rfl⟩ : ∃ m, n = m + 1 := ⟨n - 1, by omega⟩
    have hl' : l < C1.length := by omega
    refine br_f (by rw [hnu]; exact nI_ge (by omega) (by omega)) ?_
    refine ys_isEq hp r3 c3 r1 c1 (by omega) (by omega) (H0 k hk).1 (H1 l hl').1 ((m0 _).mp (so_getD_mem hk)) ((m1 _).mp (so_getD_mem hl')) (fun h mx' gt' => ?_) (fun h mx' gt' => ?_)
    · have h : yl_Q P r c C0 C1 k l := h
      have es : ye_pt (yl_Q P r c C0 C1) C1.length k (l + 1) = ye_pt (yl_Q P r c C0 C1) C1.length k l ++ [(k, l)] := by rw [ye_pt_s, ye_b_t h]
      have el : (ye_pt (yl_Q P r c C0 C1) C1.length k (l + 1)).length = (ye_pt (yl_Q P r c C0 C1) C1.length k l).length + 1 := by rw [es, List.length_append]; rfl
      obtain ⟨R, eR⟩ := ye_pre (yl_Q P r c C0 C1) hk (show l + 1 ≤ C1.length by omega)
      have eD : yl_D P r c C0 C1 = ye_pt (yl_Q P r c C0 C1) C1.length k l ++ ((k, l) :: R) := by
        rw [yl_D, eR, es, List.append_assoc]; rfl
      have hm : (ye_pt (yl_Q P r c C0 C1) C1.length k l).length < (yl_D P r c C0 C1).length := by
        rw [eD, List.length_append, List.length_cons]; omega
      have hD64 : (yl_D P r c C0 C1).length ≤ 64 := by
        have nd : (yl_D P r c C0 C1).Nodup := (ye_D_sorted _ _ _).imp (fun h e => by rw [e] at h; omega)
        have sub : yl_D P r c C0 C1 ⊆ xs_prod 8 8 := by
          intro z hz
          have := ye_D_mem.mp hz
          exact List.mem_flatMap.mpr ⟨z.1, List.mem_range.mpr (by omega), List.mem_map.mpr ⟨z.2, List.mem_range.mpr (by omega), rfl⟩⟩
        have := List.Nodup.length_le_of_subset nd sub
        rw [xs_prod_len] at this
        exact this
      have gD : (yl_D P r c C0 C1).getD (ye_pt (yl_Q P r c C0 C1) C1.length k l).length (0, 0) = (k, l) := by
        rw [eD, List.getD_eq_getElem?_getD, List.getElem?_append_right (Nat.le_refl _), Nat.sub_self]; rfl
      refine br_f (by decide) ?_
      have next : (al = false → num ≠ nI (ye_pt (yl_Q P r c C0 C1) C1.length k l).length) → wY_list_23 post J9 num (xs_bI al) (nI k) n (nI (ye_pt (yl_Q P r c C0 C1) C1.length k l).length + 1) (nI l + 1) (nI r) (nI c) pa sp nu pt wh mx' gt' := by
        intro hne
        rw [nI_1, nI_1, ← el]
        refine ih (l + 1) n mx' gt' (by omega) (by omega) (fun ha m hm' => ?_)
        rw [el] at hm'
        by_cases c : m = (ye_pt (yl_Q P r c C0 C1) C1.length k l).length
        · rw [c]; exact hne ha
        · exact hnum ha m (by omega)
      cases al with
      | false =>
        refine br_t rfl ?_
        by_cases c : nI (ye_pt (yl_Q P r c C0 C1) C1.length k l).length = num
        · refine br_t c ?_
          have := K2 rfl mx' gt' _ hm c.symm
          rw [gD] at this
          rw [xi_16]
          exact this
        · refine br_f c fun y ey z ez => ?_
          rw [ey, ez]
          exact next (fun _ h => c h.symm)
      | true =>
        refine br_f (by decide) fun y ey z ez => ?_
        rw [ey, ez]
        exact next (fun h => absurd h (by decide))
    · have h : ¬ yl_Q P r c C0 C1 k l := h
      have es : ye_pt (yl_Q P r c C0 C1) C1.length k (l + 1) = ye_pt (yl_Q P r c C0 C1) C1.length k l := by rw [ye_pt_s, ye_b_f h, List.append_nil]
      refine br_t rfl fun y ey => ?_
      rw [ey, nI_1]
      rw [← es] at hnum ⊢
      exact ih (l + 1) n mx' gt' (by omega) (by omega) hnum
theorem yl_9 {post : Int32 → SY → Prop} (hp : pm_ok pa P) {r c : Nat} {C0 C1 : List cm_T} {num : Int32} (al : Bool) (r3 : r < 4) (c3 : c < 4) (r1 : 0 < r) (c1 : 0 < c) (F : yl_F P r c pt wh C0 C1) (hn0 : nu 0 = nI C0.length) (hn1 : nu 1 = nI C1.length)
    (K1 : al = true → ∀ mx' gt', post (nI (yl_D P r c C0 C1).length) (nI r, nI c, pa, sp, nu, pt, wh, mx', gt'))
    (K2 : al = false → ∀ mx' gt' m, m < (yl_D P r c C0 C1).length → num = nI m → post (nI (16 * ((yl_D P r c C0 C1).getD m (0, 0)).1 + ((yl_D P r c C0 C1).getD m (0, 0)).2)) (nI r, nI c, pa, sp, nu, pt, wh, mx', gt'))
    (K3 : al = false → (∀ m, m < (yl_D P r c C0 C1).length → num ≠ nI m) → ∀ mx' gt', post (-1) (nI r, nI c, pa, sp, nu, pt, wh, mx', gt')) :
    ∀ (d k n : Nat) (mx0 gt0 : Nat → Int32), k + d = C0.length → d < n → (al = false → ∀ m, m < (ye_pt (yl_Q P r c C0 C1) C1.length k 0).length → num ≠ nI m) →
      wY_list_9 post num (xs_bI al) n (nI (ye_pt (yl_Q P r c C0 C1) C1.length k 0).length) (nI k) (nI r) (nI c) pa sp nu pt wh mx0 gt0 := by
  have l0 := F.2.2.1
  have l1 := F.2.2.2.1
  intro d
  induction d with
  | zero =>
    intro k n mx0 gt0 hk hn hnum
    obtain ⟨n, rfl⟩ : ∃ m, n = m + 1 := ⟨n - 1, by omega⟩
    have e : k = C0.length := by omega
    subst e
    rw [ye_pt_e] at hnum ⊢
    refine br_t (by rw [hn0]; exact nI_le (Nat.le_refl _) (by omega)) ?_
    cases al with
    | false => exact br_t rfl (K3 rfl (hnum rfl) mx0 gt0)
    | true => exact br_f (by decide) (K1 rfl mx0 gt0)
  | succ d ih =>
    intro k n mx0 gt0 hk hn hnum
    obtain ⟨n, rfl⟩ : ∃ m, n = m + 1 := ⟨n - 1, by omega⟩
    refine br_f (by rw [hn0]; exact nI_ge (by omega) (by omega)) ⟨C1.length + 1, ?_⟩
    exact yl_23 (J9 := wY_list_9 post num (xs_bI al) n) hp al r3 c3 r1 c1 F (by omega) hn1 K2 (fun mx' gt' h => ih (k + 1) n mx' gt' (by omega) (by omega) h) C1.length 0 _ mx0 gt0 (by omega) (by omega) hnum
theorem yl_list {post : Int32 → SY → Prop} (hp : pm_ok pa P) {r c : Nat} {num : Int32} (al : Bool) (r3 : r < 4) (c3 : c < 4) (r1 : 0 < r) (c1 : 0 < c)
    (K1 : al = true → ∀ nu' pt' wh' mx' gt' C0 C1, yl_F P r c pt' wh' C0 C1 → post (nI (yl_D P r c C0 C1).length) (nI r, nI c, pa, sp, nu', pt', wh', mx', gt'))
    (K2 : al = false → ∀ nu' pt' wh' mx' gt' C0 C1 m, yl_F P r c pt' wh' C0 C1 → m < (yl_D P r c C0 C1).length → num = nI m → post (nI (16 * ((yl_D P r c C0 C1).getD m (0, 0)).1 + ((yl_D P r c C0 C1).getD m (0, 0)).2)) (nI r, nI c, pa, sp, nu', pt', wh', mx', gt'))
    (K3 : al = false → ∀ nu' pt' wh' mx' gt' C0 C1, yl_F P r c pt' wh' C0 C1 → (∀ m, m < (yl_D P r c C0 C1).length → num ≠ nI m) → post (-1) (nI r, nI c, pa, sp, nu', pt', wh', mx', gt')) :
    wpY_list post (nI r, nI c, pa, sp, nu, pt, wh, mx, gt) num (xs_bI al) := by
  have hR := xi_m8 r r3
  have hC := xi_m8 c c3
  have R0 := xi_m0 r r3 r1
  have C00 := xi_m0 c c3 c1
  unfold wpY_list wpY_findAll
  refine ys_allOf (s := 0) r3 c3 (by decide) ?_
  refine ys_allOf (s := 1) r3 c3 (by decide) ?_
  refine ys_findCorners (s := 0) hp false (by decide) hR hC C00 fun nu1 pt1 wh1 mx1 gt1 C0 a1 a2 a3 a4 a5 a6 a7 => ?_
  refine ys_findCorners (s := 1) hp false (by decide) hC hR R0 fun nu2 pt2 wh2 mx2 gt2 C1 b1 b2 b3 b4 b5 b6 b7 => ?_
  have H0 : ys_HY pt2 wh2 0 C0 := by
    intro k hk
    refine ⟨fun i hi => ?_, ?_⟩
    · rw [b4.1 _ (by omega)]; exact (a3 k hk).1 i hi
    · rw [b4.2 _ (by omega)]; exact (a3 k hk).2
  have F : yl_F P r c pt2 wh2 C0 C1 := ⟨H0, b3, a7, b7, a5, b5, a6, b6⟩
  have e0 : nu2 0 = nI C0.length := by rw [b2 0 (by decide)]; exact a1
  refine ⟨C0.length + 1, ?_⟩
  have := yl_9 (post := post) (num := num) (nu := nu2) (sp := sp) hp al r3 c3 r1 c1 F e0 b1 (fun h mx' gt' => K1 h nu2 pt2 wh2 mx' gt' C0 C1 F) (fun h mx' gt' m hm e => K2 h nu2 pt2 wh2 mx' gt' C0 C1 m F hm e) (fun h hno mx' gt' => K3 h nu2 pt2 wh2 mx' gt' C0 C1 F hno) C0.length 0 (C0.length + 1) mx2 gt2 (by omega) (by omega) (fun _ m hm => by simp [ye_pt] at hm)
  have ez : (ye_pt (yl_Q P r c C0 C1) C1.length 0 0).length = 0 := by simp [ye_pt]
  rw [ez] at this
  exact this
end
end
section
/-! the relation; the table -/
def re_St (P : Nat → Int) (r c : Nat) (ld lc : Int32) (ed : Nat → Int64) (lx ly : Nat → Int32) : Prop :=
  ld = 0 ∨ (ld = 1 ∧ ∃ V, cm_Can (pm_A P 0 false) (pm_A P 1 false) (2 ^ r - 1) (2 ^ c - 1) V ∧ xs_Lst ed lx ly lc V)
def i_Rel (k : Nat) (u : SX) (v : SY) : Prop :=
  match u, v with
  | (rw, cl, mc, ws, os, ld, lc, ft, fb, pa, ec, ed, ti, ma, mt, sl, ls, lx, ly), (rw', cl', pa', sp, nu, pt, wh, mx, gt) =>
    ∃ (r c : Nat) (P : Nat → Int), (0 < r ∧ r < 4 ∧ 0 < c ∧ c < 4) ∧ rw = nI r ∧ cl = nI c ∧ rw' = nI r ∧ cl' = nI c ∧ pa' = pa ∧ pm_ok pa P ∧ re_St P r c ld lc ed lx ly
theorem i_up {k : Nat} {u : SX} {v : SY} (h : i_Rel k u v) : i_Rel (k + 4) u v := h
theorem re_mk {k : Nat} {r c : Nat} {P : Nat → Int} {mc ws os ld lc : Int32} {ft fb : Int64} {pa ec : Nat → Int32} {ed : Nat → Int64} {ti : Nat → Int32} {ma : Nat → Int64} {mt : Nat → Int32} {sl : Nat → Int64} {ls lx ly sp nu pt wh mx gt : Nat → Int32}
    (h : 0 < r ∧ r < 4 ∧ 0 < c ∧ c < 4) (hp : pm_ok pa P) (hs : re_St P r c ld lc ed lx ly) : i_Rel k (nI r, nI c, mc, ws, os, ld, lc, ft, fb, pa, ec, ed, ti, ma, mt, sl, ls, lx, ly) (nI r, nI c, pa, sp, nu, pt, wh, mx, gt) :=
  ⟨r, c, P, h, rfl, rfl, rfl, rfl, rfl, hp, hs⟩
theorem re_el {k : Nat} {u : SX} {v : SY} {Q : SX → SY → Prop} (I : i_Rel k u v)
    (h : ∀ (r c : Nat) (P : Nat → Int) (mc ws os ld lc : Int32) (ft fb : Int64) (pa ec : Nat → Int32) (ed : Nat → Int64) (ti : Nat → Int32) (ma : Nat → Int64) (mt : Nat → Int32) (sl : Nat → Int64) (ls lx ly sp nu pt wh mx gt : Nat → Int32), (0 < r ∧ r < 4 ∧ 0 < c ∧ c < 4) → pm_ok pa P → re_St P r c ld lc ed lx ly → Q (nI r, nI c, mc, ws, os, ld, lc, ft, fb, pa, ec, ed, ti, ma, mt, sl, ls, lx, ly) (nI r, nI c, pa, sp, nu, pt, wh, mx, gt)) : Q u v := by
  obtain ⟨rw, cl, mc, ws, os, ld, lc, ft, fb, pa, ec, ed, ti, ma, mt, sl, ls, lx, ly⟩ := u
  obtain ⟨rw', cl', pa', sp, nu, pt, wh, mx, gt⟩ := v
  obtain ⟨r, c, P, hr, e1, e2, e3, e4, e5, hp, hs⟩ := I
  subst e1 e2 e3 e4 e5
  exact h r c P mc ws os ld lc ft fb pa' ec ed ti ma mt sl ls lx ly sp nu pt wh mx gt hr hp hs
theorem re_clamp (x : Int32) : ∃ r, 0 < r ∧ r < 4 ∧ ∀ {A : Int32 → Prop}, A (nI r) → ((1 ≤ x → ((x ≤ 3 → A x) ∧ (¬ x ≤ 3 → A 3))) ∧ (¬ 1 ≤ x → A 1)) := by
  by_cases h1 : 1 ≤ x
  · by_cases h3 : x ≤ 3
    · have h0 : ¬ x < 0 := fun h => by
        rw [Int32.lt_iff_toInt_lt] at h
        rw [Int32.le_iff_toInt_le] at h1
        have e0 : (0 : Int32).toInt = 0 := rfl
        have e1 : (1 : Int32).toInt = 1 := rfl
        omega
      obtain ⟨j, hj, rfl⟩ := nI_of h0
      have a1 : 1 ≤ j := (nI_leI (a := 1) (by decide) hj).mp h1
      have a3 : j ≤ 3 := (nI_leI (b := 3) hj (by decide)).mp h3
      exact ⟨j, by omega, by omega, fun h => br_t h1 (br_t h3 h)⟩
    · exact ⟨3, by decide, by decide, fun h => br_t h1 (br_f h3 h)⟩
  · exact ⟨1, by decide, by decide, fun h => br_f h1 h⟩
theorem i_vc0 (k0 : Int32) (k1 : Int32) : wpX_init (fun u => wpY_init (fun v => i_Rel 2 u v) k0 k1) k0 k1 := by
  obtain ⟨r, r1, r3, fr⟩ := re_clamp k0
  obtain ⟨c, c1, c3, fc⟩ := re_clamp k1
  refine fr (A := fun z => wX_init_104 (fun u => wpY_init (fun v => i_Rel 2 u v) k0 k1) k1 z 0 0 0 0 0 0 0 0 0 (fun _ => 0) (fun _ => 0) (fun _ => 0) (fun _ => 0) (fun _ => 0) (fun _ => 0) (fun _ => 0) (fun _ => 0) (fun _ => 0) (fun _ => 0)) ?_
  refine fc (A := fun z => wpY_init (fun v => i_Rel 2 (nI r, z, 0, 0, 0, 0, 0, 0, 0, (fun _ => 0), (fun _ => 0), (fun _ => 0), (fun _ => 0), (fun _ => 0), (fun _ => 0), (fun _ => 0), (fun _ => 0), (fun _ => 0), (fun _ => 0)) v) k0 k1) ?_
  refine fr (A := fun z => wY_init_77 (fun v => i_Rel 2 (nI r, nI c, 0, 0, 0, 0, 0, 0, 0, (fun _ => 0), (fun _ => 0), (fun _ => 0), (fun _ => 0), (fun _ => 0), (fun _ => 0), (fun _ => 0), (fun _ => 0), (fun _ => 0), (fun _ => 0)) v) k1 z 0 0 (fun _ => 0) (fun _ => 0) (fun _ => 0) (fun _ => 0) (fun _ => 0) (fun _ => 0) (fun _ => 0)) ?_
  refine fc (A := fun z => i_Rel 2 (nI r, nI c, 0, 0, 0, 0, 0, 0, 0, (fun _ => 0), (fun _ => 0), (fun _ => 0), (fun _ => 0), (fun _ => 0), (fun _ => 0), (fun _ => 0), (fun _ => 0), (fun _ => 0), (fun _ => 0)) (nI r, z, (fun _ => 0), (fun _ => 0), (fun _ => 0), (fun _ => 0), (fun _ => 0), (fun _ => 0), (fun _ => 0))) ?_
  exact re_mk ⟨r1, r3, c1, c3⟩ (P := fun _ => 0) (fun k => ⟨rfl, (by decide : (-9 : Int) ≤ 0), (by decide : (0 : Int) ≤ 9)⟩) (Or.inl rfl)
def re_pl (r c : Nat) (v : Int32) (a : Nat) : Prop := a < 9 ∧ v = nI a ∧ a / 3 < r ∧ a % 3 < c
section
variable {mc ws os ld lc : Int32} {ft fb : Int64} {pa ec : Nat → Int32} {ed : Nat → Int64} {ti : Nat → Int32} {ma : Nat → Int64} {mt : Nat → Int32} {sl : Nat → Int64} {ls lx ly sp nu pt wh mx gt : Nat → Int32} {rw cl : Int32} {r c : Nat}
theorem xs_side1 {post : Int32 → Prop} {s : Nat} (hs : s < 2) (h : post 1) : wpX_isSide post (rw, cl, mc, ws, os, ld, lc, ft, fb, pa, ec, ed, ti, ma, mt, sl, ls, lx, ly) (nI s) := by
  match s, hs with
  | 0, _ => exact br_t rfl h
  | 1, _ => exact br_f (by decide) (br_t rfl h)
theorem xs_side0 {post : Int32 → Prop} {v : Int32} (hv : ∀ s, s < 2 → v ≠ nI s) (h : post 0) : wpX_isSide post (rw, cl, mc, ws, os, ld, lc, ft, fb, pa, ec, ed, ti, ma, mt, sl, ls, lx, ly) v :=
  br_f (hv 0 (by decide)) (br_f (hv 1 (by decide)) h)
theorem ys_side1 {post : Int32 → Prop} {s : Nat} (hs : s < 2) (h : post 1) : wpY_isSide post (rw, cl, pa, sp, nu, pt, wh, mx, gt) (nI s) := by
  match s, hs with
  | 0, _ => exact br_t rfl h
  | 1, _ => exact br_f (by decide) (br_t rfl h)
theorem ys_side0 {post : Int32 → Prop} {v : Int32} (hv : ∀ s, s < 2 → v ≠ nI s) (h : post 0) : wpY_isSide post (rw, cl, pa, sp, nu, pt, wh, mx, gt) v :=
  br_f (hv 0 (by decide)) (br_f (hv 1 (by decide)) h)
theorem re_place1 {A B : Prop} {a : Nat} (r3 : r < 4) (c3 : c < 4) (h : re_pl r c (nI a) a) (k : A) :
    ((nI a < 0 → B) ∧ (¬ nI a < 0 → (¬ (3 : Int32) = 0 ∧ ((nI r ≤ (nI a / 3) → B) ∧ (¬ nI r ≤ (nI a / 3) → (¬ (3 : Int32) = 0 ∧ ((nI c ≤ (nI a - nI a / 3 * 3) → B) ∧ (¬ nI c ≤ (nI a - nI a / 3 * 3) → A)))))))) := by
  obtain ⟨h9, _, h1, h2⟩ := h
  have e3 : (3 : Int32) = nI 3 := rfl
  refine br_f (nI_pos (by omega)) ⟨by decide, ?_⟩
  rw [e3, pk_div (by omega) (by decide) (by decide)]
  refine br_f (nI_ge h1 (by omega)) ⟨by decide, ?_⟩
  rw [pk_mul, pk_sub (by omega), show a - a / 3 * 3 = a % 3 by omega]
  exact br_f (nI_ge h2 (by omega)) k
theorem re_place0 {A B : Prop} {v : Int32} (r3 : r < 4) (c3 : c < 4) (h : ∀ a, ¬ re_pl r c v a) (k : B) :
    ((v < 0 → B) ∧ (¬ v < 0 → (¬ (3 : Int32) = 0 ∧ ((nI r ≤ (v / 3) → B) ∧ (¬ nI r ≤ (v / 3) → (¬ (3 : Int32) = 0 ∧ ((nI c ≤ (v - v / 3 * 3) → B) ∧ (¬ nI c ≤ (v - v / 3 * 3) → A)))))))) := by
  by_cases h0 : v < 0
  · exact br_t h0 k
  · obtain ⟨a, ha, rfl⟩ := nI_of h0
    have e3 : (3 : Int32) = nI 3 := rfl
    refine br_f h0 ⟨by decide, ?_⟩
    rw [e3, pk_div ha (by decide) (by decide)]
    by_cases h1 : r ≤ a / 3
    · exact br_t (nI_le h1 (by omega)) k
    · refine br_f (nI_ge (by omega) (by omega)) ⟨by decide, ?_⟩
      rw [pk_mul, pk_sub (by omega), show a - a / 3 * 3 = a % 3 by omega]
      by_cases h2 : c ≤ a % 3
      · exact br_t (nI_le h2 (by omega)) k
      · exact absurd ⟨by omega, rfl, by omega, by omega⟩ (h a)
theorem xs_place1 {post : Int32 → Prop} {a : Nat} (r3 : r < 4) (c3 : c < 4) (h : re_pl r c (nI a) a) (k : post 1) : wpX_isPlace post (nI r, nI c, mc, ws, os, ld, lc, ft, fb, pa, ec, ed, ti, ma, mt, sl, ls, lx, ly) (nI a) := re_place1 r3 c3 h k
theorem xs_place0 {post : Int32 → Prop} {v : Int32} (r3 : r < 4) (c3 : c < 4) (h : ∀ a, ¬ re_pl r c v a) (k : post 0) : wpX_isPlace post (nI r, nI c, mc, ws, os, ld, lc, ft, fb, pa, ec, ed, ti, ma, mt, sl, ls, lx, ly) v := re_place0 r3 c3 h k
theorem ys_place1 {post : Int32 → Prop} {s a : Nat} (r3 : r < 4) (c3 : c < 4) (hs : s < 2) (h : re_pl r c (nI a) a) (k : post 1) : wpY_isPlace post (nI r, nI c, pa, sp, nu, pt, wh, mx, gt) (nI s) (nI a) := by
  unfold wpY_isPlace
  exact ys_side1 hs (br_f (by decide) (re_place1 r3 c3 h k))
theorem ys_place0 {post : Int32 → Prop} {w v : Int32} (r3 : r < 4) (c3 : c < 4) (h : ∀ s a, ¬ (s < 2 ∧ w = nI s ∧ re_pl r c v a)) (k : post 0) : wpY_isPlace post (nI r, nI c, pa, sp, nu, pt, wh, mx, gt) w v := by
  unfold wpY_isPlace
  by_cases hw : ∃ s, s < 2 ∧ w = nI s
  · obtain ⟨s, hs, rfl⟩ := hw
    exact ys_side1 hs (br_f (by decide) (re_place0 r3 c3 (fun a ha => h s a ⟨hs, rfl, ha⟩) k))
  · exact ys_side0 (fun s hs e => hw ⟨s, hs, e⟩) (br_t rfl k)
def re_ok (r c : Nat) (v1 v2 v3 : Int32) (s a : Nat) (z : Int) : Prop := s < 2 ∧ v1 = nI s ∧ re_pl r c v2 a ∧ -9 ≤ z ∧ z ≤ 9 ∧ v3 = zi_n z
theorem re_val1 {A B : Prop} {z : Int} (h1 : -9 ≤ z) (h2 : z ≤ 9) (k : A) : (zi_n z < (-9) → B) ∧ (¬ zi_n z < (-9) → ((zi_n z ≤ 9 → A) ∧ (¬ zi_n z ≤ 9 → B))) := by
  have e1 : (-9 : Int32) = zi_n (-9) := rfl
  have e2 : (9 : Int32) = zi_n 9 := rfl
  refine br_f (by rw [e1]; exact fun h => by have := (zi_lt (by omega) (by omega) (by decide) (by decide)).mp h; omega) (br_t (by rw [e2]; exact (zi_le (by omega) (by omega) (by decide) (by decide)).mpr h2) k)
theorem re_val0 {A B : Prop} {v : Int32} (h : ∀ z : Int, -9 ≤ z → z ≤ 9 → v ≠ zi_n z) (k : B) : (v < (-9) → B) ∧ (¬ v < (-9) → ((v ≤ 9 → A) ∧ (¬ v ≤ 9 → B))) := by
  by_cases h1 : v < (-9)
  · exact br_t h1 k
  · by_cases h2 : v ≤ 9
    · exfalso
      rw [Int32.lt_iff_toInt_lt] at h1
      rw [Int32.le_iff_toInt_le] at h2
      have e1 : (-9 : Int32).toInt = -9 := rfl
      have e2 : (9 : Int32).toInt = 9 := rfl
      exact h v.toInt (by omega) (by omega) (zi_self v)
    · exact br_f h1 (br_f h2 k)
theorem xs_pay1 {post : Int32 → SX → Prop} {s a : Nat} {z : Int} (r3 : r < 4) (c3 : c < 4) (hs : s < 2) (h : re_pl r c (nI a) a) (z1 : -9 ≤ z) (z2 : z ≤ 9) (k : post 1 (nI r, nI c, mc, ws, os, 0, lc, ft, fb, upd pa (9 * s + a) (zi_n z), ec, ed, ti, ma, mt, sl, ls, lx, ly)) : wpX_pay post (nI r, nI c, mc, ws, os, ld, lc, ft, fb, pa, ec, ed, ti, ma, mt, sl, ls, lx, ly) (nI s) (nI a) (zi_n z) := by
  unfold wpX_pay
  have h9 := h.1
  refine xs_side1 hs (br_f (by decide) (xs_place1 r3 c3 h (br_f (by decide) (re_val1 z1 z2 ⟨pk_in _ 18 (show 9 * s + a < 18 by omega) (xi_9 s a), fun b eb => ?_⟩))))
  rw [eb, xi_9, nI_clamp (by omega), zi_nar2 (by omega) (by omega)]
  exact k
theorem ys_pay1 {post : Int32 → SY → Prop} {s a : Nat} {z : Int} (r3 : r < 4) (c3 : c < 4) (hs : s < 2) (h : re_pl r c (nI a) a) (z1 : -9 ≤ z) (z2 : z ≤ 9) (k : post 1 (nI r, nI c, upd pa (9 * s + a) (zi_n z), sp, nu, pt, wh, mx, gt)) : wpY_pay post (nI r, nI c, pa, sp, nu, pt, wh, mx, gt) (nI s) (nI a) (zi_n z) := by
  unfold wpY_pay
  have h9 := h.1
  refine ys_place1 r3 c3 hs h (br_f (by decide) (re_val1 z1 z2 ⟨pk_in _ 18 (show 9 * s + a < 18 by omega) (xi_9 s a), fun b eb => ?_⟩))
  rw [eb, xi_9, nI_clamp (by omega)]
  exact k
theorem xs_pay0 {post : Int32 → SX → Prop} {v1 v2 v3 : Int32} (r3 : r < 4) (c3 : c < 4) (h : ∀ s a z, ¬ re_ok r c v1 v2 v3 s a z) (k : post 0 (nI r, nI c, mc, ws, os, ld, lc, ft, fb, pa, ec, ed, ti, ma, mt, sl, ls, lx, ly)) : wpX_pay post (nI r, nI c, mc, ws, os, ld, lc, ft, fb, pa, ec, ed, ti, ma, mt, sl, ls, lx, ly) v1 v2 v3 := by
  unfold wpX_pay
  by_cases h1 : ∃ s, s < 2 ∧ v1 = nI s
  · obtain ⟨s, hs, rfl⟩ := h1
    refine xs_side1 hs (br_f (by decide) ?_)
    by_cases h2 : ∃ a, re_pl r c v2 a
    · obtain ⟨a, ha⟩ := h2
      have e := ha.2.1
      subst e
      refine xs_place1 r3 c3 ha (br_f (by decide) (re_val0 (fun z z1 z2 e => h s a z ⟨hs, rfl, ha, z1, z2, e⟩) k))
    · exact xs_place0 r3 c3 (fun a ha => h2 ⟨a, ha⟩) (br_t rfl k)
  · exact xs_side0 (fun s hs e => h1 ⟨s, hs, e⟩) (br_t rfl k)
theorem ys_pay0 {post : Int32 → SY → Prop} {v1 v2 v3 : Int32} (r3 : r < 4) (c3 : c < 4) (h : ∀ s a z, ¬ re_ok r c v1 v2 v3 s a z) (k : post 0 (nI r, nI c, pa, sp, nu, pt, wh, mx, gt)) : wpY_pay post (nI r, nI c, pa, sp, nu, pt, wh, mx, gt) v1 v2 v3 := by
  unfold wpY_pay
  by_cases h1 : ∃ s a, s < 2 ∧ v1 = nI s ∧ re_pl r c v2 a
  · obtain ⟨s, a, hs, rfl, ha⟩ := h1
    have e := ha.2.1
    subst e
    exact ys_place1 r3 c3 hs ha (br_f (by decide) (re_val0 (fun z z1 z2 e => h s a z ⟨hs, rfl, ha, z1, z2, e⟩) k))
  · exact ys_place0 r3 c3 (fun s a ha => h1 ⟨s, a, ha⟩) (br_t rfl k)
theorem xs_paid1 {post : Int32 → Prop} {s a : Nat} (r3 : r < 4) (c3 : c < 4) (hs : s < 2) (h : re_pl r c (nI a) a) (k : post (pa (9 * s + a))) : wpX_paid post (nI r, nI c, mc, ws, os, ld, lc, ft, fb, pa, ec, ed, ti, ma, mt, sl, ls, lx, ly) (nI s) (nI a) := by
  unfold wpX_paid
  have h9 := h.1
  refine xs_side1 hs (br_f (by decide) (xs_place1 r3 c3 h (br_f (by decide) ⟨pk_in _ 18 (show 9 * s + a < 18 by omega) (xi_9 s a), ?_⟩)))
  rw [xi_9, nI_clamp (by omega)]
  exact k
theorem ys_paid1 {post : Int32 → Prop} {s a : Nat} (r3 : r < 4) (c3 : c < 4) (hs : s < 2) (h : re_pl r c (nI a) a) (k : post (pa (9 * s + a))) : wpY_paid post (nI r, nI c, pa, sp, nu, pt, wh, mx, gt) (nI s) (nI a) := by
  unfold wpY_paid
  have h9 := h.1
  refine ys_place1 r3 c3 hs h (br_f (by decide) ⟨pk_in _ 18 (show 9 * s + a < 18 by omega) (xi_9 s a), ?_⟩)
  rw [xi_9, nI_clamp (by omega)]
  exact k
theorem xs_paid0 {post : Int32 → Prop} {v1 v2 : Int32} (r3 : r < 4) (c3 : c < 4) (h : ∀ s a, ¬ (s < 2 ∧ v1 = nI s ∧ re_pl r c v2 a)) (k : post (-1000000)) : wpX_paid post (nI r, nI c, mc, ws, os, ld, lc, ft, fb, pa, ec, ed, ti, ma, mt, sl, ls, lx, ly) v1 v2 := by
  unfold wpX_paid
  by_cases h1 : ∃ s, s < 2 ∧ v1 = nI s
  · obtain ⟨s, hs, rfl⟩ := h1
    exact xs_side1 hs (br_f (by decide) (xs_place0 r3 c3 (fun a ha => h s a ⟨hs, rfl, ha⟩) (br_t rfl k)))
  · exact xs_side0 (fun s hs e => h1 ⟨s, hs, e⟩) (br_t rfl k)
theorem ys_paid0 {post : Int32 → Prop} {v1 v2 : Int32} (r3 : r < 4) (c3 : c < 4) (h : ∀ s a, ¬ (s < 2 ∧ v1 = nI s ∧ re_pl r c v2 a)) (k : post (-1000000)) : wpY_paid post (nI r, nI c, pa, sp, nu, pt, wh, mx, gt) v1 v2 := by
  unfold wpY_paid
  exact ys_place0 r3 c3 h (br_t rfl k)
end
theorem i_vc_pay {k : Nat} {u : SX} {v : SY} (I : i_Rel k u v) (hk : k + 4 ≤ 2050) (v1 : Int32) (v2 : Int32) (v3 : Int32) : wpX_pay (fun r u' => wpY_pay (fun r' v' => r' = r ∧ i_Rel (k + 4) u' v') v v1 v2 v3) u v1 v2 v3 := by
  refine re_el (Q := fun u v => wpX_pay (fun r u' => wpY_pay (fun r' v' => r' = r ∧ i_Rel (k + 4) u' v') v v1 v2 v3) u v1 v2 v3) I ?_
  intro r c P mc ws os ld lc ft fb pa ec ed ti ma mt sl ls lx ly sp nu pt wh mx gt hr hp hs
  by_cases H : ∃ s a z, re_ok r c v1 v2 v3 s a z
  · obtain ⟨s, a, z, h1, rfl, h2, h3, h4, rfl⟩ := H
    have e := h2.2.1
    subst e
    refine xs_pay1 hr.2.1 hr.2.2.2 h1 h2 h3 h4 (ys_pay1 hr.2.1 hr.2.2.2 h1 h2 h3 h4 ⟨rfl, ?_⟩)
    refine re_mk hr (P := fun j => if j = 9 * s + a then z else P j) (fun j => ?_) (Or.inl rfl)
    by_cases c : j = 9 * s + a
    · simp only [upd, if_pos c]; exact ⟨by trivial, h3, h4⟩
    · simp only [upd, if_neg c]; exact hp j
  · exact xs_pay0 hr.2.1 hr.2.2.2 (fun s a z h => H ⟨s, a, z, h⟩) (ys_pay0 hr.2.1 hr.2.2.2 (fun s a z h => H ⟨s, a, z, h⟩) ⟨rfl, re_mk hr hp hs⟩)
theorem i_vc_paid {k : Nat} {u : SX} {v : SY} (I : i_Rel k u v) (hk : k + 4 ≤ 2050) (v1 : Int32) (v2 : Int32) : wpX_paid (fun r => wpY_paid (fun r' => r' = r ∧ i_Rel (k + 4) u v) v v1 v2) u v1 v2 := by
  refine re_el (Q := fun u v => wpX_paid (fun r => wpY_paid (fun r' => r' = r ∧ i_Rel (k + 4) u v) v v1 v2) u v1 v2) I ?_
  intro r c P mc ws os ld lc ft fb pa ec ed ti ma mt sl ls lx ly sp nu pt wh mx gt hr hp hs
  by_cases H : ∃ s a, s < 2 ∧ v1 = nI s ∧ re_pl r c v2 a
  · obtain ⟨s, a, h1, rfl, h2⟩ := H
    have e := h2.2.1
    subst e
    exact xs_paid1 hr.2.1 hr.2.2.2 h1 h2 (ys_paid1 hr.2.1 hr.2.2.2 h1 h2 ⟨rfl, re_mk hr hp hs⟩)
  · exact xs_paid0 hr.2.1 hr.2.2.2 (fun s a h => H ⟨s, a, h⟩) (ys_paid0 hr.2.1 hr.2.2.2 (fun s a h => H ⟨s, a, h⟩) ⟨rfl, re_mk hr hp hs⟩)
end
section
/-! pure equilibria -/
def pu_r (P : Nat → Int) (r at' k : Nat) : Bool := !(decide (k < r)) || decide (P (3 * k + at' % 3) ≤ P at')
def pu_c (P : Nat → Int) (c at' k : Nat) : Bool := !(decide (k < c)) || decide (P (9 + at' / 3 * 3 + k) ≤ P (9 + at'))
def pu_f (P : Nat → Int) (r c at' : Nat) : Nat → Bool
  | 0 => decide (at' / 3 < r) && decide (at' % 3 < c)
  | i + 1 => pu_f P r c at' i && pu_r P r at' i && pu_c P c at' i
def pu_acc (b : Nat → Bool) : Nat → Nat
  | 0 => 0
  | n + 1 => if b n = true then pu_acc b n ||| 1 <<< n else pu_acc b n
theorem pu_acc_skip (b : Nat → Bool) (n : Nat) : ∀ d, (∀ t, n ≤ t → t < n + d → b t = false) → pu_acc b (n + d) = pu_acc b n := by
  intro d
  induction d with
  | zero => intro _; rfl
  | succ d ih =>
    intro h
    rw [show n + (d + 1) = (n + d) + 1 from rfl, pu_acc, if_neg (by rw [h (n + d) (by omega) (by omega)]; decide)]
    exact ih (fun t h1 h2 => h t h1 (by omega))
theorem pu_f3 {P : Nat → Int} {r c at' : Nat} (r3 : r < 4) (c3 : c < 4) : pu_f P r c at' 3 = true ↔ (at' / 3 < r ∧ at' % 3 < c) ∧ (∀ k, k < r → P (3 * k + at' % 3) ≤ P at') ∧ (∀ k, k < c → P (9 + at' / 3 * 3 + k) ≤ P (9 + at')) := by
  have hr : ∀ k, pu_r P r at' k = true ↔ (k < r → P (3 * k + at' % 3) ≤ P at') := by
    intro k
    rw [pu_r, Bool.or_eq_true, Bool.not_eq_true', decide_eq_false_iff_not, decide_eq_true_eq]
    constructor
    · rintro (h | h) h'
      · exact absurd h' h
      · exact h
    · intro h
      by_cases h' : k < r
      · exact Or.inr (h h')
      · exact Or.inl h'
  have hc : ∀ k, pu_c P c at' k = true ↔ (k < c → P (9 + at' / 3 * 3 + k) ≤ P (9 + at')) := by
    intro k
    rw [pu_c, Bool.or_eq_true, Bool.not_eq_true', decide_eq_false_iff_not, decide_eq_true_eq]
    constructor
    · rintro (h | h) h'
      · exact absurd h' h
      · exact h
    · intro h
      by_cases h' : k < c
      · exact Or.inr (h h')
      · exact Or.inl h'
  simp only [pu_f, Bool.and_eq_true, hr, hc, decide_eq_true_eq]
  constructor
  · rintro ⟨⟨⟨⟨⟨⟨hpl, a0⟩, b0⟩, a1⟩, b1⟩, a2⟩, b2⟩
    refine ⟨hpl, fun k hk => ?_, fun k hk => ?_⟩
    · match k, (show k < 3 by omega), hk with
      | 0, _, hk => exact a0 hk
      | 1, _, hk => exact a1 hk
      | 2, _, hk => exact a2 hk
    · match k, (show k < 3 by omega), hk with
      | 0, _, hk => exact b0 hk
      | 1, _, hk => exact b1 hk
      | 2, _, hk => exact b2 hk
  · rintro ⟨hpl, a, b⟩
    exact ⟨⟨⟨⟨⟨⟨hpl, a 0⟩, b 0⟩, a 1⟩, b 1⟩, a 2⟩, b 2⟩
theorem xi_1s : ∀ n, n < 9 → (1 : Int32) <<< (nI n &&& 31) = nI (1 <<< n) := by decide +kernel
section
variable {rw cl mc ws os ld lc : Int32} {ft fb : Int64} {pa ec : Nat → Int32} {ed : Nat → Int64} {ti : Nat → Int32} {ma : Nat → Int64} {mt : Nat → Int32} {sl : Nat → Int64} {ls lx ly : Nat → Int32} {P : Nat → Int} {r c : Nat}
theorem xs_row2 {post : Int32 → Prop} (hp : pm_ok pa P) {i j : Nat} (r3 : r < 4) (hi : i < 3) (hj : j < 3) (h1 : (∀ k, k < r → P (3 * k + j) ≤ P (3 * i + j)) → post 1) (h0 : ¬ (∀ k, k < r → P (3 * k + j) ≤ P (3 * i + j)) → post 0) :
    ∀ (d k n : Nat), k + d = r → d < n → (∀ t, t < k → P (3 * t + j) ≤ P (3 * i + j)) → wX_isBestRow_2 post (nI i) (nI j) (nI r) cl mc ws os ld lc ft fb pa ec ed ti ma mt sl ls lx ly n (nI k) := by
  intro d
  induction d with
  | zero =>
    intro k n hk hn h
    obtain ⟨n, rfl⟩ : ∃ m, n = m + 1 := ⟨n - 1, by omega⟩
    have e : k = r := by omega
    subst e
    exact br_t (nI_le (Nat.le_refl _) (by omega)) (h1 h)
  | succ d ih =>
    intro k n hk hn h
    obtain ⟨n, rfl⟩ : ∃ m, n = m + 1 := ⟨n - 1, by omega⟩
    have e1 : 9 * 0 + 3 * k + j = 3 * k + j := by omega
    have e2 : 9 * 0 + 3 * i + j = 3 * i + j := by omega
    have b1 := hp (3 * k + j)
    have b2 := hp (3 * i + j)
    refine br_f (nI_ge (by omega) (by omega)) ?_
    refine xs_payment (s := 0) (by decide) (by omega) hj (xs_payment (s := 0) (by decide) hi hj ?_)
    rw [e1, e2, b1.1, b2.1]
    by_cases c' : P (3 * k + j) ≤ P (3 * i + j)
    · refine br_t ((zi_le (by omega) (by omega) (by omega) (by omega)).mpr c') fun y ey => ?_
      rw [ey, nI_1]
      refine ih (k + 1) n (by omega) (by omega) (fun t ht => ?_)
      by_cases et : t = k
      · rw [et]; exact c'
      · exact h t (by omega)
    · exact br_f (fun h' => c' ((zi_le (by omega) (by omega) (by omega) (by omega)).mp h')) (h0 (fun hall => c' (hall k (by omega))))
theorem xs_col2 {post : Int32 → Prop} (hp : pm_ok pa P) {i j : Nat} (c3 : c < 4) (hi : i < 3) (hj : j < 3) (h1 : (∀ k, k < c → P (9 + i * 3 + k) ≤ P (9 + (3 * i + j))) → post 1) (h0 : ¬ (∀ k, k < c → P (9 + i * 3 + k) ≤ P (9 + (3 * i + j))) → post 0) :
    ∀ (d k n : Nat), k + d = c → d < n → (∀ t, t < k → P (9 + i * 3 + t) ≤ P (9 + (3 * i + j))) → wX_isBestColumn_2 post (nI i) (nI j) rw (nI c) mc ws os ld lc ft fb pa ec ed ti ma mt sl ls lx ly n (nI k) := by
  intro d
  induction d with
  | zero =>
    intro k n hk hn h
    obtain ⟨n, rfl⟩ : ∃ m, n = m + 1 := ⟨n - 1, by omega⟩
    have e : k = c := by omega
    subst e
    exact br_t (nI_le (Nat.le_refl _) (by omega)) (h1 h)
  | succ d ih =>
    intro k n hk hn h
    obtain ⟨n, rfl⟩ : ∃ m, n = m + 1 := ⟨n - 1, by omega⟩
    have e1 : 9 * 1 + 3 * i + k = 9 + i * 3 + k := by omega
    have e2 : 9 * 1 + 3 * i + j = 9 + (3 * i + j) := by omega
    have b1 := hp (9 + i * 3 + k)
    have b2 := hp (9 + (3 * i + j))
    refine br_f (nI_ge (by omega) (by omega)) ?_
    refine xs_payment (s := 1) (by decide) hi (by omega) (xs_payment (s := 1) (by decide) hi hj ?_)
    rw [e1, e2, b1.1, b2.1]
    by_cases c' : P (9 + i * 3 + k) ≤ P (9 + (3 * i + j))
    · refine br_t ((zi_le (by omega) (by omega) (by omega) (by omega)).mpr c') fun y ey => ?_
      rw [ey, nI_1]
      refine ih (k + 1) n (by omega) (by omega) (fun t ht => ?_)
      by_cases et : t = k
      · rw [et]; exact c'
      · exact h t (by omega)
    · exact br_f (fun h' => c' ((zi_le (by omega) (by omega) (by omega) (by omega)).mp h')) (h0 (fun hall => c' (hall k (by omega))))
theorem xs_isBestRow {post : Int32 → Prop} (hp : pm_ok pa P) {i j : Nat} (r3 : r < 4) (hi : i < 3) (hj : j < 3) (h1 : (∀ k, k < r → P (3 * k + j) ≤ P (3 * i + j)) → post 1) (h0 : ¬ (∀ k, k < r → P (3 * k + j) ≤ P (3 * i + j)) → post 0) : wpX_isBestRow post (nI r, cl, mc, ws, os, ld, lc, ft, fb, pa, ec, ed, ti, ma, mt, sl, ls, lx, ly) (nI i) (nI j) :=
  ⟨r + 1, xs_row2 hp r3 hi hj h1 h0 r 0 (r + 1) (by omega) (by omega) (fun t ht => by omega)⟩
theorem xs_isBestColumn {post : Int32 → Prop} (hp : pm_ok pa P) {i j : Nat} (c3 : c < 4) (hi : i < 3) (hj : j < 3) (h1 : (∀ k, k < c → P (9 + i * 3 + k) ≤ P (9 + (3 * i + j))) → post 1) (h0 : ¬ (∀ k, k < c → P (9 + i * 3 + k) ≤ P (9 + (3 * i + j))) → post 0) : wpX_isBestColumn post (rw, nI c, mc, ws, os, ld, lc, ft, fb, pa, ec, ed, ti, ma, mt, sl, ls, lx, ly) (nI i) (nI j) :=
  ⟨c + 1, xs_col2 hp c3 hi hj h1 h0 c 0 (c + 1) (by omega) (by omega) (fun t ht => by omega)⟩
theorem xs_pure14 {post : Int32 → Prop} {J4 : Int32 → Int32 → Prop} (hp : pm_ok pa P) {i : Nat} (r3 : r < 4) (c3 : c < 4) (hi : i < r) (K : J4 (nI (pu_acc (fun a => pu_f P r c a 3) (3 * (i + 1)))) (nI (i + 1))) :
    ∀ (d j n : Nat), j + d = c → d < n → wX_pure_14 post J4 (nI i) (nI r) (nI c) mc ws os ld lc ft fb pa ec ed ti ma mt sl ls lx ly n (nI (pu_acc (fun a => pu_f P r c a 3) (3 * i + j))) (nI j) := by
  intro d
  induction d with
  | zero =>
    intro j n hj hn
    obtain ⟨n, rfl⟩ : ∃ m, n = m + 1 := ⟨n - 1, by omega⟩
    have e : j = c := by omega
    subst e
    refine br_t (nI_le (Nat.le_refl _) (by omega)) fun y ey => ?_
    rw [ey, nI_1]
    have e2 : pu_acc (fun a => pu_f P r j a 3) (3 * (i + 1)) = pu_acc (fun a => pu_f P r j a 3) (3 * i + j) := by
      rw [show 3 * (i + 1) = 3 * i + j + (3 - j) by omega]
      refine pu_acc_skip _ _ _ (fun t t1 t2 => ?_)
      cases hb : pu_f P r j t 3 with
      | false => rfl
      | true =>
        have := ((pu_f3 r3 c3).mp hb).1
        omega
    rw [← e2]
    exact K
  | succ d ih =>
    intro j n hj hn
    obtain ⟨n, rfl⟩ : ∃ m, n = m + 1 := ⟨n - 1, by omega⟩
    have q1 : (3 * i + j) / 3 = i := by omega
    have q2 : (3 * i + j) % 3 = j := by omega
    have ih' := ih (j + 1) n (by omega) (by omega)
    rw [show 3 * i + (j + 1) = (3 * i + j) + 1 from rfl, pu_acc] at ih'
    have no : ¬ (pu_f P r c (3 * i + j) 3 = true) → wX_pure_14 post J4 (nI i) (nI r) (nI c) mc ws os ld lc ft fb pa ec ed ti ma mt sl ls lx ly n (nI (pu_acc (fun a => pu_f P r c a 3) (3 * i + j))) (nI j + 1) := by
      intro h
      rw [if_neg h] at ih'
      rw [nI_1]; exact ih'
    refine br_f (nI_ge (by omega) (by omega)) ?_
    refine xs_isBestRow hp r3 (by omega) (by omega) (fun h1 => ?_) (fun h1 => ?_)
    · refine br_f (by decide) ?_
      refine xs_isBestColumn hp c3 (by omega) (by omega) (fun h2 => ?_) (fun h2 => ?_)
      · refine br_f (by decide) fun y ey z ez => ?_
        have hb : pu_f P r c (3 * i + j) 3 = true := (pu_f3 r3 c3).mpr (by rw [q1, q2]; exact ⟨⟨hi, by omega⟩, h1, h2⟩)
        rw [if_pos hb] at ih'
        rw [ez, nI_1, ey, xi_3, xi_1s _ (by omega), xi_or]
        exact ih'
      · refine br_t rfl fun y ey => ?_
        rw [ey]
        refine no (fun hb => h2 ?_)
        have := ((pu_f3 r3 c3).mp hb).2.2
        rw [q1] at this
        exact this
    · refine br_t rfl fun y ey => ?_
      rw [ey]
      refine no (fun hb => h1 ?_)
      have := ((pu_f3 r3 c3).mp hb).2.1
      rw [q2] at this
      exact this
theorem xs_pure4 {post : Int32 → Prop} (hp : pm_ok pa P) (r3 : r < 4) (c3 : c < 4) (K : post (nI (pu_acc (fun a => pu_f P r c a 3) 9))) :
    ∀ (d i n : Nat), i + d = r → d < n → wX_pure_4 post (nI r) (nI c) mc ws os ld lc ft fb pa ec ed ti ma mt sl ls lx ly n (nI (pu_acc (fun a => pu_f P r c a 3) (3 * i))) (nI i) := by
  intro d
  induction d with
  | zero =>
    intro i n hi hn
    obtain ⟨n, rfl⟩ : ∃ m, n = m + 1 := ⟨n - 1, by omega⟩
    have e : i = r := by omega
    subst e
    refine br_t (nI_le (Nat.le_refl _) (by omega)) ?_
    have e2 : pu_acc (fun a => pu_f P i c a 3) 9 = pu_acc (fun a => pu_f P i c a 3) (3 * i) := by
      rw [show 9 = 3 * i + (9 - 3 * i) by omega]
      refine pu_acc_skip _ _ _ (fun t t1 t2 => ?_)
      cases hb : pu_f P i c t 3 with
      | false => rfl
      | true =>
        have := ((pu_f3 r3 c3).mp hb).1
        omega
    rw [← e2]
    exact K
  | succ d ih =>
    intro i n hi hn
    obtain ⟨n, rfl⟩ : ∃ m, n = m + 1 := ⟨n - 1, by omega⟩
    refine br_f (nI_ge (by omega) (by omega)) ⟨c + 1, ?_⟩
    exact xs_pure14 (J4 := wX_pure_4 post (nI r) (nI c) mc ws os ld lc ft fb pa ec ed ti ma mt sl ls lx ly n) hp r3 c3 (by omega) (ih (i + 1) n (by omega) (by omega)) c 0 (c + 1) (by omega) (by omega)
theorem xs_pure {post : Int32 → Prop} (hp : pm_ok pa P) (r3 : r < 4) (c3 : c < 4) (K : post (nI (pu_acc (fun a => pu_f P r c a 3) 9))) : wpX_pure post (nI r, nI c, mc, ws, os, ld, lc, ft, fb, pa, ec, ed, ti, ma, mt, sl, ls, lx, ly) :=
  ⟨r + 1, xs_pure4 hp r3 c3 K r 0 (r + 1) (by omega) (by omega)⟩
end
section
variable {rw cl : Int32} {pa sp nu pt wh mx gt : Nat → Int32} {P : Nat → Int} {r c : Nat}
theorem ys_pure63 {post : Int32 → Prop} {J4 J20 : Int32 → Int32 → Prop} (hp : pm_ok pa P) {x1 : Int32} {a i : Nat} (c3 : c < 4) (ha : a < 9) (hi : i < 3) (fl : Bool) (K : J20 (xs_bI (fl && pu_c P c a i)) (nI (i + 1))) : wY_pure_63 post J4 J20 x1 (nI a) (xs_bI fl) (nI i) rw (nI c) pa sp nu pt wh mx gt := by
  cases fl with
  | false =>
    refine br_t rfl fun y ey => ?_
    rw [ey, nI_1]; exact K
  | true =>
    refine br_f (by decide) ?_
    by_cases h : c ≤ i
    · refine br_t (nI_le h (by omega)) fun y ey => ?_
      rw [ey, nI_1]
      have : pu_c P c a i = true := by rw [pu_c, decide_eq_false (by omega)]; rfl
      rw [this] at K
      exact K
    · have e3 : (3 : Int32) = nI 3 := rfl
      have e1 : (9 + ((nI a / 3) * 3)) + nI i = nI (9 + a / 3 * 3 + i) := by
        rw [e3, pk_div (by omega) (by decide) (by decide), pk_mul, xi_9p, nI_add]
      have e2 : 9 + nI a = nI (9 + a) := xi_9p a
      have b1 := hp (9 + a / 3 * 3 + i)
      have b2 := hp (9 + a)
      refine br_f (nI_ge (by omega) (by omega)) ⟨by decide, pk_in _ 18 (by omega) e1, pk_in _ 18 (by omega) e2, ?_⟩
      rw [e1, e2, nI_clamp (by omega), nI_clamp (by omega), b1.1, b2.1]
      by_cases c' : P (9 + a / 3 * 3 + i) ≤ P (9 + a)
      · refine br_t ((zi_le (by omega) (by omega) (by omega) (by omega)).mpr c') fun y ey => ?_
        rw [ey, nI_1]
        have : pu_c P c a i = true := by rw [pu_c, decide_eq_true c', Bool.or_true]
        rw [this] at K
        exact K
      · refine br_f (fun h' => c' ((zi_le (by omega) (by omega) (by omega) (by omega)).mp h')) fun y ey => ?_
        rw [ey, nI_1]
        have : pu_c P c a i = false := by rw [pu_c, decide_eq_false c', decide_eq_true (by omega)]; rfl
        rw [this] at K
        exact K
theorem ys_pure20 {post : Int32 → Prop} {J4 : Int32 → Int32 → Prop} (hp : pm_ok pa P) {m a : Nat} (r3 : r < 4) (c3 : c < 4) (ha : a < 9) (K : J4 (nI (if pu_f P r c a 3 = true then m ||| 1 <<< a else m)) (nI (a + 1))) :
    ∀ (d i n : Nat), i + d = 3 → d < n → wY_pure_20 post J4 (nI m) (nI a) (nI r) (nI c) pa sp nu pt wh mx gt n (xs_bI (pu_f P r c a i)) (nI i) := by
  intro d
  induction d with
  | zero =>
    intro i n hi hn
    obtain ⟨n, rfl⟩ : ∃ m, n = m + 1 := ⟨n - 1, by omega⟩
    have e : i = 3 := by omega
    subst e
    refine br_t (show (3 : Int32) ≤ nI 3 by decide) ?_
    cases hb : pu_f P r c a 3 with
    | false =>
      rw [hb, if_neg (by decide)] at K
      refine br_t rfl fun y ey => ?_
      rw [ey, nI_1]; exact K
    | true =>
      rw [hb, if_pos rfl] at K
      refine br_f (by decide) fun y ey z ez => ?_
      rw [ez, nI_1, ey, xi_1s _ ha, xi_or]; exact K
  | succ d ih =>
    intro i n hi hn
    obtain ⟨n, rfl⟩ : ∃ m, n = m + 1 := ⟨n - 1, by omega⟩
    have hi3 : i < 3 := by omega
    have ih' := ih (i + 1) n (by omega) (by omega)
    rw [pu_f] at ih'
    refine br_f (nI_ge (b := 3) (by omega) (by decide)) ?_
    cases hb : pu_f P r c a i with
    | false =>
      rw [hb, Bool.false_and] at ih'
      exact br_t rfl (ys_pure63 (J20 := wY_pure_20 post J4 (nI m) (nI a) (nI r) (nI c) pa sp nu pt wh mx gt n) hp c3 ha hi3 false ih')
    | true =>
      rw [hb, Bool.true_and] at ih'
      refine br_f (by decide) ?_
      by_cases h : r ≤ i
      · have : pu_r P r a i = true := by rw [pu_r, decide_eq_false (by omega)]; rfl
        rw [this] at ih'
        exact br_t (nI_le h (by omega)) (ys_pure63 (J20 := wY_pure_20 post J4 (nI m) (nI a) (nI r) (nI c) pa sp nu pt wh mx gt n) hp c3 ha hi3 true ih')
      · have e3 : (3 : Int32) = nI 3 := rfl
        have e1 : (3 * nI i) + (nI a - nI a / 3 * 3) = nI (3 * i + a % 3) := by
          rw [e3, pk_rem (by omega) (by decide) (by decide), pk_mul, nI_add]
        have b1 := hp (3 * i + a % 3)
        have b2 := hp a
        refine br_f (nI_ge (by omega) (by omega)) ⟨by decide, pk_in _ 18 (by omega) e1, pk_in a 18 (by omega), ?_⟩
        rw [e1, nI_clamp (by omega), nI_clamp (by omega), b1.1, b2.1]
        by_cases c' : P (3 * i + a % 3) ≤ P a
        · have : pu_r P r a i = true := by rw [pu_r, decide_eq_true c', Bool.or_true]
          rw [this] at ih'
          exact br_t ((zi_le (by omega) (by omega) (by omega) (by omega)).mpr c') (ys_pure63 (J20 := wY_pure_20 post J4 (nI m) (nI a) (nI r) (nI c) pa sp nu pt wh mx gt n) hp c3 ha hi3 true ih')
        · have : pu_r P r a i = false := by rw [pu_r, decide_eq_false c', decide_eq_true (by omega)]; rfl
          rw [this] at ih'
          exact br_f (fun h' => c' ((zi_le (by omega) (by omega) (by omega) (by omega)).mp h')) (ys_pure63 (J20 := wY_pure_20 post J4 (nI m) (nI a) (nI r) (nI c) pa sp nu pt wh mx gt n) hp c3 ha hi3 false ih')
theorem ys_pure4 {post : Int32 → Prop} (hp : pm_ok pa P) (r3 : r < 4) (c3 : c < 4) (K : post (nI (pu_acc (fun a => pu_f P r c a 3) 9))) :
    ∀ (d a n : Nat), a + d = 9 → d < n → wY_pure_4 post (nI r) (nI c) pa sp nu pt wh mx gt n (nI (pu_acc (fun a => pu_f P r c a 3) a)) (nI a) := by
  intro d
  induction d with
  | zero =>
    intro a n ha hn
    obtain ⟨n, rfl⟩ : ∃ m, n = m + 1 := ⟨n - 1, by omega⟩
    have e : a = 9 := by omega
    subst e
    exact br_t (show (9 : Int32) ≤ nI 9 by decide) K
  | succ d ih =>
    intro a n ha hn
    obtain ⟨n, rfl⟩ : ∃ m, n = m + 1 := ⟨n - 1, by omega⟩
    have go : ∃ n20 : Nat, wY_pure_20 post (wY_pure_4 post (nI r) (nI c) pa sp nu pt wh mx gt n) (nI (pu_acc (fun a => pu_f P r c a 3) a)) (nI a) (nI r) (nI c) pa sp nu pt wh mx gt n20 (xs_bI (pu_f P r c a 0)) 0 :=
      ⟨4, ys_pure20 (J4 := wY_pure_4 post (nI r) (nI c) pa sp nu pt wh mx gt n) hp r3 c3 (by omega) (ih (a + 1) n (by omega) (by omega)) 3 0 4 rfl (by decide)⟩
    refine br_f (nI_ge (b := 9) (by omega) (by decide)) ?_
    by_cases hpl : a / 3 < r ∧ a % 3 < c
    · have e : pu_f P r c a 0 = true := by rw [pu_f, decide_eq_true hpl.1, decide_eq_true hpl.2]; rfl
      rw [e] at go
      exact ys_place1 (s := 0) r3 c3 (by decide) ⟨by omega, rfl, hpl.1, hpl.2⟩ go
    · have e : pu_f P r c a 0 = false := by
        cases hb : pu_f P r c a 0 with
        | false => rfl
        | true =>
          rw [pu_f, Bool.and_eq_true, decide_eq_true_eq, decide_eq_true_eq] at hb
          exact absurd hb hpl
      rw [e] at go
      refine ys_place0 r3 c3 (fun s a' h => hpl ?_) go
      have e2 := (nI_eq (by omega) (by have := h.2.2.1; omega)).mp h.2.2.2.1
      have := h.2.2.2.2
      rw [e2]
      exact this
theorem ys_pure {post : Int32 → Prop} (hp : pm_ok pa P) (r3 : r < 4) (c3 : c < 4) (K : post (nI (pu_acc (fun a => pu_f P r c a 3) 9))) : wpY_pure post (nI r, nI c, pa, sp, nu, pt, wh, mx, gt) :=
  ⟨10, ys_pure4 hp r3 c3 K 9 0 10 rfl (by decide)⟩
end
theorem i_vc_pure {k : Nat} {u : SX} {v : SY} (I : i_Rel k u v) (hk : k + 4 ≤ 2050) : wpX_pure (fun r => wpY_pure (fun r' => r' = r ∧ i_Rel (k + 4) u v) v) u := by
  refine re_el (Q := fun u v => wpX_pure (fun r => wpY_pure (fun r' => r' = r ∧ i_Rel (k + 4) u v) v) u) I ?_
  intro r c P mc ws os ld lc ft fb pa ec ed ti ma mt sl ls lx ly sp nu pt wh mx gt hr hp hs
  exact xs_pure hp hr.2.1 hr.2.2.2 (ys_pure hp hr.2.1 hr.2.2.2 ⟨rfl, re_mk hr hp hs⟩)
end
section
/-! exchange -/
def ex_sw {α : Type} (f : Nat → α) (i j : Nat) : Nat → α := fun k => if k = 9 + 3 * j + i then f (3 * i + j) else if k = 3 * i + j then f (9 + 3 * j + i) else f k
def ex_f {α : Type} (f : Nat → α) : Nat → α := fun k => if k < 9 then f (9 + k % 3 * 3 + k / 3) else if k < 18 then f ((k - 9) % 3 * 3 + (k - 9) / 3) else f k
def ex_all {α : Type} (f : Nat → α) : Nat → α := ex_sw (ex_sw (ex_sw (ex_sw (ex_sw (ex_sw (ex_sw (ex_sw (ex_sw f 0 0) 0 1) 1 0) 0 2) 2 0) 1 1) 1 2) 2 1) 2 2
theorem ex_all_eq {α : Type} (f : Nat → α) : ex_all f = ex_f f := by
  funext k
  by_cases h : k < 18
  · match k, h with
    | 0, _ => rfl
    | 1, _ => rfl
    | 2, _ => rfl
    | 3, _ => rfl
    | 4, _ => rfl
    | 5, _ => rfl
    | 6, _ => rfl
    | 7, _ => rfl
    | 8, _ => rfl
    | 9, _ => rfl
    | 10, _ => rfl
    | 11, _ => rfl
    | 12, _ => rfl
    | 13, _ => rfl
    | 14, _ => rfl
    | 15, _ => rfl
    | 16, _ => rfl
    | 17, _ => rfl
    | n + 18, h => exact absurd h (by omega)
  · have st : ∀ (g : Nat → α) (i j : Nat), i < 3 → j < 3 → ex_sw g i j k = g k := by
      intro g i j hi hj
      simp only [ex_sw]
      rw [if_neg (by omega), if_neg (by omega)]
    rw [ex_all, st _ _ _ (by decide) (by decide), st _ _ _ (by decide) (by decide), st _ _ _ (by decide) (by decide), st _ _ _ (by decide) (by decide), st _ _ _ (by decide) (by decide), st _ _ _ (by decide) (by decide), st _ _ _ (by decide) (by decide), st _ _ _ (by decide) (by decide), st _ _ _ (by decide) (by decide), ex_f, if_neg (by omega), if_neg h]
theorem ex_ok {pa : Nat → Int32} {P : Nat → Int} (h : pm_ok pa P) (i j : Nat) : pm_ok (ex_sw pa i j) (ex_sw P i j) := by
  intro k
  simp only [ex_sw]
  by_cases c1 : k = 9 + 3 * j + i
  · rw [if_pos c1, if_pos c1]; exact h _
  · rw [if_neg c1, if_neg c1]
    by_cases c2 : k = 3 * i + j
    · rw [if_pos c2, if_pos c2]; exact h _
    · rw [if_neg c2, if_neg c2]; exact h _
section
variable {rw cl mc ws os ld lc : Int32} {ft fb : Int64} {pa ec : Nat → Int32} {ed : Nat → Int64} {ti : Nat → Int32} {ma : Nat → Int64} {mt : Nat → Int32} {sl : Nat → Int64} {ls lx ly : Nat → Int32} {P : Nat → Int}
theorem xs_exAt {post : SX → Prop} (hp : pm_ok pa P) {i j : Nat} (hi : i < 3) (hj : j < 3) (K : post (rw, cl, mc, ws, os, ld, lc, ft, fb, ex_sw pa i j, ec, ed, ti, ma, mt, sl, ls, lx, ly)) : wpX_exchangeAt post (rw, cl, mc, ws, os, ld, lc, ft, fb, pa, ec, ed, ti, ma, mt, sl, ls, lx, ly) (nI i) (nI j) := by
  have e1 : (3 * nI i) + nI j = nI (3 * i + j) := xi_3 i j
  have e2 : (9 + (3 * nI j)) + nI i = nI (9 + 3 * j + i) := by rw [xi_3m, xi_9p, nI_add]
  have b1 := hp (3 * i + j)
  have b2 := hp (9 + 3 * j + i)
  refine ⟨pk_in _ 18 (by omega) e1, fun x ex => ⟨pk_in _ 18 (by omega) e2, pk_in _ 18 (by omega) e1, fun a ea => ⟨pk_in _ 18 (by omega) e2, fun b eb => ?_⟩⟩⟩
  rw [e1, nI_clamp (by omega)] at ex
  rw [e1, e2, nI_clamp (by omega), nI_clamp (by omega), b2.1, zi_nar (by omega) (by omega)] at ea
  rw [e2, nI_clamp (by omega), ex, b1.1, zi_nar (by omega) (by omega)] at eb
  have : b = ex_sw pa i j := by
    rw [eb, ea]
    funext k
    simp only [upd, ex_sw, b1.1, b2.1]
  rw [this]
  exact K
theorem xs_ex_lt {post : SX → Prop} {J7 : Int32 → Int32 → Int32 → Int32 → Int32 → Int32 → Int32 → Int32 → Int64 → Int64 → (Nat → Int32) → (Nat → Int32) → (Nat → Int64) → (Nat → Int32) → (Nat → Int64) → (Nat → Int32) → (Nat → Int64) → (Nat → Int32) → (Nat → Int32) → (Nat → Int32) → Prop} (hp : pm_ok pa P) {i j n : Nat} (hij : i < j) (hj : j < 3) (K : wX_exchange_14 post J7 (nI i) n (nI (j + 1)) rw cl mc ws os ld lc ft fb (ex_sw (ex_sw pa i j) j i) ec ed ti ma mt sl ls lx ly) : wX_exchange_14 post J7 (nI i) (n + 1) (nI j) rw cl mc ws os ld lc ft fb pa ec ed ti ma mt sl ls lx ly := by
  refine br_f (nI_ge (b := 3) hj (by decide)) (br_t (nI_le (by omega) (by omega)) ?_)
  refine xs_exAt hp (by omega) hj ?_
  refine br_f (fun h => by have := (nI_eq (by omega) (by omega)).mp h; omega) ?_
  refine xs_exAt (ex_ok hp i j) hj (by omega) fun y ey => ?_
  rw [ey, nI_1]
  exact K
theorem xs_ex_eq {post : SX → Prop} {J7 : Int32 → Int32 → Int32 → Int32 → Int32 → Int32 → Int32 → Int32 → Int64 → Int64 → (Nat → Int32) → (Nat → Int32) → (Nat → Int64) → (Nat → Int32) → (Nat → Int64) → (Nat → Int32) → (Nat → Int64) → (Nat → Int32) → (Nat → Int32) → (Nat → Int32) → Prop} (hp : pm_ok pa P) {i n : Nat} (hj : i < 3) (K : wX_exchange_14 post J7 (nI i) n (nI (i + 1)) rw cl mc ws os ld lc ft fb (ex_sw pa i i) ec ed ti ma mt sl ls lx ly) : wX_exchange_14 post J7 (nI i) (n + 1) (nI i) rw cl mc ws os ld lc ft fb pa ec ed ti ma mt sl ls lx ly := by
  refine br_f (nI_ge (b := 3) hj (by decide)) (br_t (nI_le (by omega) (by omega)) ?_)
  refine xs_exAt hp (by omega) hj ?_
  refine br_t rfl fun y ey => ?_
  rw [ey, nI_1]
  exact K
theorem xs_ex_gt {post : SX → Prop} {J7 : Int32 → Int32 → Int32 → Int32 → Int32 → Int32 → Int32 → Int32 → Int64 → Int64 → (Nat → Int32) → (Nat → Int32) → (Nat → Int64) → (Nat → Int32) → (Nat → Int64) → (Nat → Int32) → (Nat → Int64) → (Nat → Int32) → (Nat → Int32) → (Nat → Int32) → Prop} {i j n : Nat} (hij : j < i) (hi : i < 3) (K : wX_exchange_14 post J7 (nI i) n (nI (j + 1)) rw cl mc ws os ld lc ft fb pa ec ed ti ma mt sl ls lx ly) : wX_exchange_14 post J7 (nI i) (n + 1) (nI j) rw cl mc ws os ld lc ft fb pa ec ed ti ma mt sl ls lx ly := by
  refine br_f (nI_ge (b := 3) (by omega) (by decide)) (br_f (nI_ge hij (by omega)) fun y ey => ?_)
  rw [ey, nI_1]
  exact K
theorem xs_ex_end {post : SX → Prop} {J7 : Int32 → Int32 → Int32 → Int32 → Int32 → Int32 → Int32 → Int32 → Int64 → Int64 → (Nat → Int32) → (Nat → Int32) → (Nat → Int64) → (Nat → Int32) → (Nat → Int64) → (Nat → Int32) → (Nat → Int64) → (Nat → Int32) → (Nat → Int32) → (Nat → Int32) → Prop} {i n : Nat} (K : J7 (nI (i + 1)) rw cl mc ws os ld lc ft fb pa ec ed ti ma mt sl ls lx ly) : wX_exchange_14 post J7 (nI i) (n + 1) (nI 3) rw cl mc ws os ld lc ft fb pa ec ed ti ma mt sl ls lx ly := by
  refine br_t (show (3 : Int32) ≤ nI 3 by decide) fun y ey => ?_
  rw [ey, nI_1]
  exact K
theorem xs_exchange {post : SX → Prop} (hp : pm_ok pa P) (K : post (cl, rw, mc, ws, os, 0, lc, ft, fb, ex_f pa, ec, ed, ti, ma, mt, sl, ls, lx, ly)) : wpX_exchange post (rw, cl, mc, ws, os, ld, lc, ft, fb, pa, ec, ed, ti, ma, mt, sl, ls, lx, ly) := by
  have h1 := ex_ok hp 0 0
  have h2 := ex_ok (ex_ok h1 0 1) 1 0
  have h3 := ex_ok (ex_ok h2 0 2) 2 0
  have h4 := ex_ok h3 1 1
  have h5 := ex_ok (ex_ok h4 1 2) 2 1
  refine ⟨4, br_f (show ¬ (3 : Int32) ≤ 0 by decide) ⟨4, ?_⟩⟩
  refine xs_ex_eq (i := 0) (n := 3) hp (by decide) ?_
  refine xs_ex_lt (i := 0) (j := 1) (n := 2) h1 (by decide) (by decide) ?_
  refine xs_ex_lt (i := 0) (j := 2) (n := 1) h2 (by decide) (by decide) ?_
  refine xs_ex_end (i := 0) (n := 0) (br_f (show ¬ (3 : Int32) ≤ nI 1 by decide) ⟨4, ?_⟩)
  refine xs_ex_gt (i := 1) (j := 0) (n := 3) (by decide) (by decide) ?_
  refine xs_ex_eq (i := 1) (n := 2) h3 (by decide) ?_
  refine xs_ex_lt (i := 1) (j := 2) (n := 1) h4 (by decide) (by decide) ?_
  refine xs_ex_end (i := 1) (n := 0) (br_f (show ¬ (3 : Int32) ≤ nI 2 by decide) ⟨4, ?_⟩)
  refine xs_ex_gt (i := 2) (j := 0) (n := 3) (by decide) (by decide) ?_
  refine xs_ex_gt (i := 2) (j := 1) (n := 2) (by decide) (by decide) ?_
  refine xs_ex_eq (i := 2) (n := 1) h5 (by decide) ?_
  refine xs_ex_end (i := 2) (n := 0) (br_t (show (3 : Int32) ≤ nI 3 by decide) ?_)
  rw [← ex_all_eq] at K
  exact K
end
section
variable {rw cl : Int32} {pa sp nu pt wh mx gt : Nat → Int32}
theorem ys_ex62 {post : SY → Prop} (K : ∀ pa', (∀ k, k < 18 → pa' k = sp k) → (∀ k, 18 ≤ k → pa' k = pa k) → post (cl, rw, pa', sp, nu, pt, wh, mx, gt)) :
    ∀ (d k n : Nat) (pa0 : Nat → Int32), k + d = 18 → d < n → (∀ t, t < k → pa0 t = sp t) → (∀ t, k ≤ t → pa0 t = pa t) → wY_exchange_62 post rw cl n (nI k) pa0 sp nu pt wh mx gt := by
  intro d
  induction d with
  | zero =>
    intro k n pa0 hk hn h0 h1
    obtain ⟨n, rfl⟩ : ∃ m, n = m + 1 := ⟨n - 1, by omega⟩
    have e : k = 18 := by omega
    subst e
    exact br_t (show (18 : Int32) ≤ nI 18 by decide) (K pa0 h0 h1)
  | succ d ih =>
    intro k n pa0 hk hn h0 h1
    obtain ⟨n, rfl⟩ : ∃ m, n = m + 1 := ⟨n - 1, by omega⟩
    refine br_f (nI_ge (b := 18) (by omega) (by decide)) ⟨pk_in k 18 (by omega), pk_in k 18 (by omega), fun a ea y ey => ?_⟩
    rw [ey, nI_1]
    rw [nI_clamp (by omega)] at ea
    refine ih (k + 1) n a (by omega) (by omega) (fun t ht => ?_) (fun t ht => ?_)
    · by_cases c : t = k
      · rw [ea, c, pk_us]
      · rw [ea, pk_un c]; exact h0 t (by omega)
    · rw [ea, pk_un (by omega)]; exact h1 t (by omega)
theorem ys_ex2 {post : SY → Prop} (K : ∀ sp', post (cl, rw, ex_f pa, sp', nu, pt, wh, mx, gt)) :
    ∀ (d k n : Nat) (sp0 : Nat → Int32), k + d = 9 → d < n → (∀ t, t < k → sp0 t = pa (9 + t % 3 * 3 + t / 3) ∧ sp0 (9 + t) = pa (t % 3 * 3 + t / 3)) → wY_exchange_2 post rw cl n (nI k) pa sp0 nu pt wh mx gt := by
  intro d
  induction d with
  | zero =>
    intro k n sp0 hk hn h0
    obtain ⟨n, rfl⟩ : ∃ m, n = m + 1 := ⟨n - 1, by omega⟩
    have e : k = 9 := by omega
    subst e
    refine br_t (show (9 : Int32) ≤ nI 9 by decide) ⟨19, ?_⟩
    refine ys_ex62 ?_ 18 0 19 pa rfl (by decide) (fun t ht => by omega) (fun _ _ => rfl)
    intro pa' f1 f2
    have : pa' = ex_f pa := by
      funext k
      simp only [ex_f]
      by_cases c1 : k < 9
      · rw [if_pos c1, f1 k (by omega)]; exact (h0 k c1).1
      · rw [if_neg c1]
        by_cases c2 : k < 18
        · rw [if_pos c2, f1 k c2]
          have := (h0 (k - 9) (by omega)).2
          rw [show 9 + (k - 9) = k by omega] at this
          exact this
        · rw [if_neg c2]; exact f2 k (by omega)
    rw [this]
    exact K sp0
  | succ d ih =>
    intro k n sp0 hk hn h0
    obtain ⟨n, rfl⟩ : ∃ m, n = m + 1 := ⟨n - 1, by omega⟩
    have e3 : (3 : Int32) = nI 3 := rfl
    have e1 : (9 + ((nI k - nI k / 3 * 3) * 3)) + (nI k / 3) = nI (9 + k % 3 * 3 + k / 3) := by
      rw [e3, pk_rem (by omega) (by decide) (by decide), pk_div (by omega) (by decide) (by decide), pk_mul, xi_9p, nI_add]
    have e2 : ((nI k - nI k / 3 * 3) * 3) + (nI k / 3) = nI (k % 3 * 3 + k / 3) := by
      rw [e3, pk_rem (by omega) (by decide) (by decide), pk_div (by omega) (by decide) (by decide), pk_mul, nI_add]
    have e4 : 9 + nI k = nI (9 + k) := xi_9p k
    refine br_f (nI_ge (b := 9) (by omega) (by decide)) ⟨by decide, by decide, pk_in _ 18 (by omega) e1, pk_in k 18 (by omega), fun a ea => ⟨by decide, by decide, pk_in _ 18 (by omega) e2, pk_in _ 18 (by omega) e4, fun b eb y ey => ?_⟩⟩
    rw [ey, nI_1]
    rw [e1, nI_clamp (by omega), nI_clamp (by omega)] at ea
    rw [e2, e4, nI_clamp (by omega), nI_clamp (by omega)] at eb
    refine ih (k + 1) n b (by omega) (by omega) (fun t ht => ?_)
    by_cases c : t = k
    · subst c
      refine ⟨?_, ?_⟩
      · rw [eb, pk_un (by omega), ea, pk_us]
      · rw [eb, pk_us]
    · refine ⟨?_, ?_⟩
      · rw [eb, pk_un (by omega), ea, pk_un c]; exact (h0 t (by omega)).1
      · rw [eb, pk_un (by omega), ea, pk_un (by omega)]; exact (h0 t (by omega)).2
theorem ys_exchange {post : SY → Prop} (K : ∀ sp', post (cl, rw, ex_f pa, sp', nu, pt, wh, mx, gt)) : wpY_exchange post (rw, cl, pa, sp, nu, pt, wh, mx, gt) :=
  ⟨10, ys_ex2 K 9 0 10 sp rfl (by decide) (fun t ht => by omega)⟩
end
theorem ex_ok_f {pa : Nat → Int32} {P : Nat → Int} (h : pm_ok pa P) : pm_ok (ex_f pa) (ex_f P) := by
  rw [← ex_all_eq, ← ex_all_eq]
  exact ex_ok (ex_ok (ex_ok (ex_ok (ex_ok (ex_ok (ex_ok (ex_ok (ex_ok h 0 0) 0 1) 1 0) 0 2) 2 0) 1 1) 1 2) 2 1) 2 2
theorem i_vc_exchange {k : Nat} {u : SX} {v : SY} (I : i_Rel k u v) (hk : k + 4 ≤ 2050) : wpX_exchange (fun u' => wpY_exchange (fun v' => i_Rel (k + 4) u' v') v) u := by
  refine re_el (Q := fun u v => wpX_exchange (fun u' => wpY_exchange (fun v' => i_Rel (k + 4) u' v') v) u) I ?_
  intro r c P mc ws os ld lc ft fb pa ec ed ti ma mt sl ls lx ly sp nu pt wh mx gt hr hp hs
  refine xs_exchange hp (ys_exchange fun sp' => ?_)
  exact re_mk ⟨hr.2.2.1, hr.2.2.2, hr.1, hr.2.1⟩ (ex_ok_f hp) (Or.inl rfl)
end
section
/-! equilibria, part, whole -/
theorem re_V {P : Nat → Int} {r c : Nat} {V : List (cm_T × cm_T)} {pt wh : Nat → Int32} {C0 C1 : List cm_T} (hV : cm_Can (pm_A P 0 false) (pm_A P 1 false) (2 ^ r - 1) (2 ^ c - 1) V) (F : yl_F P r c pt wh C0 C1) : V = (yl_D P r c C0 C1).map (ye_vec C0 C1) :=
  cm_Can_uniq hV (ye_can F.2.2.2.2.1 F.2.2.2.2.2.1 F.2.2.2.2.2.2.1 F.2.2.2.2.2.2.2)
def re_at (V : List (cm_T × cm_T)) (m : Nat) : cm_T × cm_T := V.getD m ((0, 0, 0), (0, 0, 0))
theorem re_at_D {P : Nat → Int} {r c : Nat} {V : List (cm_T × cm_T)} {C0 C1 : List cm_T} (e : V = (yl_D P r c C0 C1).map (ye_vec C0 C1)) {m : Nat} (hm : m < (yl_D P r c C0 C1).length) : re_at V m = ye_vec C0 C1 ((yl_D P r c C0 C1).getD m (0, 0)) := by
  rw [re_at, e, List.getD_eq_getElem?_getD, List.getElem?_map, List.getD_eq_getElem?_getD, List.getElem?_eq_getElem hm]; rfl
def re_sd (z : cm_T × cm_T) (s : Nat) : cm_T := if s = 0 then z.1 else z.2
theorem re_Eq {P : Nat → Int} {r c : Nat} {V : List (cm_T × cm_T)} (hV : cm_Can (pm_A P 0 false) (pm_A P 1 false) (2 ^ r - 1) (2 ^ c - 1) V) {m : Nat} (hm : m < V.length) : cm_Eq (pm_A P 0 false) (pm_A P 1 false) (2 ^ r - 1) (2 ^ c - 1) (re_at V m) :=
  (hV.2 _).mp (so_getD_mem hm)
theorem re_sd_ok {P : Nat → Int} {r c : Nat} {V : List (cm_T × cm_T)} (hV : cm_Can (pm_A P 0 false) (pm_A P 1 false) (2 ^ r - 1) (2 ^ c - 1) V) {m : Nat} (hm : m < V.length) (s : Nat) : od_ok (re_sd (re_at V m) s) := by
  have h := re_Eq hV hm
  rw [re_sd]; split
  · exact cm_ok h.1
  · exact cm_ok h.2.1
/-- a corner of the reference's list, by its place -/
theorem re_Y {P : Nat → Int} {r c : Nat} {V : List (cm_T × cm_T)} {pt wh : Nat → Int32} {C0 C1 : List cm_T} (hV : cm_Can (pm_A P 0 false) (pm_A P 1 false) (2 ^ r - 1) (2 ^ c - 1) V) (F : yl_F P r c pt wh C0 C1) {m : Nat} (hm : m < (yl_D P r c C0 C1).length) {k l : Nat} (e : (yl_D P r c C0 C1).getD m (0, 0) = (k, l)) :
    k < 8 ∧ l < 8 ∧ (∀ i, i < 3 → pt (48 * 0 + 3 * k + i) = zi_n (cm_cp (re_at V m).1 i)) ∧ wh (16 * 0 + k) = zi_n (cm_sum (re_at V m).1) ∧ (∀ i, i < 3 → pt (48 * 1 + 3 * l + i) = zi_n (cm_cp (re_at V m).2 i)) ∧ wh (16 * 1 + l) = zi_n (cm_sum (re_at V m).2) := by
  have eV := re_at_D (re_V hV F) hm
  rw [e] at eV
  have hz := ye_D_mem.mp (so_getD_mem (d := (0, 0)) hm)
  have hz' : ((yl_D P r c C0 C1).getD m (0, 0)).1 < C0.length ∧ ((yl_D P r c C0 C1).getD m (0, 0)).2 < C1.length := ⟨hz.1, hz.2.1⟩
  rw [e] at hz'
  obtain ⟨hk, hl⟩ := hz'
  have hk : k < C0.length := hk
  have hl : l < C1.length := hl
  have l0 := F.2.2.1
  have l1 := F.2.2.2.1
  rw [eV]
  exact ⟨by omega, by omega, (F.1 k hk).1, (F.1 k hk).2, (F.2.1 l hl).1, (F.2.1 l hl).2⟩
theorem dd_sm_tr (q : dd_R) : dd_sm q = cm_sum (dd_tr q) := rfl
theorem dd_c_tr (q : dd_R) {i : Nat} (hi : i < 3) : dd_c q i = cm_cp (dd_tr q) i := by
  match i, hi with
  | 0, _ => rfl
  | 1, _ => rfl
  | 2, _ => rfl
section
variable {rw cl mc ws os ld lc : Int32} {ft fb : Int64} {pa ec : Nat → Int32} {ed : Nat → Int64} {ti : Nat → Int32} {ma : Nat → Int64} {mt : Nat → Int32} {sl : Nat → Int64} {ls lx ly : Nat → Int32} {P : Nat → Int} {r c : Nat} {V : List (cm_T × cm_T)}
theorem xs_listA {post : SX → Prop} (hr : 0 < r ∧ r < 4 ∧ 0 < c ∧ c < 4) (hp : pm_ok pa P) (hs : re_St P r c ld lc ed lx ly)
    (K : ∀ mc' ws' os' lc' ec' ed' ti' ma' mt' sl' ls' lx' ly' V, cm_Can (pm_A P 0 false) (pm_A P 1 false) (2 ^ r - 1) (2 ^ c - 1) V → xs_Lst ed' lx' ly' lc' V → post (nI r, nI c, mc', ws', os', 1, lc', ft, fb, pa, ec', ed', ti', ma', mt', sl', ls', lx', ly')) :
    wpX_list post (nI r, nI c, mc, ws, os, ld, lc, ft, fb, pa, ec, ed, ti, ma, mt, sl, ls, lx, ly) := by
  rcases hs with rfl | ⟨rfl, V, h1, h2⟩
  · exact xs_list hp hr.1 hr.2.1 hr.2.2.1 hr.2.2.2 K
  · exact br_f (by decide) (K mc ws os lc ec ed ti ma mt sl ls lx ly V h1 h2)
theorem xs_edgeFor {post : Int32 → Prop} (hL : xs_Lst ed lx ly lc V) {m s : Nat} (hm : m < V.length) (hs : s < 2)
    (K : ∀ e q, e < 48 → dd_Bd q → dd_tr q = re_sd (re_at V m) s → (∀ i, i < 4 → ed (4 * e + i) = zl_n (dd_c q i)) → post (nI e)) : wpX_edgeFor post (rw, cl, mc, ws, os, ld, lc, ft, fb, pa, ec, ed, ti, ma, mt, sl, ls, lx, ly) (nI m) (nI s) := by
  obtain ⟨_, l64, H⟩ := hL
  obtain ⟨a, b, ha, hb, ex, ey, ⟨q0, B0, t0, h0⟩, ⟨q1, B1, t1, h1⟩⟩ := H m hm
  have cm : (nI m).toNatClampNeg = m := nI_clamp (by omega)
  by_cases e : s = 0
  · subst e
    refine br_t rfl ⟨pk_in m 64 (by omega), ?_⟩
    rw [cm, ex]
    exact K a q0 (by omega) B0 (by rw [re_sd, if_pos rfl]; exact t0) h0
  · refine br_f (nI_ne0 (by omega) (by omega)) ⟨pk_in m 64 (by omega), ?_⟩
    rw [cm, ey, xi_24p]
    exact K (24 + b) q1 (by omega) B1 (by rw [re_sd, if_neg e]; exact t1) h1
theorem xs_mixDivisor {post : Int64 → Prop} {e : Nat} {q : dd_R} (he : e < 48) (B : dd_Bd q) (ok : od_ok (dd_tr q)) (hq : ∀ i, i < 4 → ed (4 * e + i) = zl_n (dd_c q i)) (K : post 1) : wpX_mixDivisor post (rw, cl, mc, ws, os, ld, lc, ft, fb, pa, ec, ed, ti, ma, mt, sl, ls, lx, ly) (nI e) := by
  have i0 : (4 : Int32) * nI e = nI (4 * e) := xi_4m e
  have i1 : (4 : Int32) * nI e + 1 = nI (4 * e + 1) := xi_4 e 1
  have i2 : nI (4 * e) + 2 = nI (4 * e + 2) := nI_add (4 * e) 2
  have b0 := dd_Bd_c3 B (i := 0) (by decide)
  have b1 := dd_Bd_c3 B (i := 1) (by decide)
  have b2 := dd_Bd_c3 B (i := 2) (by decide)
  have h0 := hq 0 (by decide)
  rw [Nat.add_zero] at h0
  refine ⟨pk_in _ 192 (by omega) i0, pk_in _ 192 (by omega) i1, ?_⟩
  rw [i1, i0, nI_clamp (by omega), nI_clamp (by omega), h0, hq 1 (by decide)]
  refine xs_commonDivisor (by omega) (by omega) (by omega) (by omega) ⟨pk_in _ 192 (by omega) i2, ?_⟩
  have gl : Nat.gcd (dd_c q 0).natAbs (dd_c q 1).natAbs ≤ 648 := by
    by_cases z : (dd_c q 1).natAbs = 0
    · rw [z, Nat.gcd_zero_right]; omega
    · have := Nat.gcd_le_right (dd_c q 0).natAbs (n := (dd_c q 1).natAbs) (by omega); omega
  rw [i2, nI_clamp (by omega), hq 2 (by decide), zl_nat]
  refine xs_commonDivisor (by omega) (by omega) (by omega) (by omega) ?_
  have g := ok.2
  have g' : Nat.gcd (Nat.gcd (Nat.gcd (Nat.gcd 0 (dd_c q 0).natAbs) (dd_c q 1).natAbs) (dd_c q 2).natAbs) 0 = 1 := g
  rw [Nat.gcd_zero_left, Nat.gcd_zero_right] at g'
  rw [Int.natAbs_natCast, g']
  exact K
theorem zl_div1 {x : Int} (h1 : -1000000000 ≤ x) (h2 : x ≤ 1000000000) : (zl_n x / 1).toInt32 = zi_n x := by
  rw [show (1 : Int64) = zl_n 1 from rfl, zl_div (by omega) (by omega) (by decide) (by decide), Int.tdiv_one, zl_i]
theorem xs_choicesOf {post : Int32 → Prop} {s : Nat} (hs : s < 2) (h : post (nI (pm_ch r c s))) : wpX_choicesOf post (nI r, nI c, mc, ws, os, ld, lc, ft, fb, pa, ec, ed, ti, ma, mt, sl, ls, lx, ly) (nI s) := by
  by_cases e : s = 0
  · subst e; exact br_t rfl h
  · rw [pm_ch, if_neg e] at h
    exact br_f (nI_ne0 (by omega) (by omega)) h
end
theorem i_vc_equilibria {k : Nat} {u : SX} {v : SY} (I : i_Rel k u v) (hk : k + 4 ≤ 2050) : wpX_equilibria (fun r u' => wpY_equilibria (fun r' v' => r' = r ∧ i_Rel (k + 4) u' v') v) u := by
  refine re_el (Q := fun u v => wpX_equilibria (fun r u' => wpY_equilibria (fun r' v' => r' = r ∧ i_Rel (k + 4) u' v') v) u) I ?_
  intro r c P mc ws os ld lc ft fb pa ec ed ti ma mt sl ls lx ly sp nu pt wh mx gt hr hp hs
  unfold wpX_equilibria
  refine xs_listA hr hp hs fun mc' ws' os' lc' ec' ed' ti' ma' mt' sl' ls' lx' ly' V hV hL => ?_
  unfold wpY_equilibria
  refine yl_list hp true hr.2.1 hr.2.2.2 hr.1 hr.2.2.1 (fun _ nu' pt' wh' mx' gt' C0 C1 F => ?_) (fun h => absurd h (by decide)) (fun h => absurd h (by decide))
  refine ⟨?_, re_mk hr hp (Or.inr ⟨rfl, V, hV, hL⟩)⟩
  rw [hL.1, re_V hV F, List.length_map]
theorem re_num {V : List (cm_T × cm_T)} (h64 : V.length ≤ 64) (v : Int32) : (∃ m, m < V.length ∧ v = nI m) ∨ ((∀ m, m < V.length → v ≠ nI m) ∧ ∀ {A B : Prop}, B → ((v < 0 → B) ∧ (¬ v < 0 → ((v < nI V.length → A) ∧ (¬ v < nI V.length → B))))) := by
  by_cases h0 : v < 0
  · refine Or.inr ⟨fun m hm e => ?_, fun h => br_t h0 h⟩
    rw [e] at h0
    exact nI_pos (by omega) h0
  · obtain ⟨m, hm, rfl⟩ := nI_of h0
    by_cases h1 : m < V.length
    · exact Or.inl ⟨m, h1, rfl⟩
    · refine Or.inr ⟨fun m' hm' e => ?_, fun h => br_f h0 (br_f (nI_nlt (by omega) (by omega)) h)⟩
      have := (nI_eq (by omega) (by omega)).mp e
      omega
theorem re_num1 {V : List (cm_T × cm_T)} (h64 : V.length ≤ 64) {m : Nat} (hm : m < V.length) {A B : Prop} (h : A) : (nI m < 0 → B) ∧ (¬ nI m < 0 → ((nI m < nI V.length → A) ∧ (¬ nI m < nI V.length → B))) :=
  br_f (nI_pos (by omega)) (br_t (nI_lt hm (by omega)) h)
section
variable {rw cl : Int32} {pa sp nu pt wh mx gt : Nat → Int32} {P : Nat → Int} {r c : Nat} {V : List (cm_T × cm_T)}
theorem yl_get {post : Int32 → SY → Prop} (hr : 0 < r ∧ r < 4 ∧ 0 < c ∧ c < 4) (hp : pm_ok pa P) (hV : cm_Can (pm_A P 0 false) (pm_A P 1 false) (2 ^ r - 1) (2 ^ c - 1) V) (h64 : V.length ≤ 64) {m : Nat} (hm : m < V.length)
    (K : ∀ nu' pt' wh' mx' gt' k l, k < 8 → l < 8 → (∀ i, i < 3 → pt' (48 * 0 + 3 * k + i) = zi_n (cm_cp (re_at V m).1 i)) → wh' (16 * 0 + k) = zi_n (cm_sum (re_at V m).1) → (∀ i, i < 3 → pt' (48 * 1 + 3 * l + i) = zi_n (cm_cp (re_at V m).2 i)) → wh' (16 * 1 + l) = zi_n (cm_sum (re_at V m).2) → post (nI (16 * k + l)) (nI r, nI c, pa, sp, nu', pt', wh', mx', gt')) : wpY_list post (nI r, nI c, pa, sp, nu, pt, wh, mx, gt) (nI m) 0 := by
  refine yl_list hp false hr.2.1 hr.2.2.2 hr.1 hr.2.2.1 (fun h => absurd h (by decide)) (fun _ nu' pt' wh' mx' gt' C0 C1 m' F hm' em => ?_) (fun _ nu' pt' wh' mx' gt' C0 C1 F hno => ?_)
  · have eV := re_V hV F
    have hm2 : m' < V.length := by rw [eV, List.length_map]; exact hm'
    have em2 : m = m' := (nI_eq (by omega) (by omega)).mp em
    subst em2
    obtain ⟨h1, h2, h3, h4, h5, h6⟩ := re_Y hV F hm' (k := ((yl_D P r c C0 C1).getD m (0, 0)).1) (l := ((yl_D P r c C0 C1).getD m (0, 0)).2) rfl
    exact K nu' pt' wh' mx' gt' _ _ h1 h2 h3 h4 h5 h6
  · exfalso
    rw [re_V hV F, List.length_map] at hm
    exact hno m hm rfl
theorem yl_none {post : Int32 → SY → Prop} (hr : 0 < r ∧ r < 4 ∧ 0 < c ∧ c < 4) (hp : pm_ok pa P) (hV : cm_Can (pm_A P 0 false) (pm_A P 1 false) (2 ^ r - 1) (2 ^ c - 1) V) {v : Int32} (hno : ∀ m, m < V.length → v ≠ nI m)
    (K : ∀ nu' pt' wh' mx' gt', post (-1) (nI r, nI c, pa, sp, nu', pt', wh', mx', gt')) : wpY_list post (nI r, nI c, pa, sp, nu, pt, wh, mx, gt) v 0 := by
  refine yl_list hp false hr.2.1 hr.2.2.2 hr.1 hr.2.2.1 (fun h => absurd h (by decide)) (fun _ nu' pt' wh' mx' gt' C0 C1 m' F hm' em => ?_) (fun _ nu' pt' wh' mx' gt' C0 C1 F hno => K nu' pt' wh' mx' gt')
  exfalso
  have hm2 : m' < V.length := by rw [re_V hV F, List.length_map]; exact hm'
  exact hno m' hm2 em
theorem ys_part44 {post : Int32 → SY → Prop} {s q : Nat} {v : Int32} (r3 : r < 4) (c3 : c < 4) (hs : s < 2) (hq : q < 8) (h1 : ∀ i, i < pm_ch r c s → v = nI i → post (pt (48 * s + 3 * q + i)) (nI r, nI c, pa, sp, nu, pt, wh, mx, gt)) (h0 : (∀ i, i < pm_ch r c s → v ≠ nI i) → post 0 (nI r, nI c, pa, sp, nu, pt, wh, mx, gt)) : wY_part_44 post (nI s) v (nI q) (nI r) (nI c) pa sp nu pt wh mx gt := by
  have ch4 : pm_ch r c s < 4 := by rw [pm_ch]; split <;> omega
  by_cases n : v < 0
  · exact br_t n (h0 (fun i hi e => by rw [e] at n; exact nI_pos (by omega) n))
  · obtain ⟨i, hi, rfl⟩ := nI_of n
    refine br_f n (ys_choices hs ?_)
    by_cases h : pm_ch r c s ≤ i
    · exact br_t (nI_le h (by omega)) (h0 (fun j hj e => by have := (nI_eq hi (by omega)).mp e; omega))
    · refine br_f (nI_ge (by omega) (by omega)) ⟨pk_in _ 96 (by omega) (xi_48 s q i), ?_⟩
      rw [xi_48, nI_clamp (by omega)]
      exact h1 i (by omega) rfl
end
theorem xi_d16 {k l : Nat} (hk : k < 8) (hl : l < 8) : nI (16 * k + l) / 16 = nI k ∧ nI (16 * k + l) - nI (16 * k + l) / 16 * 16 = nI l ∧ (0 : Int32) ≤ nI (16 * k + l) := by
  have e : (16 : Int32) = nI 16 := rfl
  rw [e, pk_div (by omega) (by decide) (by decide), pk_mul, pk_sub (by omega)]
  refine ⟨congrArg nI (by omega), congrArg nI (by omega), nI_pos' (by omega)⟩
theorem i_vc_part {k : Nat} {u : SX} {v : SY} (I : i_Rel k u v) (hk : k + 4 ≤ 2050) (v1 : Int32) (v2 : Int32) (v3 : Int32) : wpX_part (fun r u' => wpY_part (fun r' v' => r' = r ∧ i_Rel (k + 4) u' v') v v1 v2 v3) u v1 v2 v3 := by
  refine re_el (Q := fun u v => wpX_part (fun r u' => wpY_part (fun r' v' => r' = r ∧ i_Rel (k + 4) u' v') v v1 v2 v3) u v1 v2 v3) I ?_
  intro r c P mc ws os ld lc ft fb pa ec ed ti ma mt sl ls lx ly sp nu pt wh mx gt hr hp hs
  unfold wpX_part
  by_cases hsd : ∃ s, s < 2 ∧ v2 = nI s
  · obtain ⟨s, s2, rfl⟩ := hsd
    refine xs_side1 s2 (br_f (by decide) ?_)
    refine xs_listA hr hp hs fun mc' ws' os' lc' ec' ed' ti' ma' mt' sl' ls' lx' ly' V hV hL => ?_
    have h64 := hL.2.1
    have hlc := hL.1
    subst hlc
    have ch4 : pm_ch r c s < 4 := by
      rw [pm_ch]; split
      · exact hr.2.1
      · exact hr.2.2.2
    rcases re_num h64 v1 with ⟨m, hm, rfl⟩ | ⟨hno, hb⟩
    · refine re_num1 h64 hm ?_
      have okm := re_sd_ok hV hm s
      -- the reference, for the component's answer
      have yside : ∀ (ans : Int32), ((∀ i, i < pm_ch r c s → v3 = nI i → ans = zi_n (cm_cp (re_sd (re_at V m) s) i)) ∧ ((∀ i, i < pm_ch r c s → v3 ≠ nI i) → ans = 0)) → wpY_part (fun r' v' => r' = ans ∧ i_Rel (k + 4) (nI r, nI c, mc', ws', os', 1, nI V.length, ft, fb, pa, ec', ed', ti', ma', mt', sl', ls', lx', ly') v') (nI r, nI c, pa, sp, nu, pt, wh, mx, gt) (nI m) (nI s) v3 := by
        intro ans hans
        unfold wpY_part
        refine ys_side1 s2 (br_f (by decide) ?_)
        refine yl_get hr hp hV h64 hm fun nu' pt' wh' mx' gt' kk ll k8 l8 g1 g2 g3 g4 => ?_
        obtain ⟨d1, d2, d3⟩ := xi_d16 k8 l8
        refine br_t d3 ?_
        have rel : ∀ {mx'' : Nat → Int32}, i_Rel (k + 4) (nI r, nI c, mc', ws', os', 1, nI V.length, ft, fb, pa, ec', ed', ti', ma', mt', sl', ls', lx', ly') (nI r, nI c, pa, sp, nu', pt', wh', mx', gt') := fun {_} => re_mk hr hp (Or.inr ⟨rfl, V, hV, hL⟩)
        by_cases e : s = 0
        · subst e
          refine br_t rfl ⟨by decide, ?_⟩
          rw [d1]
          refine ys_part44 (s := 0) hr.2.1 hr.2.2.2 (by decide) k8 (fun i hi ei => ⟨?_, rel (mx'' := mx)⟩) (fun h => ⟨(hans.2 h).symm, rel (mx'' := mx)⟩)
          rw [hans.1 i hi ei]
          exact g1 i (by omega)
        · have e1 : s = 1 := by omega
          subst e1
          refine br_f (by decide) ⟨by decide, ?_⟩
          rw [d2]
          refine ys_part44 (s := 1) hr.2.1 hr.2.2.2 (by decide) l8 (fun i hi ei => ⟨?_, rel (mx'' := mx)⟩) (fun h => ⟨(hans.2 h).symm, rel (mx'' := mx)⟩)
          rw [hans.1 i hi ei]
          exact g3 i (by omega)
      by_cases n : v3 < 0
      · refine br_t n (yside 0 ⟨fun i hi e => ?_, fun _ => rfl⟩)
        rw [e] at n
        exact absurd n (nI_pos (by omega))
      · obtain ⟨i, hi, rfl⟩ := nI_of n
        refine br_f n (xs_choicesOf s2 ?_)
        by_cases h : i < pm_ch r c s
        · refine br_t (nI_lt h (by omega)) ?_
          refine xs_edgeFor hL hm s2 fun e q he Bq tq hq => ?_
          refine xs_mixDivisor he Bq (by rw [tq]; exact okm) hq ?_
          have b := dd_Bd_c3 Bq (show i < 3 by omega)
          refine ⟨pk_in _ 192 (show 4 * e + i < 192 by omega) (xi_4 e i), by decide, ?_⟩
          rw [xi_4, nI_clamp (by omega), hq i (by omega), zl_div1 (by omega) (by omega)]
          refine yside _ ⟨fun j hj ej => ?_, fun hno => absurd rfl (hno i h)⟩
          have : i = j := (nI_eq hi (by omega)).mp ej
          subst this
          rw [dd_c_tr q (by omega), tq]
        · refine br_f (nI_nlt (by omega) (by omega)) (yside 0 ⟨fun j hj e => ?_, fun _ => rfl⟩)
          have := (nI_eq hi (by omega)).mp e
          omega
    · refine hb ?_
      unfold wpY_part
      refine ys_side1 s2 (br_f (by decide) ?_)
      exact yl_none hr hp hV hno fun nu' pt' wh' mx' gt' => br_f (by decide) ⟨rfl, re_mk hr hp (Or.inr ⟨rfl, V, hV, hL⟩)⟩
  · refine xs_side0 (fun s s2 e => hsd ⟨s, s2, e⟩) (br_t rfl ?_)
    unfold wpY_part
    exact ys_side0 (fun s s2 e => hsd ⟨s, s2, e⟩) (br_t rfl ⟨rfl, re_mk hr hp hs⟩)
theorem i_vc_whole {k : Nat} {u : SX} {v : SY} (I : i_Rel k u v) (hk : k + 4 ≤ 2050) (v1 : Int32) (v2 : Int32) : wpX_whole (fun r u' => wpY_whole (fun r' v' => r' = r ∧ i_Rel (k + 4) u' v') v v1 v2) u v1 v2 := by
  refine re_el (Q := fun u v => wpX_whole (fun r u' => wpY_whole (fun r' v' => r' = r ∧ i_Rel (k + 4) u' v') v v1 v2) u v1 v2) I ?_
  intro r c P mc ws os ld lc ft fb pa ec ed ti ma mt sl ls lx ly sp nu pt wh mx gt hr hp hs
  unfold wpX_whole
  by_cases hsd : ∃ s, s < 2 ∧ v2 = nI s
  · obtain ⟨s, s2, rfl⟩ := hsd
    refine xs_side1 s2 (br_f (by decide) ?_)
    refine xs_listA hr hp hs fun mc' ws' os' lc' ec' ed' ti' ma' mt' sl' ls' lx' ly' V hV hL => ?_
    have h64 := hL.2.1
    have hlc := hL.1
    subst hlc
    rcases re_num h64 v1 with ⟨m, hm, rfl⟩ | ⟨hno, hb⟩
    · refine re_num1 h64 hm ?_
      have okm := re_sd_ok hV hm s
      refine xs_edgeFor hL hm s2 fun e q he Bq tq hq => ?_
      refine xs_mixDivisor he Bq (by rw [tq]; exact okm) hq ?_
      refine xs_sumOf he hq ⟨by decide, ?_⟩
      have b := dd_Bd_sm Bq
      rw [zl_div1 (by omega) (by omega), dd_sm_tr, tq]
      unfold wpY_whole
      refine ys_side1 s2 (br_f (by decide) ?_)
      refine yl_get hr hp hV h64 hm fun nu' pt' wh' mx' gt' kk ll k8 l8 g1 g2 g3 g4 => ?_
      obtain ⟨d1, d2, d3⟩ := xi_d16 k8 l8
      refine br_t d3 ?_
      by_cases e : s = 0
      · subst e
        refine br_t rfl ⟨by decide, ?_⟩
        rw [d1]
        refine ⟨pk_in _ 32 (show 16 * 0 + kk < 32 by omega) (xi_16 0 kk), ?_, re_mk hr hp (Or.inr ⟨rfl, V, hV, hL⟩)⟩
        rw [xi_16, nI_clamp (by omega)]
        exact g2
      · have e1 : s = 1 := by omega
        subst e1
        refine br_f (by decide) ⟨by decide, ?_⟩
        rw [d2]
        refine ⟨pk_in _ 32 (show 16 * 1 + ll < 32 by omega) (xi_16 1 ll), ?_, re_mk hr hp (Or.inr ⟨rfl, V, hV, hL⟩)⟩
        rw [xi_16, nI_clamp (by omega)]
        exact g4
    · refine hb ?_
      unfold wpY_whole
      refine ys_side1 s2 (br_f (by decide) ?_)
      exact yl_none hr hp hV hno fun nu' pt' wh' mx' gt' => br_f (by decide) ⟨rfl, re_mk hr hp (Or.inr ⟨rfl, V, hV, hL⟩)⟩
  · refine xs_side0 (fun s s2 e => hsd ⟨s, s2, e⟩) (br_t rfl ?_)
    unfold wpY_whole
    exact ys_side0 (fun s s2 e => hsd ⟨s, s2, e⟩) (br_t rfl ⟨rfl, re_mk hr hp hs⟩)
end
section
/-! fractions, and what the sides get -/
def fr_g (a b : Int) : Nat := Nat.gcd a.natAbs b.natAbs
theorem fr_g_pos {a b : Int} (h : 0 < b) : 0 < fr_g a b := Nat.gcd_pos_of_pos_right _ (by omega)
theorem fr_g_le {a b : Int} (h : 0 < b) : (fr_g a b : Int) ≤ b := by
  have := Nat.gcd_le_right a.natAbs (n := b.natAbs) (by omega)
  have e : fr_g a b = Nat.gcd a.natAbs b.natAbs := rfl
  omega
theorem fr_g_da (a b : Int) : (fr_g a b : Int) ∣ a := Int.ofNat_dvd_left.mpr (Nat.gcd_dvd_left _ _)
theorem fr_g_db (a b : Int) : (fr_g a b : Int) ∣ b := Int.ofNat_dvd_left.mpr (Nat.gcd_dvd_right _ _)
theorem ar_q {a : Int} {g : Nat} {B : Int} (hg : 0 < g) (h1 : -B ≤ a) (h2 : a ≤ B) (d : (g : Int) ∣ a) : -B ≤ a / (g : Int) ∧ a / (g : Int) ≤ B := by
  have e := Int.mul_ediv_cancel' d
  generalize a / (g : Int) = v at e
  by_cases c : 0 ≤ v
  · have : 1 * v ≤ (g : Int) * v := Int.mul_le_mul_of_nonneg_right (by omega) c
    omega
  · have := Int.mul_le_mul_of_nonneg_right (a := 1) (b := (g : Int)) (c := -v) (by omega) (by omega)
    rw [Int.mul_neg, Int.mul_neg] at this
    omega
section
variable {rw cl mc ws os ld lc : Int32} {ft fb : Int64} {pa ec : Nat → Int32} {ed : Nat → Int64} {ti : Nat → Int32} {ma : Nat → Int64} {mt : Nat → Int32} {sl : Nat → Int64} {ls lx ly : Nat → Int32}
theorem xs_shorten {post : SX → Prop} {a b : Int} (a1 : -4611686018427387904 ≤ a) (a2 : a ≤ 4611686018427387904) (b1 : 0 < b) (b2 : b ≤ 4611686018427387904) (K : post (rw, cl, mc, ws, os, ld, lc, zl_n (a / (fr_g a b : Int)), zl_n (b / (fr_g a b : Int)), pa, ec, ed, ti, ma, mt, sl, ls, lx, ly)) : wpX_shorten post (rw, cl, mc, ws, os, ld, lc, zl_n a, zl_n b, pa, ec, ed, ti, ma, mt, sl, ls, lx, ly) := by
  unfold wpX_shorten
  refine xs_commonDivisor a1 a2 (by omega) b2 ?_
  have gp := fr_g_pos (a := a) b1
  have gl := fr_g_le (a := a) b1
  have hne : ¬ lN (fr_g a b) = 0 := fun hh => by
    have := (pk_lEQ (b := 0) (by omega) (by decide)).mp hh
    omega
  refine ⟨hne, fun x ex => ⟨hne, fun y ey => ?_⟩⟩
  have ex : x = zl_n a / lN (fr_g a b) := ex
  have ey : y = zl_n b / lN (fr_g a b) := ey
  rw [zl_nat, zl_div (by omega) (by omega) (by omega) (by omega), Int.tdiv_eq_ediv_of_dvd (fr_g_da a b)] at ex
  rw [zl_nat, zl_div (by omega) (by omega) (by omega) (by omega), Int.tdiv_eq_ediv_of_dvd (fr_g_db a b)] at ey
  rw [ex, ey]
  exact K
end
section
variable {rw cl : Int32} {pa sp nu pt wh mx gt : Nat → Int32}
theorem ys_lowest {post : Int32 → Prop} {a b : Int} (tp : Bool) (a1 : -2147483648 < a) (a2 : a < 2147483648) (b1 : 0 < b) (b2 : b < 165580141) (K : post (zi_n ((if tp = true then a else b) / (fr_g a b : Int)))) : wpY_lowest post (rw, cl, pa, sp, nu, pt, wh, mx, gt) (zi_n a) (zi_n b) (xs_bI tp) := by
  have gp := fr_g_pos (a := a) b1
  have gl := fr_g_le (a := a) b1
  have k25 : ∀ z, wY_lowest_25 post (nI (fr_g a b)) (zi_n z) rw cl pa sp nu pt wh mx gt ↔ (z / (fr_g a b : Int) = z / (fr_g a b : Int) ∧ wY_lowest_25 post (nI (fr_g a b)) (zi_n z) rw cl pa sp nu pt wh mx gt) := fun z => ⟨fun h => ⟨rfl, h⟩, fun h => h.2⟩
  have go : wY_lowest_14 post (zi_n a) (zi_n b) (xs_bI tp) (nI (fr_g a b)) rw cl pa sp nu pt wh mx gt := by
    have fin : ∀ z : Int, -2147483648 < z → z < 2147483648 → (fr_g a b : Int) ∣ z → post (zi_n (z / (fr_g a b : Int))) → wY_lowest_25 post (nI (fr_g a b)) (zi_n z) rw cl pa sp nu pt wh mx gt := by
      intro z z1 z2 d h
      refine br_t (nI_le (a := 1) (by omega) (by omega)) ⟨nI_ne0 gp (by omega), ?_⟩
      rw [zi_nat, zi_div (by omega) (by omega) (by omega) (by omega), Int.tdiv_eq_ediv_of_dvd d]
      exact h
    cases tp with
    | false => exact br_t rfl (fin b (by omega) (by omega) (fr_g_db a b) K)
    | true => exact br_f (by decide) (fin a a1 a2 (fr_g_da a b) K)
  have z0 : (0 : Int32) = zi_n 0 := rfl
  by_cases c : a = 0
  · refine br_t (by rw [c]; rfl) ?_
    have e : zi_n b = nI (fr_g a b) := by
      rw [zi_nat, fr_g, c]
      congr 1
      rw [show (0 : Int).natAbs = 0 from rfl, Nat.gcd_zero_left]
      omega
    rw [← e] at go
    exact go
  · refine br_f (by rw [z0]; exact fun h => c ((zi_eq (by omega) (by omega) (by decide) (by decide)).mp h)) ?_
    refine ys_common a1 a2 (by omega) b2 ?_
    have e : ys_cg a b = fr_g a b := by
      show (if Nat.gcd a.natAbs b.natAbs < 1 then 1 else Nat.gcd a.natAbs b.natAbs) = Nat.gcd a.natAbs b.natAbs
      exact if_neg (by have : fr_g a b = Nat.gcd a.natAbs b.natAbs := rfl; omega)
    rw [e]
    exact go
end
/-! sums over a table -/
def gs_j (f : Nat → Nat → Int) (i : Nat) : Nat → Int
  | 0 => 0
  | j + 1 => gs_j f i j + f i j
def gs_i (f : Nat → Nat → Int) (c : Nat) : Nat → Int
  | 0 => 0
  | i + 1 => gs_i f c i + gs_j f i c
theorem gs_j_z (f : Nat → Nat → Int) (i c : Nat) : ∀ d, (∀ j, c ≤ j → j < c + d → f i j = 0) → gs_j f i (c + d) = gs_j f i c := by
  intro d
  induction d with
  | zero => intro _; rfl
  | succ d ih =>
    intro h
    rw [show c + (d + 1) = (c + d) + 1 from rfl, gs_j, ih (fun j h1 h2 => h j h1 (by omega)), h (c + d) (by omega) (by omega), Int.add_zero]
theorem gs_i_c (f : Nat → Nat → Int) {c : Nat} (c3 : c < 4) : ∀ r, (∀ i j, i < r → c ≤ j → j < 3 → f i j = 0) → gs_i f 3 r = gs_i f c r := by
  intro r
  induction r with
  | zero => intro _; rfl
  | succ r ih =>
    intro h
    rw [gs_i, gs_i, ih (fun i j h1 => h i j (by omega))]
    have := gs_j_z f r c (3 - c) (fun j h1 h2 => h r j (by omega) h1 (by omega))
    rw [show c + (3 - c) = 3 by omega] at this
    rw [this]
theorem gs_i_z (f : Nat → Nat → Int) (r : Nat) : ∀ d, (∀ i j, r ≤ i → i < r + d → j < 3 → f i j = 0) → gs_i f 3 (r + d) = gs_i f 3 r := by
  intro d
  induction d with
  | zero => intro _; rfl
  | succ d ih =>
    intro h
    rw [show r + (d + 1) = (r + d) + 1 from rfl, gs_i, ih (fun i j h1 h2 => h i j h1 (by omega))]
    have z : ∀ j, j ≤ 3 → gs_j f (r + d) j = 0 := by
      intro j
      induction j with
      | zero => intro _; rfl
      | succ j ihj =>
        intro hj
        rw [gs_j, ihj (by omega), h (r + d) j (by omega) (by omega) (by omega)]; rfl
    rw [z 3 (Nat.le_refl _), Int.add_zero]
def gs_f (x y : cm_T) (P : Nat → Int) (s i j : Nat) : Int := cm_cp x i * cm_cp y j * P (9 * s + 3 * i + j)
theorem ar_xyp {a b p : Int} (a1 : 0 ≤ a) (a2 : a ≤ 648) (b1 : 0 ≤ b) (b2 : b ≤ 648) (p1 : -9 ≤ p) (p2 : p ≤ 9) : -3779136 ≤ a * b * p ∧ a * b * p ≤ 3779136 := by
  have h1 := Int.mul_nonneg a1 b1
  have h2 : a * b ≤ a * 648 := Int.mul_le_mul_of_nonneg_left b2 a1
  have h3 := Int.mul_nonneg h1 (show 0 ≤ 9 - p by omega)
  have h4 := Int.mul_nonneg h1 (show 0 ≤ 9 + p by omega)
  rw [Int.mul_sub] at h3
  rw [Int.mul_add] at h4
  omega
theorem gs_bnd {pa : Nat → Int32} {P : Nat → Int} (hp : pm_ok pa P) {x y : cm_T} (bx : cm_b x) (b_y : cm_b y) (s : Nat) : -34012224 ≤ gs_i (gs_f x y P s) 3 3 ∧ gs_i (gs_f x y P s) 3 3 ≤ 34012224 := by
  have b : ∀ i j, i < 3 → j < 3 → -3779136 ≤ gs_f x y P s i j ∧ gs_f x y P s i j ≤ 3779136 := fun i j hi hj => ar_xyp (bx i hi).1 (bx i hi).2 (b_y j hj).1 (b_y j hj).2 (hp _).2.1 (hp _).2.2
  have b00 := b 0 0 (by decide) (by decide)
  have b01 := b 0 1 (by decide) (by decide)
  have b02 := b 0 2 (by decide) (by decide)
  have b10 := b 1 0 (by decide) (by decide)
  have b11 := b 1 1 (by decide) (by decide)
  have b12 := b 1 2 (by decide) (by decide)
  have b20 := b 2 0 (by decide) (by decide)
  have b21 := b 2 1 (by decide) (by decide)
  have b22 := b 2 2 (by decide) (by decide)
  simp only [gs_i, gs_j]
  omega
theorem cm_off {A : Nat → Nat → Int} {own other : Nat} {x : cm_T} (C : cm_Cor A own other x) {i : Nat} (hi : i < 3) (hb : own.testBit i = false) : cm_cp x i = 0 := by
  obtain ⟨q, hq, _, rfl, _⟩ := C
  rw [cm_cp_g A hi]
  exact hq.1.1 i hi hb
theorem xi_moff : ∀ r, r < 4 → ∀ i, i < 3 → ((2 ^ r - 1).testBit i = decide (i < r)) := by decide +kernel
theorem gs_all {A0 A1 : Nat → Nat → Int} {r c : Nat} (r3 : r < 4) (c3 : c < 4) {x y : cm_T} (hx : cm_Cor A0 (2 ^ r - 1) (2 ^ c - 1) x) (hy : cm_Cor A1 (2 ^ c - 1) (2 ^ r - 1) y) (P : Nat → Int) (s : Nat) : gs_i (gs_f x y P s) c r = gs_i (gs_f x y P s) 3 3 := by
  have zx : ∀ i, r ≤ i → i < 3 → cm_cp x i = 0 := fun i h1 h2 => cm_off hx h2 (by rw [xi_moff r r3 i h2]; exact decide_eq_false (by omega))
  have zy : ∀ j, c ≤ j → j < 3 → cm_cp y j = 0 := fun j h1 h2 => cm_off hy h2 (by rw [xi_moff c c3 j h2]; exact decide_eq_false (by omega))
  rw [← gs_i_c (gs_f x y P s) c3 r (fun i j h1 h2 h3 => by rw [gs_f, zy j h2 h3, Int.mul_zero, Int.zero_mul])]
  have := gs_i_z (gs_f x y P s) r (3 - r) (fun i j h1 h2 h3 => by rw [gs_f, zx i h1 (by omega), Int.zero_mul, Int.zero_mul])
  rw [show r + (3 - r) = 3 by omega] at this
  exact this.symm
section
variable {rw cl mc ws os ld lc : Int32} {ft fb : Int64} {pa ec : Nat → Int32} {ed : Nat → Int64} {ti : Nat → Int32} {ma : Nat → Int64} {mt : Nat → Int32} {sl : Nat → Int64} {ls lx ly : Nat → Int32} {P : Nat → Int} {r c : Nat}
theorem xs_fg38 {post : SX → Prop} {J26 : Int32 → Int64 → Prop} (hp : pm_ok pa P) {s e f i : Nat} {p q : dd_R} {T : Int} (c3 : c < 4) (hs : s < 2) (he : e < 48) (hf : f < 48) (hi : i < 3) (hP : ∀ i, i < 4 → ed (4 * e + i) = zl_n (dd_c p i)) (hQ : ∀ i, i < 4 → ed (4 * f + i) = zl_n (dd_c q i))
    (K : J26 (nI (i + 1)) (zl_n (T + gs_j (gs_f (dd_tr p) (dd_tr q) P s) i c))) :
    ∀ (d j n : Nat), j + d = c → d < n → wX_findGets_38 post J26 (nI s) (nI e) (nI f) (nI i) rw (nI c) mc ws os ld lc fb pa ec ed ti ma mt sl ls lx ly n (nI j) (zl_n (T + gs_j (gs_f (dd_tr p) (dd_tr q) P s) i j)) := by
  intro d
  induction d with
  | zero =>
    intro j n hj hn
    obtain ⟨n, rfl⟩ : ∃ m, n = m + 1 := ⟨n - 1, by omega⟩
    have e' : j = c := by omega
    subst e'
    refine br_t (nI_le (Nat.le_refl _) (by omega)) fun y ey => ?_
    rw [ey, nI_1]
    exact K
  | succ d ih =>
    intro j n hj hn
    obtain ⟨n, rfl⟩ : ∃ m, n = m + 1 := ⟨n - 1, by omega⟩
    have ie : (4 * nI e) + nI i = nI (4 * e + i) := xi_4 e i
    have jf : (4 * nI f) + nI j = nI (4 * f + j) := xi_4 f j
    have b := hp (9 * s + 3 * i + j)
    refine br_f (nI_ge (by omega) (by omega)) ⟨pk_in _ 192 (by omega) ie, pk_in _ 192 (by omega) jf, ?_⟩
    refine xs_payment hs hi (by omega) fun t et y ey => ?_
    rw [ey, nI_1]
    rw [ie, jf, nI_clamp (by omega), nI_clamp (by omega), hP i (by omega), hQ j (by omega), b.1, zi_l (by omega) (by omega), zl_mul, zl_mul, zl_add] at et
    rw [et]
    have := ih (j + 1) n (by omega) (by omega)
    rw [gs_j, gs_f, ← dd_c_tr p hi, ← dd_c_tr q (by omega), ← Int.add_assoc] at this
    exact this
theorem xs_fg26 {post : SX → Prop} (hp : pm_ok pa P) {s e f : Nat} {p q : dd_R} (r3 : r < 4) (c3 : c < 4) (hs : s < 2) (he : e < 48) (hf : f < 48) (hP : ∀ i, i < 4 → ed (4 * e + i) = zl_n (dd_c p i)) (hQ : ∀ i, i < 4 → ed (4 * f + i) = zl_n (dd_c q i))
    (b1 : -34012224 ≤ gs_i (gs_f (dd_tr p) (dd_tr q) P s) c r) (b2 : gs_i (gs_f (dd_tr p) (dd_tr q) P s) c r ≤ 34012224) (b3 : 0 < dd_sm p * dd_sm q) (b4 : dd_sm p * dd_sm q ≤ 3779136)
    (K : post (nI r, nI c, mc, ws, os, ld, lc, zl_n (gs_i (gs_f (dd_tr p) (dd_tr q) P s) c r / (fr_g (gs_i (gs_f (dd_tr p) (dd_tr q) P s) c r) (dd_sm p * dd_sm q) : Int)), zl_n ((dd_sm p * dd_sm q) / (fr_g (gs_i (gs_f (dd_tr p) (dd_tr q) P s) c r) (dd_sm p * dd_sm q) : Int)), pa, ec, ed, ti, ma, mt, sl, ls, lx, ly)) :
    ∀ (d i n : Nat), i + d = r → d < n → wX_findGets_26 post (nI s) (nI e) (nI f) (nI r) (nI c) mc ws os ld lc fb pa ec ed ti ma mt sl ls lx ly n (nI i) (zl_n (gs_i (gs_f (dd_tr p) (dd_tr q) P s) c i)) := by
  intro d
  induction d with
  | zero =>
    intro i n hi hn
    obtain ⟨n, rfl⟩ : ∃ m, n = m + 1 := ⟨n - 1, by omega⟩
    have e' : i = r := by omega
    subst e'
    refine br_t (nI_le (Nat.le_refl _) (by omega)) ?_
    refine xs_sumOf he hP (xs_sumOf hf hQ fun y ey => ?_)
    rw [zl_mul] at ey
    rw [ey]
    exact xs_shorten (by omega) (by omega) b3 (by omega) K
  | succ d ih =>
    intro i n hi hn
    obtain ⟨n, rfl⟩ : ∃ m, n = m + 1 := ⟨n - 1, by omega⟩
    refine br_f (nI_ge (by omega) (by omega)) ⟨c + 1, ?_⟩
    rw [show gs_i (gs_f (dd_tr p) (dd_tr q) P s) c i = gs_i (gs_f (dd_tr p) (dd_tr q) P s) c i + gs_j (gs_f (dd_tr p) (dd_tr q) P s) i 0 from (Int.add_zero _).symm]
    exact xs_fg38 (J26 := wX_findGets_26 post (nI s) (nI e) (nI f) (nI r) (nI c) mc ws os ld lc fb pa ec ed ti ma mt sl ls lx ly n) (T := gs_i (gs_f (dd_tr p) (dd_tr q) P s) c i) hp c3 hs he hf (show i < 3 by omega) hP hQ (ih (i + 1) n (by omega) (by omega)) c 0 (c + 1) (by omega) (by omega)
theorem xs_findGets {post : SX → Prop} (hr : 0 < r ∧ r < 4 ∧ 0 < c ∧ c < 4) (hp : pm_ok pa P) {V : List (cm_T × cm_T)} (hV : cm_Can (pm_A P 0 false) (pm_A P 1 false) (2 ^ r - 1) (2 ^ c - 1) V) (hL : xs_Lst ed lx ly lc V) {m s : Nat} (hm : m < V.length) (hs : s < 2)
    (K : post (nI r, nI c, mc, ws, os, ld, lc, zl_n (gs_i (gs_f (re_at V m).1 (re_at V m).2 P s) 3 3 / (fr_g (gs_i (gs_f (re_at V m).1 (re_at V m).2 P s) 3 3) (cm_sum (re_at V m).1 * cm_sum (re_at V m).2) : Int)), zl_n ((cm_sum (re_at V m).1 * cm_sum (re_at V m).2) / (fr_g (gs_i (gs_f (re_at V m).1 (re_at V m).2 P s) 3 3) (cm_sum (re_at V m).1 * cm_sum (re_at V m).2) : Int)), pa, ec, ed, ti, ma, mt, sl, ls, lx, ly)) : wpX_findGets post (nI r, nI c, mc, ws, os, ld, lc, ft, fb, pa, ec, ed, ti, ma, mt, sl, ls, lx, ly) (nI m) (nI s) := by
  have hE := re_Eq hV hm
  obtain ⟨_, l64, H⟩ := hL
  obtain ⟨a, b, ha, hb, ex, ey, ⟨q0, B0, t0, h0⟩, ⟨q1, B1, t1, h1⟩⟩ := H m hm
  have t0 : dd_tr q0 = (re_at V m).1 := t0
  have t1 : dd_tr q1 = (re_at V m).2 := t1
  have cm : (nI m).toNatClampNeg = m := nI_clamp (by omega)
  have bx := cm_Cor_b (pm_rng hp 0 false) hE.1
  have b_y := cm_Cor_b (pm_rng hp 1 false) hE.2.1
  have gb := gs_bnd hp bx b_y s
  have ga := gs_all hr.2.1 hr.2.2.2 hE.1 hE.2.1 P s
  have s0 := (cm_ok hE.1).1
  have s1 := (cm_ok hE.2.1).1
  have u0 := cm_b_sum bx
  have u1 := cm_b_sum b_y
  have m1 := Int.mul_pos s0 s1
  have m2 : cm_sum (re_at V m).1 * cm_sum (re_at V m).2 ≤ 1944 * cm_sum (re_at V m).2 := Int.mul_le_mul_of_nonneg_right u0.2 (by omega)
  refine ⟨pk_in m 64 (by omega), fun x ex' => ⟨pk_in m 64 (by omega), fun y ey' => ⟨r + 1, ?_⟩⟩⟩
  rw [cm, ex] at ex'
  rw [cm, ey, xi_24p] at ey'
  rw [ex', ey']
  have := xs_fg26 (post := post) (s := s) (p := q0) (q := q1) (e := a) (f := 24 + b) (lx := lx) (ly := ly) (ls := ls) (sl := sl) (mt := mt) (ma := ma) (ti := ti) (ec := ec) (fb := fb) (mc := mc) (ws := ws) (os := os) (ld := ld) (lc := lc) hp hr.2.1 hr.2.2.2 hs (by omega) (by omega) h0 h1 (by rw [t0, t1, ga]; omega) (by rw [t0, t1, ga]; omega) (by rw [dd_sm_tr, dd_sm_tr, t0, t1]; exact m1) (by rw [dd_sm_tr, dd_sm_tr, t0, t1]; omega) (by rw [dd_sm_tr, dd_sm_tr, t0, t1, ga]; exact K) r 0 (r + 1) (by omega) (by omega)
  exact this
end
section
variable {rw cl : Int32} {pa sp nu pt wh mx gt : Nat → Int32} {P : Nat → Int} {r c : Nat}
theorem ys_go42 {post : Int32 → SY → Prop} {J33 : Int32 → Int32 → Prop} (hp : pm_ok pa P) {x3 : Int32} {s k l i : Nat} {x y : cm_T} {T : Int} (hs : s < 2) (hk : k < 8) (hl : l < 8) (hi : i < 3) (hx : ∀ i, i < 3 → pt (48 * 0 + 3 * k + i) = zi_n (cm_cp x i)) (hy : ∀ i, i < 3 → pt (48 * 1 + 3 * l + i) = zi_n (cm_cp y i))
    (K : J33 (zi_n (T + gs_j (gs_f x y P s) i 3)) (nI (i + 1))) :
    ∀ (d j n : Nat), j + d = 3 → d < n → wY_getsOf_42 post J33 (nI s) x3 (nI (16 * k + l)) (nI i) rw cl pa sp nu pt wh mx gt n (zi_n (T + gs_j (gs_f x y P s) i j)) (nI j) := by
  obtain ⟨d1, d2, d3⟩ := xi_d16 hk hl
  intro d
  induction d with
  | zero =>
    intro j n hj hn
    obtain ⟨n, rfl⟩ : ∃ m, n = m + 1 := ⟨n - 1, by omega⟩
    have e : j = 3 := by omega
    subst e
    refine br_t (show (3 : Int32) ≤ nI 3 by decide) fun y ey => ?_
    rw [ey, nI_1]
    exact K
  | succ d ih =>
    intro j n hj hn
    obtain ⟨n, rfl⟩ : ∃ m, n = m + 1 := ⟨n - 1, by omega⟩
    have e1 : (3 * (nI (16 * k + l) / 16)) + nI i = nI (48 * 0 + 3 * k + i) := by
      rw [d1, xi_3]; congr 1; omega
    have e2 : (48 + (3 * (nI (16 * k + l) - nI (16 * k + l) / 16 * 16))) + nI j = nI (48 * 1 + 3 * l + j) := by
      rw [d2, xi_3m, show (48 : Int32) = nI 48 from rfl, nI_add, nI_add]
    have e3 : ((9 * nI s) + (3 * nI i)) + nI j = nI (9 * s + 3 * i + j) := by rw [xi_9m, xi_3m, nI_add, nI_add]
    refine br_f (nI_ge (b := 3) (by omega) (by decide)) ⟨by decide, pk_in _ 96 (by omega) e1, by decide, pk_in _ 96 (by omega) e2, pk_in _ 18 (by omega) e3, fun t et y' ey => ?_⟩
    rw [ey, nI_1]
    rw [e1, e2, e3, nI_clamp (by omega), nI_clamp (by omega), nI_clamp (by omega), hx i hi, hy j (by omega), (hp _).1, zi_mul, zi_mul, zi_add] at et
    rw [et]
    have := ih (j + 1) n (by omega) (by omega)
    rw [gs_j, gs_f, ← Int.add_assoc] at this
    exact this
theorem ys_go33 {post : Int32 → SY → Prop} (hp : pm_ok pa P) (tp : Bool) {s k l : Nat} {x y : cm_T} (hs : s < 2) (hk : k < 8) (hl : l < 8) (hx : ∀ i, i < 3 → pt (48 * 0 + 3 * k + i) = zi_n (cm_cp x i)) (hy : ∀ i, i < 3 → pt (48 * 1 + 3 * l + i) = zi_n (cm_cp y i)) (wx : wh (16 * 0 + k) = zi_n (cm_sum x)) (wy : wh (16 * 1 + l) = zi_n (cm_sum y))
    (b1 : -34012224 ≤ gs_i (gs_f x y P s) 3 3) (b2 : gs_i (gs_f x y P s) 3 3 ≤ 34012224) (b3 : 0 < cm_sum x * cm_sum y) (b4 : cm_sum x * cm_sum y ≤ 3779136)
    (K : post (zi_n ((if tp = true then gs_i (gs_f x y P s) 3 3 else cm_sum x * cm_sum y) / (fr_g (gs_i (gs_f x y P s) 3 3) (cm_sum x * cm_sum y) : Int))) (rw, cl, pa, sp, nu, pt, wh, mx, gt)) :
    ∀ (d i n : Nat), i + d = 3 → d < n → wY_getsOf_33 post (nI s) (xs_bI tp) (nI (16 * k + l)) rw cl pa sp nu pt wh mx gt n (zi_n (gs_i (gs_f x y P s) 3 i)) (nI i) := by
  obtain ⟨d1, d2, d3⟩ := xi_d16 hk hl
  intro d
  induction d with
  | zero =>
    intro i n hi hn
    obtain ⟨n, rfl⟩ : ∃ m, n = m + 1 := ⟨n - 1, by omega⟩
    have e : i = 3 := by omega
    subst e
    have e1 : nI (16 * k + l) / 16 = nI (16 * 0 + k) := by rw [d1]; congr 1; omega
    have e2 : 16 + (nI (16 * k + l) - nI (16 * k + l) / 16 * 16) = nI (16 * 1 + l) := by rw [d2, show (16 : Int32) = nI 16 from rfl, nI_add]
    refine br_t (show (3 : Int32) ≤ nI 3 by decide) ⟨by decide, pk_in _ 32 (by omega) e1, by decide, pk_in _ 32 (by omega) e2, fun t et => ?_⟩
    rw [e2, e1, nI_clamp (by omega), nI_clamp (by omega), wx, wy, zi_mul] at et
    rw [et]
    exact ys_lowest tp (by omega) (by omega) b3 (by omega) K
  | succ d ih =>
    intro i n hi hn
    obtain ⟨n, rfl⟩ : ∃ m, n = m + 1 := ⟨n - 1, by omega⟩
    refine br_f (nI_ge (b := 3) (by omega) (by decide)) ⟨4, ?_⟩
    rw [show gs_i (gs_f x y P s) 3 i = gs_i (gs_f x y P s) 3 i + gs_j (gs_f x y P s) i 0 from (Int.add_zero _).symm]
    exact ys_go42 (J33 := wY_getsOf_33 post (nI s) (xs_bI tp) (nI (16 * k + l)) rw cl pa sp nu pt wh mx gt n) (x3 := xs_bI tp) (T := gs_i (gs_f x y P s) 3 i) hp hs hk hl (show i < 3 by omega) hx hy (ih (i + 1) n (by omega) (by omega)) 3 0 4 rfl (by decide)
theorem ys_getsOf {post : Int32 → SY → Prop} (hr : 0 < r ∧ r < 4 ∧ 0 < c ∧ c < 4) (hp : pm_ok pa P) (tp : Bool) {V : List (cm_T × cm_T)} (hV : cm_Can (pm_A P 0 false) (pm_A P 1 false) (2 ^ r - 1) (2 ^ c - 1) V) (h64 : V.length ≤ 64) {m s : Nat} (hm : m < V.length) (hs : s < 2)
    (K : ∀ nu' pt' wh' mx' gt', post (zi_n ((if tp = true then gs_i (gs_f (re_at V m).1 (re_at V m).2 P s) 3 3 else cm_sum (re_at V m).1 * cm_sum (re_at V m).2) / (fr_g (gs_i (gs_f (re_at V m).1 (re_at V m).2 P s) 3 3) (cm_sum (re_at V m).1 * cm_sum (re_at V m).2) : Int))) (nI r, nI c, pa, sp, nu', pt', wh', mx', gt')) : wpY_getsOf post (nI r, nI c, pa, sp, nu, pt, wh, mx, gt) (nI m) (nI s) (xs_bI tp) := by
  have hE := re_Eq hV hm
  have bx := cm_Cor_b (pm_rng hp 0 false) hE.1
  have b_y := cm_Cor_b (pm_rng hp 1 false) hE.2.1
  have gb := gs_bnd hp bx b_y s
  have s0 := (cm_ok hE.1).1
  have s1 := (cm_ok hE.2.1).1
  have u0 := cm_b_sum bx
  have u1 := cm_b_sum b_y
  have m1 := Int.mul_pos s0 s1
  have m2 : cm_sum (re_at V m).1 * cm_sum (re_at V m).2 ≤ 1944 * cm_sum (re_at V m).2 := Int.mul_le_mul_of_nonneg_right u0.2 (by omega)
  unfold wpY_getsOf
  refine ys_side1 hs (br_f (by decide) ?_)
  refine yl_get hr hp hV h64 hm fun nu' pt' wh' mx' gt' kk ll k8 l8 g1 g2 g3 g4 => ?_
  obtain ⟨d1, d2, d3⟩ := xi_d16 k8 l8
  refine br_t d3 ⟨4, ?_⟩
  exact ys_go33 hp tp hs k8 l8 g1 g3 g2 g4 gb.1 gb.2 m1 (by omega) (K nu' pt' wh' mx' gt') 3 0 4 rfl (by decide)
end
theorem re_gets {k : Nat} {u : SX} {v : SY} (I : i_Rel k u v) (tp : Bool) (v1 v2 : Int32) :
    (tp = true → wpX_getsTop (fun r u' => wpY_getsTop (fun r' v' => r' = r ∧ i_Rel (k + 4) u' v') v v1 v2) u v1 v2) ∧ (tp = false → wpX_getsBottom (fun r u' => wpY_getsBottom (fun r' v' => r' = r ∧ i_Rel (k + 4) u' v') v v1 v2) u v1 v2) := by
  refine re_el (Q := fun u v => (tp = true → wpX_getsTop (fun r u' => wpY_getsTop (fun r' v' => r' = r ∧ i_Rel (k + 4) u' v') v v1 v2) u v1 v2) ∧ (tp = false → wpX_getsBottom (fun r u' => wpY_getsBottom (fun r' v' => r' = r ∧ i_Rel (k + 4) u' v') v v1 v2) u v1 v2)) I ?_
  intro r c P mc ws os ld lc ft fb pa ec ed ti ma mt sl ls lx ly sp nu pt wh mx gt hr hp hs
  constructor
  · intro _
    unfold wpX_getsTop
    by_cases hsd : ∃ s, s < 2 ∧ v2 = nI s
    · obtain ⟨s, s2, rfl⟩ := hsd
      refine xs_side1 s2 (br_f (by decide) ?_)
      refine xs_listA hr hp hs fun mc' ws' os' lc' ec' ed' ti' ma' mt' sl' ls' lx' ly' V hV hL => ?_
      have h64 := hL.2.1
      have hlc := hL.1
      subst hlc
      rcases re_num h64 v1 with ⟨m, hm, rfl⟩ | ⟨hno, hb⟩
      · refine re_num1 h64 hm ?_
        refine xs_findGets hr hp hV hL hm s2 ?_
        unfold wpY_getsTop
        refine ys_getsOf hr hp true hV h64 hm s2 fun nu' pt' wh' mx' gt' => ?_
        refine ⟨?_, re_mk hr hp (Or.inr ⟨rfl, V, hV, hL⟩)⟩
        rw [zl_i, if_pos rfl]
      · refine hb ?_
        unfold wpY_getsTop wpY_getsOf
        refine ys_side1 s2 (br_f (by decide) ?_)
        exact yl_none hr hp hV hno fun nu' pt' wh' mx' gt' => br_f (by decide) ⟨rfl, re_mk hr hp (Or.inr ⟨rfl, V, hV, hL⟩)⟩
    · refine xs_side0 (fun s s2 e => hsd ⟨s, s2, e⟩) (br_t rfl ?_)
      unfold wpY_getsTop wpY_getsOf
      exact ys_side0 (fun s s2 e => hsd ⟨s, s2, e⟩) (br_t rfl ⟨rfl, re_mk hr hp hs⟩)
  · intro _
    unfold wpX_getsBottom
    by_cases hsd : ∃ s, s < 2 ∧ v2 = nI s
    · obtain ⟨s, s2, rfl⟩ := hsd
      refine xs_side1 s2 (br_f (by decide) ?_)
      refine xs_listA hr hp hs fun mc' ws' os' lc' ec' ed' ti' ma' mt' sl' ls' lx' ly' V hV hL => ?_
      have h64 := hL.2.1
      have hlc := hL.1
      subst hlc
      rcases re_num h64 v1 with ⟨m, hm, rfl⟩ | ⟨hno, hb⟩
      · refine re_num1 h64 hm ?_
        refine xs_findGets hr hp hV hL hm s2 ?_
        unfold wpY_getsBottom
        refine ys_getsOf hr hp false hV h64 hm s2 fun nu' pt' wh' mx' gt' => ?_
        refine ⟨?_, re_mk hr hp (Or.inr ⟨rfl, V, hV, hL⟩)⟩
        rw [zl_i, if_neg (by decide)]
      · refine hb ?_
        unfold wpY_getsBottom wpY_getsOf
        refine ys_side1 s2 (br_f (by decide) ?_)
        exact yl_none hr hp hV hno fun nu' pt' wh' mx' gt' => br_f (by decide) ⟨rfl, re_mk hr hp (Or.inr ⟨rfl, V, hV, hL⟩)⟩
    · refine xs_side0 (fun s s2 e => hsd ⟨s, s2, e⟩) (br_t rfl ?_)
      unfold wpY_getsBottom wpY_getsOf
      exact ys_side0 (fun s s2 e => hsd ⟨s, s2, e⟩) (br_t rfl ⟨rfl, re_mk hr hp hs⟩)
theorem i_vc_getsTop {k : Nat} {u : SX} {v : SY} (I : i_Rel k u v) (hk : k + 4 ≤ 2050) (v1 : Int32) (v2 : Int32) : wpX_getsTop (fun r u' => wpY_getsTop (fun r' v' => r' = r ∧ i_Rel (k + 4) u' v') v v1 v2) u v1 v2 := (re_gets I true v1 v2).1 rfl
theorem i_vc_getsBottom {k : Nat} {u : SX} {v : SY} (I : i_Rel k u v) (hk : k + 4 ≤ 2050) (v1 : Int32) (v2 : Int32) : wpX_getsBottom (fun r u' => wpY_getsBottom (fun r' v' => r' = r ∧ i_Rel (k + 4) u' v') v v1 v2) u v1 v2 := (re_gets I false v1 v2).2 rfl
end
section
/-! there are corners; what is sure -/
theorem dd_u_g6 (A : Nat → Nat → Int) {c : Nat} (hc : c < 3) (s o : Nat) : dd_g A (o + 3) (dd_u A c s) = A c s - A c o := by
  match c, hc with
  | 0, _ => simp [dd_g, dd_u]
  | 1, _ => simp [dd_g, dd_u]
  | 2, _ => simp [dd_g, dd_u]
theorem cm_ex (A : Nat → Nat → Int) {own other : Nat} (ho : own < 8) (o0 : 0 < own) (h8 : other < 8) (h0 : 0 < other) : ∃ x i, cm_Cor A own other x ∧ i < 3 ∧ other.testBit i = true ∧ cm_Best A other x i := by
  obtain ⟨c, hc, bc⟩ := ys_low_bit ho o0
  have hP := dd_all_pt A (own := own) h8 h0
  obtain ⟨t, ht, bt, hm⟩ := dd_min (fun t => other.testBit t = true) (fun t => -(A c t)) (fun _ => 1) (fun _ _ => by decide) 3 (ys_low_bit h8 h0)
  have hm' : ∀ s, s < 3 → other.testBit s = true → A c s ≤ A c t := fun s hs bs => by
    have := hm s hs bs
    omega
  have hin : dd_In A (dd_W own) (dd_KO own other 3) (dd_u A c t) := by
    refine ⟨fun s hs hw => ?_, fun s hs ks => ?_⟩
    · rw [dd_u_g3 A hc hs]
      by_cases e : s = c
      · rw [e, dd_W, bc] at hw; exact absurd hw (by decide)
      · rw [if_neg e]
    · rcases cm_t6 hs with h | ⟨o, ho', rfl⟩
      · rw [dd_u_g3 A hc h]
        split <;> decide
      · rw [dd_u_g6 A hc]
        have := hm' o ho' (by rw [← cm_Ko (own := own) ho']; exact ks)
        omega
  have hz : dd_u A c t ≠ dd_0 := by
    intro e
    have := dd_u_g3 A hc hc t
    rw [e, dd_g_0, if_pos rfl] at this
    exact absurd this (by decide)
  obtain ⟨m, em, tm⟩ := dd_face hP _ _ (Nat.le_refl _) hin hz
  have gt : dd_g A (t + 3) m = 0 := tm (t + 3) (by omega) (by rw [cm_Ko ht]; exact bt) (by rw [dd_u_g6 A hc]; omega)
  have sm : dd_sm m ≠ 0 := by
    intro hs
    apply em.2.1
    have n0 : 0 ≤ m.1 := cm_nn em.1 (c := 0) (by decide)
    have n1 : 0 ≤ m.2.1 := cm_nn em.1 (c := 1) (by decide)
    have n2 : 0 ≤ m.2.2.1 := cm_nn em.1 (c := 2) (by decide)
    have hs : m.1 + m.2.1 + m.2.2.1 = 0 := hs
    have z0 : m.1 = 0 := by omega
    have z1 : m.2.1 = 0 := by omega
    have z2 : m.2.2.1 = 0 := by omega
    have gt : m.2.2.2 - (m.1 * A 0 t + m.2.1 * A 1 t + m.2.2.1 * A 2 t) = 0 := gt
    rw [z0, z1, z2, Int.zero_mul, Int.zero_mul, Int.zero_mul] at gt
    exact dd_ext z0 z1 z2 (show m.2.2.2 = 0 by omega)
  have pn := dd_nrm_par em.2.1
  have en := dd_par_Ext pn em
  have gn := (dd_par_zero (A := A) pn (t + 3)).mpr gt
  have sn : dd_sm (dd_nrm m) ≠ 0 := by
    intro hs
    apply sm
    have e := dd_nrm_sc m
    have e0 : (dd_gcd m : Int) * (dd_nrm m).1 = m.1 := congrArg (fun x : dd_R => x.1) e
    have e1 : (dd_gcd m : Int) * (dd_nrm m).2.1 = m.2.1 := congrArg (fun x : dd_R => x.2.1) e
    have e2 : (dd_gcd m : Int) * (dd_nrm m).2.2.1 = m.2.2.1 := congrArg (fun x : dd_R => x.2.2.1) e
    show m.1 + m.2.1 + m.2.2.1 = 0
    rw [← e0, ← e1, ← e2, ← Int.mul_add, ← Int.mul_add]
    have hs : (dd_nrm m).1 + (dd_nrm m).2.1 + (dd_nrm m).2.2.1 = 0 := hs
    rw [hs, Int.mul_zero]
  refine ⟨dd_tr (dd_nrm m), t, ⟨_, en, dd_nrm_gcd em.2.1, rfl, sn⟩, ht, bt, fun o ho' bo => ?_⟩
  have gv : ∀ o, dd_g A (o + 3) (dd_nrm m) = (dd_nrm m).2.2.2 - cm_val A (dd_tr (dd_nrm m)) o := fun _ => rfl
  have := en.1.2 (o + 3) (by omega) (by rw [cm_Ko ho']; exact bo)
  rw [gv] at gn this
  omega
theorem dd_fin_ne {A : Nat → Nat → Int} {own other : Nat} (ho : own < 8) (o0 : 0 < own) (h8 : other < 8) (h0 : 0 < other) : 0 < (dd_fin A own other).length := by
  obtain ⟨x, i, C, _⟩ := cm_ex A ho o0 h8 h0
  obtain ⟨e, he, _⟩ := (dd_fin_cor ho h8 h0 x).mp C
  exact List.length_pos_of_mem he
def su_L (A : Nat → Nat → Int) (other : Nat) (x : cm_T) : Int := ys_mx (fun j => ys_gp A x j 3) other 3
theorem su_L_eq {A : Nat → Nat → Int} (hA : cm_Rng A) {own other : Nat} (h8 : other < 8) (h0 : 0 < other) {q : dd_R} (hq : dd_Ext A (dd_W own) (dd_KO own other 3) q) (g1 : dd_gcd q = 1) (hs : dd_sm q ≠ 0) : su_L A other (dd_tr q) = q.2.2.2 - 10 * dd_sm q := by
  have C : cm_Cor A own other (dd_tr q) := ⟨q, hq, g1, rfl, hs⟩
  have bx := cm_Cor_b hA C
  obtain ⟨o, ho, hb, hg⟩ := cm_tight hq hs
  have best : cm_Best A other (dd_tr q) o := by
    intro o' ho' bo'
    have gv : ∀ o, dd_g A (o + 3) q = q.2.2.2 - cm_val A (dd_tr q) o := fun _ => rfl
    have := hq.1.2 (o' + 3) (by omega) (by rw [cm_Ko ho']; exact bo')
    rw [gv] at hg this
    omega
  have e := (ys_mx_best hA bx (ys_low_bit h8 h0) ho hb).mpr best
  rw [su_L, ← e, ys_gp_3]
  have gv : dd_g A (o + 3) q = q.2.2.2 - cm_val A (dd_tr q) o := rfl
  rw [gv] at hg
  have : cm_sum (dd_tr q) = dd_sm q := rfl
  omega
def su_P (A : Nat → Nat → Int) (own other : Nat) (L s : Int) : Prop := ∃ x, cm_Cor A own other x ∧ s = cm_sum x ∧ L = su_L A other x ∧ ∀ y, cm_Cor A own other y → L * cm_sum y ≤ su_L A other y * s
theorem fr_nrm (a b : Int) : (dd_nrm (a, b, 0, 0)).1 = a / (fr_g a b : Int) ∧ (dd_nrm (a, b, 0, 0)).2.1 = b / (fr_g a b : Int) := by
  have e : dd_gcd (a, b, 0, 0) = fr_g a b := by
    show Nat.gcd (Nat.gcd (Nat.gcd (Nat.gcd 0 a.natAbs) b.natAbs) 0) 0 = _
    rw [Nat.gcd_zero_right, Nat.gcd_zero_right, Nat.gcd_zero_left]; rfl
  refine ⟨?_, ?_⟩
  · show a / (dd_gcd (a, b, 0, 0) : Int) = _
    rw [e]
  · show b / (dd_gcd (a, b, 0, 0) : Int) = _
    rw [e]
theorem fr_eq {a b c d : Int} (hb : 0 < b) (hd : 0 < d) (h : a * d = c * b) : a / (fr_g a b : Int) = c / (fr_g c d : Int) ∧ b / (fr_g a b : Int) = d / (fr_g c d : Int) := by
  have n1 : ((a, b, 0, 0) : dd_R) ≠ dd_0 := fun e => by
    have : b = 0 := congrArg (fun x : dd_R => x.2.1) e
    omega
  have n2 : ((c, d, 0, 0) : dd_R) ≠ dd_0 := fun e => by
    have : d = 0 := congrArg (fun x : dd_R => x.2.1) e
    omega
  have par : dd_par (a, b, 0, 0) (c, d, 0, 0) := by
    refine ⟨d, b, hd, hb, dd_ext ?_ ?_ ?_ ?_⟩
    · show d * a = b * c
      rw [Int.mul_comm d, Int.mul_comm b]; exact h
    · show d * b = b * d
      exact Int.mul_comm _ _
    · show d * 0 = b * 0
      rw [Int.mul_zero, Int.mul_zero]
    · show d * 0 = b * 0
      rw [Int.mul_zero, Int.mul_zero]
  have e := dd_par_eq (dd_par_trans (dd_nrm_par n1) (dd_par_trans par (dd_par_symm (dd_nrm_par n2)))) (dd_nrm_gcd n1) (dd_nrm_gcd n2)
  have f1 := fr_nrm a b
  have f2 := fr_nrm c d
  rw [e] at f1
  exact ⟨f1.1.symm.trans f2.1, f1.2.symm.trans f2.2⟩
theorem su_uniq {A : Nat → Nat → Int} {own other : Nat} {L s L' s' : Int} (h : su_P A own other L s) (h' : su_P A own other L' s') : 0 < s ∧ 0 < s' ∧ (-L) * s' = (-L') * s := by
  obtain ⟨x, C, e1, e2, m⟩ := h
  obtain ⟨x', C', e1', e2', m'⟩ := h'
  have p := (cm_ok C).1
  have p' := (cm_ok C').1
  have a := m x' C'
  have b := m' x C
  rw [← e1', ← e2'] at a
  rw [← e1, ← e2] at b
  refine ⟨by omega, by omega, ?_⟩
  rw [Int.neg_mul, Int.neg_mul]
  omega
theorem ar_min3 {vb sb ve se vj sj : Int} (hb : 0 < sb) (he : 0 < se) (hj : 0 < sj) (h1 : ve * sb ≤ vb * se) (h2 : vb * sj ≤ vj * sb) : ve * sj ≤ vj * se := by
  have a1 : (ve * sb) * sj ≤ (vb * se) * sj := Int.mul_le_mul_of_nonneg_right h1 (by omega)
  have a2 : (vb * sj) * se ≤ (vj * sb) * se := Int.mul_le_mul_of_nonneg_right h2 (by omega)
  have e1 : (ve * sj) * sb = (ve * sb) * sj := Int.mul_right_comm _ _ _
  have e2 : (vb * se) * sj = (vb * sj) * se := Int.mul_right_comm _ _ _
  have e3 : (vj * sb) * se = (vj * se) * sb := Int.mul_right_comm _ _ _
  exact Int.le_of_mul_le_mul_right (show (ve * sj) * sb ≤ (vj * se) * sb by omega) hb
section
variable {rw cl mc ws os ld lc : Int32} {ft fb : Int64} {pa ec : Nat → Int32} {ed : Nat → Int64} {ti : Nat → Int32} {ma : Nat → Int64} {mt : Nat → Int32} {sl : Nat → Int64} {ls lx ly : Nat → Int32} {P : Nat → Int} {r c : Nat} {E : List (dd_R × Nat)}
theorem ar_vs {v s : Int} (v1 : 0 ≤ v) (v2 : v ≤ 36936) (s1 : 0 ≤ s) (s2 : s ≤ 1944) : 0 ≤ v * s ∧ v * s ≤ 71803584 := by
  have h1 := Int.mul_nonneg v1 s1
  have h2 : v * s ≤ 36936 * s := Int.mul_le_mul_of_nonneg_right v2 s1
  omega
theorem xs_fs52 {post : SX → Prop} {s : Nat} (hs : s < 2) (lE : E.length ≤ 8) (hec : ec s = nI E.length) (HE : xs_HE ed ti (24 * s) E) (hB : ∀ j, j < E.length → dd_Bd (dd_at E j).1) (hp : ∀ j, j < E.length → 0 < dd_sm (dd_at E j).1)
    (K : ∀ b, b < E.length → (∀ j, j < E.length → (dd_at E b).1.2.2.2 * dd_sm (dd_at E j).1 ≤ (dd_at E j).1.2.2.2 * dd_sm (dd_at E b).1) → post (rw, cl, mc, ws, os, ld, lc, zl_n ((10 * dd_sm (dd_at E b).1 - (dd_at E b).1.2.2.2) / (fr_g (10 * dd_sm (dd_at E b).1 - (dd_at E b).1.2.2.2) (dd_sm (dd_at E b).1) : Int)), zl_n (dd_sm (dd_at E b).1 / (fr_g (10 * dd_sm (dd_at E b).1 - (dd_at E b).1.2.2.2) (dd_sm (dd_at E b).1) : Int)), pa, ec, ed, ti, ma, mt, sl, ls, lx, ly)) :
    ∀ (d t n b : Nat), t + d = E.length → d < n → b < t → (∀ j, j < t → (dd_at E b).1.2.2.2 * dd_sm (dd_at E j).1 ≤ (dd_at E j).1.2.2.2 * dd_sm (dd_at E b).1) → wX_findSure_52 post (nI s) rw cl mc ws os ld lc ft fb pa ec ed ti ma mt sl ls lx ly n (nI (24 * s + b)) (nI (24 * s + t)) := by
  have cs : (nI s).toNatClampNeg = s := nI_clamp (by omega)
  have iv : ∀ j, (4 * nI (24 * s + j)) + 3 = nI (4 * (24 * s + j) + 3) := fun j => xi_4 _ 3
  have v3 : ∀ j, j < E.length → ed (4 * (24 * s + j) + 3) = zl_n (dd_at E j).1.2.2.2 := fun j hj => (HE j hj).1 3 (by decide)
  intro d
  induction d with
  | zero =>
    intro t n b ht hn hb hm
    obtain ⟨n, rfl⟩ : ∃ m, n = m + 1 := ⟨n - 1, by omega⟩
    have e : t = E.length := by omega
    subst e
    have B := hB b hb
    have bs := dd_Bd_sm B
    have bv := B.2.2.2
    have ps := hp b hb
    refine ⟨pk_in s 2 hs, br_t (by rw [cs, hec, xi_24]; exact nI_le (Nat.le_refl _) (by omega)) ?_⟩
    refine xs_sumOf (by omega) (HE b hb).1 ⟨pk_in _ 192 (by omega) (iv b), fun x ex => ?_⟩
    rw [iv, nI_clamp (by omega), v3 b hb, show (10 : Int64) = zl_n 10 from rfl, zl_mul, zl_sub] at ex
    rw [ex]
    exact xs_shorten (by omega) (by omega) ps (by omega) (K b hb hm)
  | succ d ih =>
    intro t n b ht hn hb hm
    obtain ⟨n, rfl⟩ : ∃ m, n = m + 1 := ⟨n - 1, by omega⟩
    have ht' : t < E.length := by omega
    have hb' : b < E.length := by omega
    have Bt := hB t ht'
    have Bb := hB b hb'
    have m1 := ar_vs Bb.2.2.2.1 Bb.2.2.2.2 (dd_Bd_sm Bt).1 (dd_Bd_sm Bt).2
    have m2 := ar_vs Bt.2.2.2.1 Bt.2.2.2.2 (dd_Bd_sm Bb).1 (dd_Bd_sm Bb).2
    refine ⟨pk_in s 2 hs, br_f (by rw [cs, hec, xi_24]; exact nI_ge (by omega) (by omega)) ⟨pk_in _ 192 (by omega) (iv t), ?_⟩⟩
    refine xs_sumOf (by omega) (HE b hb').1 ⟨pk_in _ 192 (by omega) (iv b), ?_⟩
    refine xs_sumOf (by omega) (HE t ht').1 ?_
    rw [iv, iv, nI_clamp (by omega), nI_clamp (by omega), v3 b hb', v3 t ht', zl_mul, zl_mul]
    by_cases c : (dd_at E b).1.2.2.2 * dd_sm (dd_at E t).1 ≤ (dd_at E t).1.2.2.2 * dd_sm (dd_at E b).1
    · refine br_t ((zl_le (by omega) (by omega) (by omega) (by omega)).mpr c) fun y ey => ?_
      rw [ey, nI_1]
      refine ih (t + 1) n b (by omega) (by omega) (by omega) (fun j hj => ?_)
      by_cases e : j = t
      · rw [e]; exact c
      · exact hm j (by omega)
    · refine br_f (fun h => c ((zl_le (by omega) (by omega) (by omega) (by omega)).mp h)) fun y ey => ?_
      rw [ey, nI_1]
      refine ih (t + 1) n t (by omega) (by omega) (by omega) (fun j hj => ?_)
      by_cases e : j = t
      · rw [e]; exact Int.le_refl _
      · exact ar_min3 (hp b hb') (hp t ht') (hp j (by omega)) (by omega) (hm j (by omega))
theorem xs_findSure {post : SX → Prop} (hr : 0 < r ∧ r < 4 ∧ 0 < c ∧ c < 4) (hpm : pm_ok pa P) {s : Nat} (hs : s < 2)
    (K : ∀ L S mc' ws' os' ec' ed' ti' ma' mt' sl' ls', su_P (pm_A P s true) (2 ^ (pm_ch r c s) - 1) (2 ^ (pm_ch r c (1 - s)) - 1) L S → post (nI r, nI c, mc', ws', os', 0, lc, zl_n (-L / (fr_g (-L) S : Int)), zl_n (S / (fr_g (-L) S : Int)), pa, ec', ed', ti', ma', mt', sl', ls', lx, ly)) : wpX_findSure post (nI r, nI c, mc, ws, os, ld, lc, ft, fb, pa, ec, ed, ti, ma, mt, sl, ls, lx, ly) (nI s) := by
  have ch : ∀ s, pm_ch r c s < 4 ∧ 0 < pm_ch r c s := by
    intro s
    rw [pm_ch]; split
    · exact ⟨hr.2.1, hr.1⟩
    · exact ⟨hr.2.2.2, hr.2.2.1⟩
  have o8 := xi_m8 _ (ch s).1
  have o0 := xi_m0 _ (ch s).1 (ch s).2
  have t8 := xi_m8 _ (ch (1 - s)).1
  have t0 := xi_m0 _ (ch (1 - s)).1 (ch (1 - s)).2
  have hA := pm_rng hpm s true
  unfold wpX_findSure
  refine xs_setLosses hpm true hs fun ls' hls => ?_
  refine xs_choicesOf hs fun x ex => ?_
  rw [xi_msk _ (ch s).1] at ex
  rw [ex, xi_1m hs]
  refine xs_choicesOf (by omega) fun y ey => ?_
  rw [xi_msk _ (ch (1 - s)).1] at ey
  rw [ey]
  refine xs_makeCone (A := pm_A P s true) hs o8 t8 t0 hA hls fun mc' ec' ed' ti' ma' mt' sl' a1 a2 a3 a4 z ez w ew => ?_
  rw [xi_24m] at ez
  rw [ez] at ew
  rw [nI_1] at ew
  rw [ez, ew]
  have ok := xs_fin_OK hA o8 t8 t0
  have ne := dd_fin_ne (A := pm_A P s true) o8 o0 t8 t0
  have I := dd_all_inv (pm_A P s true) o8 t8 t0
  refine ⟨(dd_fin (pm_A P s true) (2 ^ (pm_ch r c s) - 1) (2 ^ (pm_ch r c (1 - s)) - 1)).length + 1, ?_⟩
  refine xs_fs52 hs ok.1 a1 a3 (fun j hj => (ok.2.1 j hj).1) (fun j hj => (ok.2.1 j hj).2.1) ?_ ((dd_fin (pm_A P s true) (2 ^ (pm_ch r c s) - 1) (2 ^ (pm_ch r c (1 - s)) - 1)).length - 1) 1 _ 0 (by omega) (by omega) (by decide) (fun j hj => by
    have : j = 0 := by omega
    rw [this]; exact Int.le_refl _)
  intro b hb hm
  have ext : ∀ j, j < (dd_fin (pm_A P s true) (2 ^ (pm_ch r c s) - 1) (2 ^ (pm_ch r c (1 - s)) - 1)).length → su_L (pm_A P s true) (2 ^ (pm_ch r c (1 - s)) - 1) (dd_tr (dd_at (dd_fin (pm_A P s true) (2 ^ (pm_ch r c s) - 1) (2 ^ (pm_ch r c (1 - s)) - 1)) j).1) = (dd_at (dd_fin (pm_A P s true) (2 ^ (pm_ch r c s) - 1) (2 ^ (pm_ch r c (1 - s)) - 1)) j).1.2.2.2 - 10 * dd_sm (dd_at (dd_fin (pm_A P s true) (2 ^ (pm_ch r c s) - 1) (2 ^ (pm_ch r c (1 - s)) - 1)) j).1 := by
    intro j hj
    have hmem := dd_fin_mem (dd_at_mem hj)
    exact su_L_eq hA t8 t0 (I.1.1 _ (List.mem_map.mpr ⟨_, hmem.1, rfl⟩)) (I.2.2.1 _ hmem.1) hmem.2
  have k := K (su_L (pm_A P s true) (2 ^ (pm_ch r c (1 - s)) - 1) (dd_tr (dd_at (dd_fin (pm_A P s true) (2 ^ (pm_ch r c s) - 1) (2 ^ (pm_ch r c (1 - s)) - 1)) b).1)) (dd_sm (dd_at (dd_fin (pm_A P s true) (2 ^ (pm_ch r c s) - 1) (2 ^ (pm_ch r c (1 - s)) - 1)) b).1) mc' (nI (2 ^ (pm_ch r c s) - 1)) (nI (2 ^ (pm_ch r c (1 - s)) - 1)) ec' ed' ti' ma' mt' sl' ls' ⟨_, (dd_fin_cor o8 t8 t0 _).mpr ⟨_, dd_at_mem hb, rfl⟩, rfl, rfl, fun y hy => ?_⟩
  · rw [ext b hb, show -((dd_at (dd_fin (pm_A P s true) (2 ^ (pm_ch r c s) - 1) (2 ^ (pm_ch r c (1 - s)) - 1)) b).1.2.2.2 - 10 * dd_sm (dd_at (dd_fin (pm_A P s true) (2 ^ (pm_ch r c s) - 1) (2 ^ (pm_ch r c (1 - s)) - 1)) b).1) = 10 * dd_sm (dd_at (dd_fin (pm_A P s true) (2 ^ (pm_ch r c s) - 1) (2 ^ (pm_ch r c (1 - s)) - 1)) b).1 - (dd_at (dd_fin (pm_A P s true) (2 ^ (pm_ch r c s) - 1) (2 ^ (pm_ch r c (1 - s)) - 1)) b).1.2.2.2 by omega] at k
    exact k
  · obtain ⟨e, he, rfl⟩ := (dd_fin_cor o8 t8 t0 _).mp hy
    obtain ⟨j, hj, rfl⟩ := dd_at_of he
    rw [ext b hb, ext j hj]
    have := hm j hj
    have ec : cm_sum (dd_tr (dd_at (dd_fin (pm_A P s true) (2 ^ (pm_ch r c s) - 1) (2 ^ (pm_ch r c (1 - s)) - 1)) j).1) = dd_sm (dd_at (dd_fin (pm_A P s true) (2 ^ (pm_ch r c s) - 1) (2 ^ (pm_ch r c (1 - s)) - 1)) j).1 := rfl
    rw [ec]
    generalize dd_sm (dd_at (dd_fin (pm_A P s true) (2 ^ (pm_ch r c s) - 1) (2 ^ (pm_ch r c (1 - s)) - 1)) j).1 = sj at *
    generalize dd_sm (dd_at (dd_fin (pm_A P s true) (2 ^ (pm_ch r c s) - 1) (2 ^ (pm_ch r c (1 - s)) - 1)) b).1 = sb at *
    rw [Int.sub_mul, Int.sub_mul, Int.mul_assoc, Int.mul_assoc, Int.mul_comm sb sj]
    omega
end
end
section
/-! what is sure, by the reference -/
theorem su_L_b {A : Nat → Nat → Int} (hA : cm_Rng A) {other : Nat} (h8 : other < 8) (h0 : 0 < other) {x : cm_T} (bx : cm_b x) : -17496 ≤ su_L A other x ∧ su_L A other x ≤ 17496 := by
  obtain ⟨j, j3, _, e⟩ := ys_mx_at (g := fun j => ys_gp A x j 3) (m := other) (fun j hj => by have := ys_gp_b hA bx hj; omega) 3 (Nat.le_refl _) (ys_low_bit h8 h0)
  rw [su_L, e]
  exact ys_gp_b hA bx j3
theorem ar_LS {L S : Int} (h1 : -17496 ≤ L) (h2 : L ≤ 17496) (s1 : 0 ≤ S) (s2 : S ≤ 1944) : -34012224 ≤ L * S ∧ L * S ≤ 34012224 := by
  have a := Int.mul_nonneg (show 0 ≤ 17496 - L by omega) s1
  have b := Int.mul_nonneg (show 0 ≤ 17496 + L by omega) s1
  rw [Int.sub_mul] at a
  rw [Int.add_mul] at b
  omega
section
variable {rw cl : Int32} {pa sp nu pt wh mx gt : Nat → Int32} {P : Nat → Int} {r c : Nat}
theorem ys_su58 {post : Int32 → SY → Prop} {J44 : Int32 → Int32 → Int32 → Int32 → Int32 → (Nat → Int32) → (Nat → Int32) → (Nat → Int32) → (Nat → Int32) → (Nat → Int32) → (Nat → Int32) → (Nat → Int32) → Prop} (hp : pm_ok pa P) {x2 : Int32} {s k other : Nat} {x : cm_T} {B W : Int} (hs : s < 2) (hk : k < 8) (h8 : other < 8) (h0 : 0 < other) (hx : ∀ i, i < 3 → pt (48 * s + 3 * k + i) = zi_n (cm_cp x i)) (hw : wh (16 * s + k) = zi_n (cm_sum x)) (bx : cm_b x) (B1 : -17496 ≤ B) (B2 : B ≤ 17496) (W1 : 0 ≤ W) (W2 : W ≤ 1944)
    (K0 : W = 0 → ∀ mx' gt', J44 (zi_n (su_L (pm_A P s true) other x)) (zi_n (cm_sum x)) (nI (k + 1)) rw cl pa sp nu pt wh mx' gt')
    (K1 : W ≠ 0 → B * cm_sum x ≤ su_L (pm_A P s true) other x * W → ∀ mx' gt', J44 (zi_n B) (zi_n W) (nI (k + 1)) rw cl pa sp nu pt wh mx' gt')
    (K2 : W ≠ 0 → ¬ B * cm_sum x ≤ su_L (pm_A P s true) other x * W → ∀ mx' gt', J44 (zi_n (su_L (pm_A P s true) other x)) (zi_n (cm_sum x)) (nI (k + 1)) rw cl pa sp nu pt wh mx' gt') :
    ∀ (d i n : Nat) (mx0 : Nat → Int32), i + d = 3 → d < n → (∀ t, t < i → mx0 t = zi_n (cm_cp x t)) → wY_sure_58 post J44 (nI s) x2 (nI other) (zi_n B) (zi_n W) (nI k) rw cl n (nI i) pa sp nu pt wh mx0 gt := by
  have hA := pm_rng hp s true
  have bL := su_L_b hA h8 h0 bx
  have bS := cm_b_sum bx
  intro d
  induction d with
  | zero =>
    intro i n mx0 hi hn h
    obtain ⟨n, rfl⟩ : ∃ m, n = m + 1 := ⟨n - 1, by omega⟩
    have e : i = 3 := by omega
    subst e
    refine br_t (show (3 : Int32) ≤ nI 3 by decide) ?_
    refine ys_against hp true hs h fun gt' hgt => ?_
    refine ys_greatest h8 hgt (fun j hj => by have := ys_gp_b hA bx hj; omega) ⟨pk_in _ 32 (by omega) (xi_16 s k), fun w ew => ?_⟩
    rw [xi_16, nI_clamp (by omega), hw] at ew
    rw [ew]
    have z0 : (0 : Int32) = zi_n 0 := rfl
    by_cases c : W = 0
    · refine br_t (by rw [c]; rfl) fun y ey => ?_
      rw [ey, nI_1]
      exact K0 c mx0 gt'
    · refine br_f (by rw [z0]; exact fun h => c ((zi_eq (by omega) (by omega) (by decide) (by decide)).mp h)) ?_
      have m1 := ar_LS B1 B2 bS.1 bS.2
      have m2 := ar_LS bL.1 bL.2 W1 W2
      have zz := zi_le (a := B * cm_sum x) (b := su_L (pm_A P s true) other x * W) (by omega) (by omega) (by omega) (by omega)
      rw [zi_mul, zi_mul]
      by_cases c2 : B * cm_sum x ≤ su_L (pm_A P s true) other x * W
      · refine br_t (zz.mpr c2) fun y ey => ?_
        rw [ey, nI_1]
        exact K1 c c2 mx0 gt'
      · refine br_f (fun h => c2 (zz.mp h)) fun y ey => ?_
        rw [ey, nI_1]
        exact K2 c c2 mx0 gt'
  | succ d ih =>
    intro i n mx0 hi hn h
    obtain ⟨n, rfl⟩ : ∃ m, n = m + 1 := ⟨n - 1, by omega⟩
    have e := xi_48 s k i
    refine br_f (nI_ge (b := 3) (by omega) (by decide)) ⟨pk_in _ 96 (by omega) e, pk_in i 3 (by omega), fun a ea y ey => ?_⟩
    rw [ey, nI_1]
    rw [e, nI_clamp (by omega), nI_clamp (by omega), hx i (by omega)] at ea
    refine ih (i + 1) n a (by omega) (by omega) (fun t ht => ?_)
    by_cases c : t = i
    · rw [ea, c, pk_us]
    · rw [ea, pk_un c]; exact h t (by omega)
theorem ys_su44 {post : Int32 → SY → Prop} (hp : pm_ok pa P) (tp : Bool) {s own other : Nat} {C : List cm_T} (hs : s < 2) (h8 : other < 8) (h0 : 0 < other) (lC : C.length ≤ 8) (lC0 : 0 < C.length) (hnu : nu s = nI C.length) (HY : ys_HY pt wh s C) (mC : ∀ x, x ∈ C ↔ cm_Cor (pm_A P s true) own other x)
    (K : ∀ L S mx' gt', su_P (pm_A P s true) own other L S → post (zi_n ((if tp = true then -L else S) / (fr_g (-L) S : Int))) (rw, cl, pa, sp, nu, pt, wh, mx', gt')) :
    ∀ (d k n : Nat) (B W : Int) (mx0 gt0 : Nat → Int32), k + d = C.length → d < n → ((k = 0 ∧ B = 0 ∧ W = 0) ∨ (∃ b, b < k ∧ B = su_L (pm_A P s true) other (ys_at C b) ∧ W = cm_sum (ys_at C b) ∧ ∀ j, j < k → B * cm_sum (ys_at C j) ≤ su_L (pm_A P s true) other (ys_at C j) * W)) →
      wY_sure_44 post (nI s) (xs_bI tp) (nI other) n (zi_n B) (zi_n W) (nI k) rw cl pa sp nu pt wh mx0 gt0 := by
  have hA := pm_rng hp s true
  have cs : (nI s).toNatClampNeg = s := nI_clamp (by omega)
  have cor : ∀ j, j < C.length → cm_Cor (pm_A P s true) own other (ys_at C j) := fun j hj => (mC _).mp (so_getD_mem hj)
  have bb : ∀ j, j < C.length → cm_b (ys_at C j) := fun j hj => cm_Cor_b hA (cor j hj)
  have ps : ∀ j, j < C.length → 0 < cm_sum (ys_at C j) := fun j hj => (cm_ok (cor j hj)).1
  intro d
  induction d with
  | zero =>
    intro k n B W mx0 gt0 hk hn hI
    obtain ⟨n, rfl⟩ : ∃ m, n = m + 1 := ⟨n - 1, by omega⟩
    have e : k = C.length := by omega
    subst e
    rcases hI with ⟨h, _⟩ | ⟨b, hb, eB, eW, hm⟩
    · omega
    · have bL := su_L_b hA h8 h0 (bb b hb)
      have bS := cm_b_sum (bb b hb)
      have pS := ps b hb
      refine ⟨pk_in s 2 hs, br_t (by rw [cs, hnu]; exact nI_le (Nat.le_refl _) (by omega)) ?_⟩
      rw [zi_neg]
      refine ys_lowest tp (by omega) (by omega) (by omega) (by omega) (K B W mx0 gt0 ⟨_, cor b hb, eW, eB, fun y hy => ?_⟩)
      obtain ⟨j, hj, ej⟩ := so_mem_getD (d := (0, 0, 0)) ((mC y).mpr hy)
      have := hm j hj
      have ej : ys_at C j = y := ej
      rw [ej] at this
      exact this
  | succ d ih =>
    intro k n B W mx0 gt0 hk hn hI
    obtain ⟨n, rfl⟩ : ∃ m, n = m + 1 := ⟨n - 1, by omega⟩
    have hk' : k < C.length := by omega
    have bnd : (-17496 ≤ B ∧ B ≤ 17496) ∧ (0 ≤ W ∧ W ≤ 1944) := by
      rcases hI with ⟨_, e1, e2⟩ | ⟨b, hb, eB, eW, _⟩
      · omega
      · have := su_L_b hA h8 h0 (bb b (by omega))
        have := cm_b_sum (bb b (by omega))
        omega
    refine ⟨pk_in s 2 hs, br_f (by rw [cs, hnu]; exact nI_ge (by omega) (by omega)) ⟨4, ?_⟩⟩
    refine ys_su58 (J44 := wY_sure_44 post (nI s) (xs_bI tp) (nI other) n) hp hs (by omega) h8 h0 (HY k hk').1 (HY k hk').2 (bb k hk') bnd.1.1 bnd.1.2 bnd.2.1 bnd.2.2 (fun hW mx' gt' => ?_) (fun hW hle mx' gt' => ?_) (fun hW hle mx' gt' => ?_) 3 0 4 mx0 rfl (by decide) (fun t ht => by omega)
    · refine ih (k + 1) n _ _ mx' gt' (by omega) (by omega) (Or.inr ⟨k, by omega, rfl, rfl, fun j hj => ?_⟩)
      rcases hI with ⟨e0, _, _⟩ | ⟨b, hb, eB, eW, _⟩
      · have : j = k := by omega
        rw [this]; exact Int.le_refl _
      · have := ps b (by omega)
        omega
    · rcases hI with ⟨_, _, e⟩ | ⟨b, hb, eB, eW, hm⟩
      · exact absurd e hW
      · refine ih (k + 1) n B W mx' gt' (by omega) (by omega) (Or.inr ⟨b, by omega, eB, eW, fun j hj => ?_⟩)
        by_cases c : j = k
        · rw [c]; exact hle
        · exact hm j (by omega)
    · rcases hI with ⟨_, _, e⟩ | ⟨b, hb, eB, eW, hm⟩
      · exact absurd e hW
      · refine ih (k + 1) n _ _ mx' gt' (by omega) (by omega) (Or.inr ⟨k, by omega, rfl, rfl, fun j hj => ?_⟩)
        by_cases c : j = k
        · rw [c]; exact Int.le_refl _
        · have := ps b (by omega)
          exact ar_min3 (vb := B) (sb := W) (by omega) (ps k hk') (ps j (by omega)) (by omega) (hm j (by omega))
theorem ys_sure {post : Int32 → SY → Prop} (hr : 0 < r ∧ r < 4 ∧ 0 < c ∧ c < 4) (hp : pm_ok pa P) (tp : Bool) {s : Nat} (hs : s < 2)
    (K : ∀ L S nu' pt' wh' mx' gt', su_P (pm_A P s true) (2 ^ (pm_ch r c s) - 1) (2 ^ (pm_ch r c (1 - s)) - 1) L S → post (zi_n ((if tp = true then -L else S) / (fr_g (-L) S : Int))) (nI r, nI c, pa, sp, nu', pt', wh', mx', gt')) : wpY_sure post (nI r, nI c, pa, sp, nu, pt, wh, mx, gt) (nI s) (xs_bI tp) := by
  have ch : ∀ s, pm_ch r c s < 4 ∧ 0 < pm_ch r c s := by
    intro s
    rw [pm_ch]; split
    · exact ⟨hr.2.1, hr.1⟩
    · exact ⟨hr.2.2.2, hr.2.2.1⟩
  have o8 := xi_m8 _ (ch s).1
  have o0 := xi_m0 _ (ch s).1 (ch s).2
  have t8 := xi_m8 _ (ch (1 - s)).1
  have t0 := xi_m0 _ (ch (1 - s)).1 (ch (1 - s)).2
  unfold wpY_sure
  refine ys_side1 hs (br_f (by decide) ?_)
  refine ys_allOf hr.2.1 hr.2.2.2 hs ?_
  rw [xi_1m hs]
  refine ys_allOf hr.2.1 hr.2.2.2 (by omega) ?_
  refine ys_findCorners hp true hs o8 t8 t0 fun nu' pt' wh' mx' gt' C a1 a2 a3 a4 a5 a6 a7 => ⟨C.length + 1, ?_⟩
  have ne : 0 < C.length := by
    obtain ⟨x, i, hx, _⟩ := cm_ex (pm_A P s true) o8 o0 t8 t0
    exact List.length_pos_of_mem ((a6 x).mpr hx)
  exact ys_su44 hp tp hs t8 t0 a7 ne a1 a3 a6 (fun L S mx'' gt'' h => K L S nu' pt' wh' mx'' gt'' h) C.length 0 _ 0 0 mx' gt' (by omega) (by omega) (Or.inl ⟨rfl, rfl, rfl⟩)
end
theorem i_vc_sureTop {k : Nat} {u : SX} {v : SY} (I : i_Rel k u v) (hk : k + 4 ≤ 2050) (v1 : Int32) : wpX_sureTop (fun r u' => wpY_sureTop (fun r' v' => r' = r ∧ i_Rel (k + 4) u' v') v v1) u v1 := by
  refine re_el (Q := fun u v => wpX_sureTop (fun r u' => wpY_sureTop (fun r' v' => r' = r ∧ i_Rel (k + 4) u' v') v v1) u v1) I ?_
  intro r c P mc ws os ld lc ft fb pa ec ed ti ma mt sl ls lx ly sp nu pt wh mx gt hr hp hs
  unfold wpX_sureTop
  by_cases hsd : ∃ s, s < 2 ∧ v1 = nI s
  · obtain ⟨s, s2, rfl⟩ := hsd
    refine xs_side1 s2 (br_f (by decide) ?_)
    refine xs_findSure hr hp s2 fun L S mc' ws' os' ec' ed' ti' ma' mt' sl' ls' h1 => ?_
    unfold wpY_sureTop
    refine ys_sure hr hp true s2 fun L' S' nu' pt' wh' mx' gt' h2 => ⟨?_, re_mk hr hp (Or.inl rfl)⟩
    obtain ⟨p1, p2, e⟩ := su_uniq h1 h2
    rw [zl_i, if_pos rfl, (fr_eq p1 p2 e).1]
  · refine xs_side0 (fun s s2 e => hsd ⟨s, s2, e⟩) (br_t rfl ?_)
    unfold wpY_sureTop wpY_sure
    exact ys_side0 (fun s s2 e => hsd ⟨s, s2, e⟩) (br_t rfl ⟨rfl, re_mk hr hp hs⟩)
theorem i_vc_sureBottom {k : Nat} {u : SX} {v : SY} (I : i_Rel k u v) (hk : k + 4 ≤ 2050) (v1 : Int32) : wpX_sureBottom (fun r u' => wpY_sureBottom (fun r' v' => r' = r ∧ i_Rel (k + 4) u' v') v v1) u v1 := by
  refine re_el (Q := fun u v => wpX_sureBottom (fun r u' => wpY_sureBottom (fun r' v' => r' = r ∧ i_Rel (k + 4) u' v') v v1) u v1) I ?_
  intro r c P mc ws os ld lc ft fb pa ec ed ti ma mt sl ls lx ly sp nu pt wh mx gt hr hp hs
  unfold wpX_sureBottom
  by_cases hsd : ∃ s, s < 2 ∧ v1 = nI s
  · obtain ⟨s, s2, rfl⟩ := hsd
    refine xs_side1 s2 (br_f (by decide) ?_)
    refine xs_findSure hr hp s2 fun L S mc' ws' os' ec' ed' ti' ma' mt' sl' ls' h1 => ?_
    unfold wpY_sureBottom
    refine ys_sure hr hp false s2 fun L' S' nu' pt' wh' mx' gt' h2 => ⟨?_, re_mk hr hp (Or.inl rfl)⟩
    obtain ⟨p1, p2, e⟩ := su_uniq h1 h2
    rw [zl_i, if_neg (by decide), (fr_eq p1 p2 e).2]
  · refine xs_side0 (fun s s2 e => hsd ⟨s, s2, e⟩) (br_t rfl ?_)
    unfold wpY_sureBottom wpY_sure
    exact ys_side0 (fun s s2 e => hsd ⟨s, s2, e⟩) (br_t rfl ⟨rfl, re_mk hr hp hs⟩)
end
section
/-! replies, and what is left -/
def rp_P (A : Nat → Nat → Int) (own other i : Nat) : Prop := other.testBit i = true ∧ ∃ x, cm_Cor A own other x ∧ cm_Best A other x i
noncomputable def rp_b (Q : Prop) : Nat := @ite _ Q (Classical.propDecidable _) 1 0
theorem rp_b_c (Q : Prop) : (rp_b Q = 1 ∧ Q) ∨ (rp_b Q = 0 ∧ ¬ Q) := by
  by_cases h : Q
  · exact Or.inl ⟨by unfold rp_b; exact if_pos h, h⟩
  · exact Or.inr ⟨by unfold rp_b; exact if_neg h, h⟩
noncomputable def rp_m (A : Nat → Nat → Int) (own other : Nat) : Nat := rp_b (rp_P A own other 0) + 2 * rp_b (rp_P A own other 1) + 4 * rp_b (rp_P A own other 2)
theorem rp_m_8 (A : Nat → Nat → Int) (own other : Nat) : rp_m A own other < 8 := by
  rw [rp_m]
  rcases rp_b_c (rp_P A own other 0) with ⟨h0, _⟩ | ⟨h0, _⟩ <;> rcases rp_b_c (rp_P A own other 1) with ⟨h1, _⟩ | ⟨h1, _⟩ <;> rcases rp_b_c (rp_P A own other 2) with ⟨h2, _⟩ | ⟨h2, _⟩ <;> omega
theorem rp_m_bit (A : Nat → Nat → Int) (own other : Nat) {i : Nat} (hi : i < 3) : (rp_m A own other).testBit i = true ↔ rp_P A own other i := by
  have t : ∀ a, a < 2 → ∀ b, b < 2 → ∀ c, c < 2 → ((a + 2 * b + 4 * c).testBit 0 = (a == 1)) ∧ ((a + 2 * b + 4 * c).testBit 1 = (b == 1)) ∧ ((a + 2 * b + 4 * c).testBit 2 = (c == 1)) := by decide
  have l : ∀ Q, rp_b Q < 2 := by
    intro Q
    rcases rp_b_c Q with ⟨h, _⟩ | ⟨h, _⟩ <;> omega
  have b : ∀ Q, (rp_b Q == 1) = true ↔ Q := by
    intro Q
    rcases rp_b_c Q with ⟨h, q⟩ | ⟨h, q⟩
    · rw [h]; exact ⟨fun _ => q, fun _ => rfl⟩
    · rw [h]; exact ⟨fun h => absurd h (by decide), fun h => absurd h q⟩
  obtain ⟨t0, t1, t2⟩ := t _ (l (rp_P A own other 0)) _ (l (rp_P A own other 1)) _ (l (rp_P A own other 2))
  match i, hi with
  | 0, _ => rw [rp_m, t0]; exact b _
  | 1, _ => rw [rp_m, t1]; exact b _
  | 2, _ => rw [rp_m, t2]; exact b _
theorem rp_uniq {A : Nat → Nat → Int} {own other m : Nat} (h8 : m < 8) (h : ∀ i, i < 3 → (m.testBit i = true ↔ rp_P A own other i)) : m = rp_m A own other := by
  apply Nat.eq_of_testBit_eq
  intro i
  by_cases hi : i < 3
  · cases hb : (rp_m A own other).testBit i with
    | true => exact (h i hi).mpr ((rp_m_bit A own other hi).mp hb)
    | false =>
      cases hm : m.testBit i with
      | false => rfl
      | true =>
        rw [(rp_m_bit A own other hi).mpr ((h i hi).mp hm)] at hb
        exact absurd hb (by decide)
  · have z : ∀ z, z < 8 → z.testBit i = false := fun z hz => Nat.testBit_lt_two_pow (Nat.lt_of_lt_of_le hz (Nat.pow_le_pow_right (n := 2) (by decide) (show 3 ≤ i by omega)))
    rw [z m h8, z _ (rp_m_8 A own other)]
theorem rp_m_pos (A : Nat → Nat → Int) {own other : Nat} (ho : own < 8) (o0 : 0 < own) (h8 : other < 8) (h0 : 0 < other) : 0 < rp_m A own other := by
  obtain ⟨x, i, C, hi, bi, best⟩ := cm_ex A ho o0 h8 h0
  apply Nat.pos_of_ne_zero
  intro e
  have := (rp_m_bit A own other hi).mpr ⟨bi, x, C, best⟩
  rw [e, Nat.zero_testBit] at this
  exact absurd this (by decide)
theorem rp_sub0 : ∀ a, a < 8 → ∀ b, b < 8 → ((!a.testBit 0 || b.testBit 0) && ((!a.testBit 1 || b.testBit 1) && (!a.testBit 2 || b.testBit 2))) = true → (a == b || decide (ys_sz a < ys_sz b)) = true := by decide +kernel
theorem rp_sz (A : Nat → Nat → Int) {own other : Nat} (h8 : other < 8) : rp_m A own other = other ∨ ys_sz (rp_m A own other) < ys_sz other := by
  have f : ∀ c, c < 3 → (!(rp_m A own other).testBit c || other.testBit c) = true := by
    intro c hc
    cases b : (rp_m A own other).testBit c with
    | false => rfl
    | true => rw [((rp_m_bit A own other hc).mp b).1]; rfl
  have := rp_sub0 _ (rp_m_8 A own other) other h8 (by rw [f 0 (by decide), f 1 (by decide), f 2 (by decide)]; rfl)
  rw [Bool.or_eq_true, beq_iff_eq, decide_eq_true_eq] at this
  exact this
/-! the component -/
def rp_or (E : List (dd_R × Nat)) : Nat → Nat
  | 0 => 0
  | k + 1 => rp_or E k ||| (dd_at E k).2
theorem rp_or_64 {E : List (dd_R × Nat)} (h : ∀ j, j < E.length → (dd_at E j).2 < 64) : ∀ k, k ≤ E.length → rp_or E k < 64 := by
  intro k
  induction k with
  | zero => intro _; exact (by decide : 0 < 64)
  | succ k ih =>
    intro hk
    exact dd_or64 (ih (by omega)) (h k (by omega))
theorem rp_or_bit {E : List (dd_R × Nat)} (t : Nat) : ∀ k, (rp_or E k).testBit t = true ↔ ∃ j, j < k ∧ (dd_at E j).2.testBit t = true := by
  intro k
  induction k with
  | zero =>
    rw [rp_or, Nat.zero_testBit]
    exact ⟨fun h => absurd h (by decide), fun ⟨j, h, _⟩ => by omega⟩
  | succ k ih =>
    rw [rp_or, Nat.testBit_or, Bool.or_eq_true, ih]
    constructor
    · rintro (⟨j, h1, h2⟩ | h)
      · exact ⟨j, by omega, h2⟩
      · exact ⟨k, by omega, h⟩
    · rintro ⟨j, h1, h2⟩
      by_cases c : j = k
      · rw [c] at h2; exact Or.inr h2
      · exact Or.inl ⟨j, by omega, h2⟩
theorem rp_X {A : Nat → Nat → Int} {own other : Nat} (ho : own < 8) (h8 : other < 8) (h0 : 0 < other) : (rp_or (dd_fin A own other) (dd_fin A own other).length / 8) &&& other = rp_m A own other := by
  refine rp_uniq (Nat.lt_of_le_of_lt Nat.and_le_right h8) (fun i hi => ?_)
  rw [Nat.testBit_and, cm_div8, Bool.and_eq_true, rp_or_bit]
  constructor
  · rintro ⟨⟨j, hj, b⟩, bo⟩
    exact ⟨bo, _, (dd_fin_cor ho h8 h0 _).mpr ⟨_, dd_at_mem hj, rfl⟩, (cm_bit6 ho h8 h0 (dd_at_mem hj) hi bo).mp b⟩
  · rintro ⟨bo, x, C, best⟩
    obtain ⟨e, he, rfl⟩ := (dd_fin_cor ho h8 h0 x).mp C
    obtain ⟨j, hj, rfl⟩ := dd_at_of he
    exact ⟨⟨j, hj, (cm_bit6 ho h8 h0 (dd_at_mem hj) hi bo).mpr best⟩, bo⟩
section
variable {rw cl mc ws os ld lc : Int32} {ft fb : Int64} {pa ec : Nat → Int32} {ed : Nat → Int64} {ti : Nat → Int32} {ma : Nat → Int64} {mt : Nat → Int32} {sl : Nat → Int64} {ls lx ly : Nat → Int32} {P : Nat → Int} {r c : Nat} {E : List (dd_R × Nat)}
theorem xs_ra50 {post : Int32 → SX → Prop} {s other : Nat} (hs : s < 2) (h8 : other < 8) (lE : E.length ≤ 8) (hec : ec s = nI E.length) (HE : xs_HE ed ti (24 * s) E) (m64 : ∀ j, j < E.length → (dd_at E j).2 < 64)
    (K : post (nI ((rp_or E E.length / 8) &&& other)) (rw, cl, mc, ws, os, ld, lc, ft, fb, pa, ec, ed, ti, ma, mt, sl, ls, lx, ly)) :
    ∀ (d k n : Nat), k + d = E.length → d < n → wX_repliesAmong_50 post (nI s) (nI other) rw cl mc ws os ld lc ft fb pa ec ed ti ma mt sl ls lx ly n (nI (rp_or E k)) (nI k) := by
  have cs : (nI s).toNatClampNeg = s := nI_clamp (by omega)
  intro d
  induction d with
  | zero =>
    intro k n hk hn
    obtain ⟨n, rfl⟩ : ∃ m, n = m + 1 := ⟨n - 1, by omega⟩
    have e : k = E.length := by omega
    subst e
    have := rp_or_64 m64 E.length (Nat.le_refl _)
    refine ⟨pk_in s 2 hs, br_t (by rw [cs, hec]; exact nI_le (Nat.le_refl _) (by omega)) ?_⟩
    rw [pk_shrN (by omega) _ 3 (by decide), xi_and]
    exact K
  | succ d ih =>
    intro k n hk hn
    obtain ⟨n, rfl⟩ : ∃ m, n = m + 1 := ⟨n - 1, by omega⟩
    refine ⟨pk_in s 2 hs, br_f (by rw [cs, hec]; exact nI_ge (by omega) (by omega)) ⟨pk_in _ 48 (show 24 * s + k < 48 by omega) (xi_24 s k), fun x ex y ey => ?_⟩⟩
    rw [xi_24, nI_clamp (by omega), (HE k (by omega)).2, xi_or] at ex
    rw [ey, nI_1, ex]
    exact ih (k + 1) n (by omega) (by omega)
theorem xs_ra32 {post : Int32 → SX → Prop} {s own other : Nat} {A : Nat → Nat → Int} (hA : cm_Rng A) (hs : s < 2) (ho : own < 8) (h8 : other < 8) (h0 : 0 < other) (hls : xs_L A ls 3 0)
    (K : ∀ mc' ws' os' ec' ed' ti' ma' mt' sl', post (nI (rp_m A own other)) (rw, cl, mc', ws', os', ld, lc, ft, fb, pa, ec', ed', ti', ma', mt', sl', ls, lx, ly)) : wX_repliesAmong_32 post (nI s) (nI own) (nI other) rw cl mc ws os ld lc ft fb pa ec ed ti ma mt sl ls lx ly := by
  unfold wX_repliesAmong_32
  refine xs_makeCone (A := A) hs ho h8 h0 hA hls fun mc' ec' ed' ti' ma' mt' sl' a1 a2 a3 a4 => ⟨(dd_fin A own other).length + 1, ?_⟩
  have ok := xs_fin_OK hA ho h8 h0
  refine xs_ra50 hs h8 ok.1 a1 a3 (xs_fin_64 ho h8 h0) ?_ (dd_fin A own other).length 0 _ (by omega) (by omega)
  rw [rp_X ho h8 h0]
  exact K mc' _ _ ec' ed' ti' ma' mt' sl'
theorem xs_repliesAmong {post : Int32 → SX → Prop} (hp : pm_ok pa P) {s R C : Nat} (hs : s < 2) (R8 : R < 8) (R0 : 0 < R) (C8 : C < 8) (C0 : 0 < C)
    (K : ∀ mc' ws' os' ec' ed' ti' ma' mt' sl' ls', post (nI (if s = 0 then rp_m (pm_A P 1 false) C R else rp_m (pm_A P 0 false) R C)) (rw, cl, mc', ws', os', ld, lc, ft, fb, pa, ec', ed', ti', ma', mt', sl', ls', lx, ly)) : wpX_repliesAmong post (rw, cl, mc, ws, os, ld, lc, ft, fb, pa, ec, ed, ti, ma, mt, sl, ls, lx, ly) (nI R) (nI C) (nI s) := by
  intro x ex
  rw [xi_1m hs] at ex
  rw [ex]
  refine xs_setLosses hp false (by omega) fun ls' hls => ?_
  by_cases e : s = 0
  · subst e
    rw [if_pos rfl] at K
    refine br_t rfl (br_t rfl ?_)
    exact xs_ra32 (s := 1) (pm_rng hp 1 false) (by decide) C8 R8 R0 hls (fun mc' ws' os' ec' ed' ti' ma' mt' sl' => K mc' ws' os' ec' ed' ti' ma' mt' sl' ls')
  · have e1 : s = 1 := by omega
    subst e1
    rw [if_neg (by decide)] at K
    refine br_f (by decide) (br_f (by decide) ?_)
    exact xs_ra32 (s := 0) (pm_rng hp 0 false) (by decide) R8 C8 C0 hls (fun mc' ws' os' ec' ed' ti' ma' mt' sl' => K mc' ws' os' ec' ed' ti' ma' mt' sl' ls')
end
/-! the reference -/
theorem xi_1s3 : ∀ n, n < 3 → (1 : Int32) <<< (nI n &&& 31) = nI (1 <<< n) := by decide +kernel
theorem rp_1s : ∀ n, n < 3 → 1 <<< n < 8 ∧ ∀ t, t < 3 → (1 <<< n).testBit t = (t == n) := by decide +kernel
section
variable {rw cl : Int32} {pa sp nu pt wh mx gt : Nat → Int32} {P : Nat → Int} {r c : Nat}
theorem ys_ro48 {post : Int32 → SY → Prop} {J16 : Int32 → Int32 → Int32 → Int32 → (Nat → Int32) → (Nat → Int32) → (Nat → Int32) → (Nat → Int32) → (Nat → Int32) → (Nat → Int32) → (Nat → Int32) → Prop} {x1 : Int32} {mine k : Nat} {g : Nat → Int} {M : Int} (h8 : mine < 8) (hg : ∀ j, j < 3 → gt j = zi_n (g j)) (hb : ∀ j, j < 3 → -1000000 < g j ∧ g j ≤ 1000000) (hM : -1000000 ≤ M ∧ M ≤ 1000000) {Q : Nat → Prop}
    (K : ∀ m, m < 8 → (∀ t, t < 3 → (m.testBit t = true ↔ Q t ∨ (mine.testBit t = true ∧ g t = M))) → J16 (nI m) (nI (k + 1)) rw cl pa sp nu pt wh mx gt) :
    ∀ (d i n m : Nat), i + d = 3 → d < n → m < 8 → (∀ t, t < 3 → (m.testBit t = true ↔ Q t ∨ (t < i ∧ mine.testBit t = true ∧ g t = M))) → wY_repliesOf_48 post J16 x1 (nI mine) (nI k) (zi_n M) rw cl pa sp nu pt wh mx gt n (nI m) (nI i) := by
  intro d
  induction d with
  | zero =>
    intro i n m hi hn m8 H
    obtain ⟨n, rfl⟩ : ∃ m, n = m + 1 := ⟨n - 1, by omega⟩
    have e : i = 3 := by omega
    subst e
    refine br_t (show (3 : Int32) ≤ nI 3 by decide) fun y ey => ?_
    rw [ey, nI_1]
    refine K m m8 (fun t ht => ?_)
    rw [H t ht]
    constructor
    · rintro (h | h)
      · exact Or.inl h
      · exact Or.inr h.2
    · rintro (h | h)
      · exact Or.inl h
      · exact Or.inr ⟨ht, h⟩
  | succ d ih =>
    intro i n m hi hn m8 H
    obtain ⟨n, rfl⟩ : ∃ m, n = m + 1 := ⟨n - 1, by omega⟩
    have hi3 : i < 3 := by omega
    have e := xi_bit (m := mine) (k := i) (by omega) (by omega)
    have bi := hb i hi3
    have skip : ¬ (mine.testBit i = true ∧ g i = M) → wY_repliesOf_48 post J16 x1 (nI mine) (nI k) (zi_n M) rw cl pa sp nu pt wh mx gt n (nI m) (nI i + 1) := by
      intro hno
      rw [nI_1]
      refine ih (i + 1) n m (by omega) (by omega) m8 (fun t ht => ?_)
      rw [H t ht]
      constructor
      · rintro (h | h)
        · exact Or.inl h
        · exact Or.inr ⟨by omega, h.2⟩
      · rintro (h | ⟨h1, h2⟩)
        · exact Or.inl h
        · by_cases c : t = i
          · rw [c] at h2; exact absurd h2 hno
          · exact Or.inr ⟨by omega, h2⟩
    refine br_f (nI_ge (b := 3) (by omega) (by decide)) ?_
    cases b : mine.testBit i with
    | true =>
      rw [b, xi_b1] at e
      refine br_t e ⟨pk_in i 3 hi3, ?_⟩
      rw [nI_clamp (by omega), hg i hi3]
      by_cases c : g i = M
      · refine br_t (by rw [c]) fun x ex y ey => ?_
        rw [ey, nI_1, ex, xi_1s3 i hi3, xi_or]
        obtain ⟨s8, sb⟩ := rp_1s i hi3
        refine ih (i + 1) n _ (by omega) (by omega) (Nat.or_lt_two_pow (n := 3) m8 s8) (fun t ht => ?_)
        rw [Nat.testBit_or, Bool.or_eq_true, sb t ht, beq_iff_eq, H t ht]
        constructor
        · rintro ((h | h) | h)
          · exact Or.inl h
          · exact Or.inr ⟨by omega, h.2⟩
          · rw [h]; exact Or.inr ⟨by omega, b, c⟩
        · rintro (h | ⟨h1, h2⟩)
          · exact Or.inl (Or.inl h)
          · by_cases c : t = i
            · exact Or.inr c
            · exact Or.inl (Or.inr ⟨by omega, h2⟩)
      · refine br_f (fun h => c ((zi_eq (by omega) (by omega) (by omega) (by omega)).mp h)) fun y ey => ?_
        rw [ey]
        exact skip (fun h => c h.2)
    | false =>
      rw [b, xi_b0] at e
      refine br_f (by rw [e]; decide) fun y ey => ?_
      rw [ey]
      exact skip (fun h => by rw [b] at h; exact absurd h.1 (by decide))
theorem ys_ro16 {post : Int32 → SY → Prop} (hp : pm_ok pa P) {s mine : Nat} {C : List cm_T} {others : Nat} (hs : s < 2) (h8 : mine < 8) (h0 : 0 < mine) (lC : C.length ≤ 8) (hnu : nu (1 - s) = nI C.length) (HY : ys_HY pt wh (1 - s) C) (mC : ∀ x, x ∈ C ↔ cm_Cor (pm_A P (1 - s) false) others mine x)
    (K : ∀ mx' gt', post (nI (rp_m (pm_A P (1 - s) false) others mine)) (rw, cl, pa, sp, nu, pt, wh, mx', gt')) :
    ∀ (d k n m : Nat) (mx0 gt0 : Nat → Int32), k + d = C.length → d < n → m < 8 → (∀ t, t < 3 → (m.testBit t = true ↔ mine.testBit t = true ∧ ∃ j, j < k ∧ cm_Best (pm_A P (1 - s) false) mine (ys_at C j) t)) →
      wY_repliesOf_16 post (nI s) (nI mine) n (nI m) (nI k) rw cl pa sp nu pt wh mx0 gt0 := by
  have hA := pm_rng hp (1 - s) false
  have e1 : (1 : Int32) - nI s = nI (1 - s) := xi_1m hs
  have cs : (nI (1 - s)).toNatClampNeg = 1 - s := nI_clamp (by omega)
  intro d
  induction d with
  | zero =>
    intro k n m mx0 gt0 hk hn m8 H
    obtain ⟨n, rfl⟩ : ∃ m, n = m + 1 := ⟨n - 1, by omega⟩
    have e : k = C.length := by omega
    subst e
    refine ⟨pk_in _ 2 (show 1 - s < 2 by omega) e1, br_t (by rw [e1, cs, hnu]; exact nI_le (Nat.le_refl _) (by omega)) ?_⟩
    have em : m = rp_m (pm_A P (1 - s) false) others mine := by
      refine rp_uniq m8 (fun i hi => ?_)
      rw [H i hi]
      constructor
      · rintro ⟨b, j, hj, best⟩
        exact ⟨b, _, (mC _).mp (so_getD_mem hj), best⟩
      · rintro ⟨b, x, hx, best⟩
        obtain ⟨j, hj, ej⟩ := so_mem_getD (d := (0, 0, 0)) ((mC x).mpr hx)
        have ej : ys_at C j = x := ej
        exact ⟨b, j, hj, by rw [ej]; exact best⟩
    rw [em]
    exact K mx0 gt0
  | succ d ih =>
    intro k n m mx0 gt0 hk hn m8 H
    obtain ⟨n, rfl⟩ : ∃ m, n = m + 1 := ⟨n - 1, by omega⟩
    have hk' : k < C.length := by omega
    have bx := cm_Cor_b hA ((mC _).mp (so_getD_mem (d := (0, 0, 0)) hk'))
    have bx : cm_b (ys_at C k) := bx
    refine ⟨pk_in _ 2 (show 1 - s < 2 by omega) e1, br_f (by rw [e1, cs, hnu]; exact nI_ge (by omega) (by omega)) ?_⟩
    rw [e1]
    refine ys_look hp (by omega) (by omega) (HY k hk').1 fun mx' gt' hgt => ?_
    have hgb : ∀ j, j < 3 → -1000000 < ys_gp (pm_A P (1 - s) false) (ys_at C k) j 3 ∧ ys_gp (pm_A P (1 - s) false) (ys_at C k) j 3 ≤ 1000000 := fun j hj => by
      have := ys_gp_b hA bx hj
      omega
    refine ys_greatest h8 hgt hgb ⟨4, ?_⟩
    refine ys_ro48 (J16 := wY_repliesOf_16 post (nI s) (nI mine) n) (Q := fun t => mine.testBit t = true ∧ ∃ j, j < k ∧ cm_Best (pm_A P (1 - s) false) mine (ys_at C j) t) h8 hgt hgb (ys_mx_b hgb 3 (Nat.le_refl _)) (fun m' m8' H' => ?_) 3 0 4 m rfl (by decide) m8 (fun t ht => ?_)
    · refine ih (k + 1) n m' mx' gt' (by omega) (by omega) m8' (fun t ht => ?_)
      rw [H' t ht]
      constructor
      · rintro (⟨b, j, hj, best⟩ | ⟨b, e⟩)
        · exact ⟨b, j, by omega, best⟩
        · exact ⟨b, k, by omega, (ys_mx_best hA bx (ys_low_bit h8 h0) ht b).mp e⟩
      · rintro ⟨b, j, hj, best⟩
        by_cases c : j = k
        · rw [c] at best
          exact Or.inr ⟨b, (ys_mx_best hA bx (ys_low_bit h8 h0) ht b).mpr best⟩
        · exact Or.inl ⟨b, j, by omega, best⟩
    · rw [H t ht]
      constructor
      · intro h; exact Or.inl h
      · rintro (h | ⟨h, _⟩)
        · exact h
        · omega
theorem ys_repliesOf {post : Int32 → SY → Prop} (hp : pm_ok pa P) {s mine others : Nat} (hs : s < 2) (h8 : mine < 8) (h0 : 0 < mine) (o8 : others < 8)
    (K : ∀ nu' pt' wh' mx' gt', post (nI (rp_m (pm_A P (1 - s) false) others mine)) (rw, cl, pa, sp, nu', pt', wh', mx', gt')) : wpY_repliesOf post (rw, cl, pa, sp, nu, pt, wh, mx, gt) (nI s) (nI mine) (nI others) := by
  unfold wpY_repliesOf
  rw [xi_1m hs]
  refine ys_findCorners hp false (by omega) o8 h8 h0 fun nu' pt' wh' mx' gt' C a1 a2 a3 a4 a5 a6 a7 => ⟨C.length + 1, ?_⟩
  refine ys_ro16 hp hs h8 h0 a7 a1 a3 a6 (fun mx'' gt'' => K nu' pt' wh' mx'' gt'') C.length 0 _ 0 mx' gt' (by omega) (by omega) (by decide) (fun t ht => ?_)
  rw [Nat.zero_testBit]
  exact ⟨fun h => absurd h (by decide), fun ⟨_, j, hj, _⟩ => by omega⟩
end
theorem i_vc_replies {k : Nat} {u : SX} {v : SY} (I : i_Rel k u v) (hk : k + 4 ≤ 2050) (v1 : Int32) : wpX_replies (fun r u' => wpY_replies (fun r' v' => r' = r ∧ i_Rel (k + 4) u' v') v v1) u v1 := by
  refine re_el (Q := fun u v => wpX_replies (fun r u' => wpY_replies (fun r' v' => r' = r ∧ i_Rel (k + 4) u' v') v v1) u v1) I ?_
  intro r c P mc ws os ld lc ft fb pa ec ed ti ma mt sl ls lx ly sp nu pt wh mx gt hr hp hs
  have R8 := xi_m8 r hr.2.1
  have R0 := xi_m0 r hr.2.1 hr.1
  have C8 := xi_m8 c hr.2.2.2
  have C0 := xi_m0 c hr.2.2.2 hr.2.2.1
  unfold wpX_replies
  by_cases hsd : ∃ s, s < 2 ∧ v1 = nI s
  · obtain ⟨s, s2, rfl⟩ := hsd
    refine xs_side1 s2 (br_f (by decide) ?_)
    rw [xi_msk r hr.2.1, xi_msk c hr.2.2.2]
    refine xs_repliesAmong hp s2 R8 R0 C8 C0 fun mc' ws' os' ec' ed' ti' ma' mt' sl' ls' => ?_
    unfold wpY_replies
    refine ys_side1 s2 (br_f (by decide) ?_)
    refine ys_allOf hr.2.1 hr.2.2.2 s2 ?_
    rw [xi_1m s2]
    refine ys_allOf hr.2.1 hr.2.2.2 (by omega) ?_
    by_cases e : s = 0
    · subst e
      refine ys_repliesOf (s := 0) hp (by decide) R8 R0 C8 fun nu' pt' wh' mx' gt' => ⟨?_, re_mk hr hp (Or.inl rfl)⟩
      rw [if_pos rfl]; rfl
    · have e1 : s = 1 := by omega
      subst e1
      refine ys_repliesOf (s := 1) hp (by decide) C8 C0 R8 fun nu' pt' wh' mx' gt' => ⟨?_, re_mk hr hp (Or.inl rfl)⟩
      rw [if_neg (by decide)]; rfl
  · refine xs_side0 (fun s s2 e => hsd ⟨s, s2, e⟩) (br_t rfl ?_)
    unfold wpY_replies
    exact ys_side0 (fun s s2 e => hsd ⟨s, s2, e⟩) (br_t rfl ⟨rfl, re_mk hr hp hs⟩)
end
section
/-! what is left -/
noncomputable def lf_s (P : Nat → Int) (r c : Nat) : Nat → Nat × Nat
  | 0 => (2 ^ r - 1, 2 ^ c - 1)
  | n + 1 => (rp_m (pm_A P 1 false) (lf_s P r c n).2 (lf_s P r c n).1, rp_m (pm_A P 0 false) (lf_s P r c n).1 (lf_s P r c n).2)
theorem lf_ok {P : Nat → Int} {r c : Nat} (hr : 0 < r ∧ r < 4 ∧ 0 < c ∧ c < 4) : ∀ n, ((lf_s P r c n).1 < 8 ∧ 0 < (lf_s P r c n).1) ∧ ((lf_s P r c n).2 < 8 ∧ 0 < (lf_s P r c n).2) := by
  intro n
  induction n with
  | zero => exact ⟨⟨xi_m8 r hr.2.1, xi_m0 r hr.2.1 hr.1⟩, ⟨xi_m8 c hr.2.2.2, xi_m0 c hr.2.2.2 hr.2.2.1⟩⟩
  | succ n ih => exact ⟨⟨rp_m_8 _ _ _, rp_m_pos _ ih.2.1 ih.2.2 ih.1.1 ih.1.2⟩, ⟨rp_m_8 _ _ _, rp_m_pos _ ih.1.1 ih.1.2 ih.2.1 ih.2.2⟩⟩
theorem lf_fix {P : Nat → Int} {r c n : Nat} (h : lf_s P r c (n + 1) = lf_s P r c n) : ∀ d, lf_s P r c (n + d) = lf_s P r c n := by
  intro d
  induction d with
  | zero => rfl
  | succ d ih =>
    rw [show n + (d + 1) = (n + d) + 1 from rfl, lf_s, ih]
    rw [lf_s] at h
    exact h
def lf_z (z : Nat × Nat) : Nat := ys_sz z.1 + ys_sz z.2
theorem lf_dec {P : Nat → Int} {r c : Nat} (hr : 0 < r ∧ r < 4 ∧ 0 < c ∧ c < 4) (n : Nat) : lf_s P r c (n + 1) = lf_s P r c n ∨ lf_z (lf_s P r c (n + 1)) < lf_z (lf_s P r c n) := by
  have ok := lf_ok (P := P) hr n
  have a := rp_sz (pm_A P 1 false) (own := (lf_s P r c n).2) ok.1.1
  have b := rp_sz (pm_A P 0 false) (own := (lf_s P r c n).1) ok.2.1
  have e1 : (lf_s P r c (n + 1)).1 = rp_m (pm_A P 1 false) (lf_s P r c n).2 (lf_s P r c n).1 := rfl
  have e2 : (lf_s P r c (n + 1)).2 = rp_m (pm_A P 0 false) (lf_s P r c n).1 (lf_s P r c n).2 := rfl
  rw [← e1] at a
  rw [← e2] at b
  simp only [lf_z]
  rcases a with a | a
  · rcases b with b | b
    · exact Or.inl (Prod.ext a b)
    · right; rw [a]; omega
  · right
    rcases b with b | b
    · rw [b]; omega
    · omega
theorem xi_sh3 {m : Nat} (h : m < 8) : nI m <<< ((3 : Int32) &&& 31) = nI (m * 8) := pk_shlN _ 3 (by decide) (by omega)
section
variable {rw cl mc ws os ld lc : Int32} {ft fb : Int64} {pa ec : Nat → Int32} {ed : Nat → Int64} {ti : Nat → Int32} {ma : Nat → Int64} {mt : Nat → Int32} {sl : Nat → Int64} {ls lx ly : Nat → Int32} {P : Nat → Int} {r c : Nat}
theorem xs_lf25 {post : Int32 → SX → Prop} (hr : 0 < r ∧ r < 4 ∧ 0 < c ∧ c < 4) (hp : pm_ok pa P)
    (K : ∀ mc' ws' os' ec' ed' ti' ma' mt' sl' ls', post (nI ((lf_s P r c 6).1 ||| (lf_s P r c 6).2 * 8)) (rw, cl, mc', ws', os', ld, lc, ft, fb, pa, ec', ed', ti', ma', mt', sl', ls', lx, ly)) :
    ∀ (w m n : Nat) (mc0 ws0 os0 : Int32) (ec0 : Nat → Int32) (ed0 : Nat → Int64) (ti0 : Nat → Int32) (ma0 : Nat → Int64) (mt0 : Nat → Int32) (sl0 : Nat → Int64) (ls0 : Nat → Int32), lf_z (lf_s P r c m) ≤ w → m + w ≤ 6 → w + 2 ≤ n →
      wX_left_25 post n (nI (lf_s P r c m).1) (nI (lf_s P r c m).2) 1 rw cl mc0 ws0 os0 ld lc ft fb pa ec0 ed0 ti0 ma0 mt0 sl0 ls0 lx ly := by
  intro w
  induction w with
  | zero =>
    intro m n mc0 ws0 os0 ec0 ed0 ti0 ma0 mt0 sl0 ls0 hw hm hn
    exfalso
    have ok := lf_ok (P := P) hr m
    have := (ys_tab _ ok.1.1 ok.1.2).2.2.2.2
    simp only [lf_z] at hw
    omega
  | succ w ih =>
    intro m n mc0 ws0 os0 ec0 ed0 ti0 ma0 mt0 sl0 ls0 hw hm hn
    obtain ⟨n, rfl⟩ : ∃ m, n = m + 2 := ⟨n - 2, by omega⟩
    have ok := lf_ok (P := P) hr m
    have ok' := lf_ok (P := P) hr (m + 1)
    refine br_f (by decide) ?_
    refine xs_repliesAmong (s := 0) hp (by decide) ok.1.1 ok.1.2 ok.2.1 ok.2.2 fun mc1 ws1 os1 ec1 ed1 ti1 ma1 mt1 sl1 ls1 => ?_
    refine xs_repliesAmong (s := 1) hp (by decide) ok.1.1 ok.1.2 ok.2.1 ok.2.2 fun mc2 ws2 os2 ec2 ed2 ti2 ma2 mt2 sl2 ls2 => ?_
    rw [if_pos rfl, if_neg (by decide)]
    have e1 : (lf_s P r c (m + 1)).1 = rp_m (pm_A P 1 false) (lf_s P r c m).2 (lf_s P r c m).1 := rfl
    have e2 : (lf_s P r c (m + 1)).2 = rp_m (pm_A P 0 false) (lf_s P r c m).1 (lf_s P r c m).2 := rfl
    rw [← e1, ← e2]
    have next : lf_s P r c (m + 1) ≠ lf_s P r c m → wX_left_25 post (n + 1) (nI (lf_s P r c (m + 1)).1) (nI (lf_s P r c (m + 1)).2) 1 rw cl mc2 ws2 os2 ld lc ft fb pa ec2 ed2 ti2 ma2 mt2 sl2 ls2 lx ly := by
      intro hne
      have d := (lf_dec (P := P) hr m).resolve_left hne
      exact ih (m + 1) (n + 1) mc2 ws2 os2 ec2 ed2 ti2 ma2 mt2 sl2 ls2 (by omega) (by omega) (by omega)
    by_cases c1 : (lf_s P r c (m + 1)).1 = (lf_s P r c m).1
    · refine br_t (by rw [c1]) ?_
      by_cases c2 : (lf_s P r c (m + 1)).2 = (lf_s P r c m).2
      · refine br_t (by rw [c2]) (br_t rfl ?_)
        have fix := lf_fix (Prod.ext c1 c2) (6 - m)
        rw [show m + (6 - m) = 6 by omega] at fix
        rw [xi_sh3 ok'.2.1, xi_or, c1, c2, ← fix]
        exact K mc2 ws2 os2 ec2 ed2 ti2 ma2 mt2 sl2 ls2
      · exact br_f (fun h => c2 ((nI_eq (by omega) (by omega)).mp h)) (next (fun h => c2 (by rw [h])))
    · exact br_f (fun h => c1 ((nI_eq (by omega) (by omega)).mp h)) (next (fun h => c1 (by rw [h])))
theorem xs_left {post : Int32 → SX → Prop} (hr : 0 < r ∧ r < 4 ∧ 0 < c ∧ c < 4) (hp : pm_ok pa P)
    (K : ∀ mc' ws' os' ec' ed' ti' ma' mt' sl' ls', post (nI ((lf_s P r c 6).1 ||| (lf_s P r c 6).2 * 8)) (nI r, nI c, mc', ws', os', 0, lc, ft, fb, pa, ec', ed', ti', ma', mt', sl', ls', lx, ly)) : wpX_left post (nI r, nI c, mc, ws, os, ld, lc, ft, fb, pa, ec, ed, ti, ma, mt, sl, ls, lx, ly) := by
  intro x ex y ey
  rw [xi_msk r hr.2.1] at ex
  rw [xi_msk c hr.2.2.2] at ey
  rw [ex, ey]
  refine ⟨8, xs_lf25 hr hp K 6 0 8 mc ws os ec ed ti ma mt sl ls ?_ (by decide) (by decide)⟩
  have ok := lf_ok (P := P) hr 0
  have t : ∀ S, S < 8 → ys_sz S ≤ 3 := by decide
  have a := t _ ok.1.1
  have b := t _ ok.2.1
  simp only [lf_z]
  omega
end
section
variable {rw cl : Int32} {pa sp nu pt wh mx gt : Nat → Int32} {P : Nat → Int} {r c : Nat}
theorem ys_lf14 {post : Int32 → SY → Prop} (hr : 0 < r ∧ r < 4 ∧ 0 < c ∧ c < 4) (hp : pm_ok pa P)
    (K : ∀ nu' pt' wh' mx' gt', post (nI ((lf_s P r c 6).1 ||| (lf_s P r c 6).2 * 8)) (rw, cl, pa, sp, nu', pt', wh', mx', gt')) :
    ∀ (d m n : Nat) (nu0 pt0 wh0 mx0 gt0 : Nat → Int32), m + d = 6 → d < n → wY_left_14 post n (nI (lf_s P r c m).1) (nI (lf_s P r c m).2) (nI m) rw cl pa sp nu0 pt0 wh0 mx0 gt0 := by
  intro d
  induction d with
  | zero =>
    intro m n nu0 pt0 wh0 mx0 gt0 hm hn
    obtain ⟨n, rfl⟩ : ∃ m, n = m + 1 := ⟨n - 1, by omega⟩
    have e : m = 6 := by omega
    subst e
    have ok := lf_ok (P := P) hr 6
    refine br_t (show (6 : Int32) ≤ nI 6 by decide) ?_
    rw [xi_sh3 ok.2.1, xi_or]
    exact K nu0 pt0 wh0 mx0 gt0
  | succ d ih =>
    intro m n nu0 pt0 wh0 mx0 gt0 hm hn
    obtain ⟨n, rfl⟩ : ∃ m, n = m + 1 := ⟨n - 1, by omega⟩
    have ok := lf_ok (P := P) hr m
    refine br_f (nI_ge (b := 6) (by omega) (by decide)) ?_
    refine ys_repliesOf (s := 0) hp (by decide) ok.1.1 ok.1.2 ok.2.1 fun nu1 pt1 wh1 mx1 gt1 => ?_
    refine ys_repliesOf (s := 1) hp (by decide) ok.2.1 ok.2.2 ok.1.1 fun nu2 pt2 wh2 mx2 gt2 y ey => ?_
    rw [ey, nI_1]
    exact ih (m + 1) n nu2 pt2 wh2 mx2 gt2 (by omega) (by omega)
theorem ys_left {post : Int32 → SY → Prop} (hr : 0 < r ∧ r < 4 ∧ 0 < c ∧ c < 4) (hp : pm_ok pa P)
    (K : ∀ nu' pt' wh' mx' gt', post (nI ((lf_s P r c 6).1 ||| (lf_s P r c 6).2 * 8)) (nI r, nI c, pa, sp, nu', pt', wh', mx', gt')) : wpY_left post (nI r, nI c, pa, sp, nu, pt, wh, mx, gt) := by
  unfold wpY_left
  refine ys_allOf (s := 0) hr.2.1 hr.2.2.2 (by decide) ?_
  refine ys_allOf (s := 1) hr.2.1 hr.2.2.2 (by decide) ⟨7, ?_⟩
  exact ys_lf14 hr hp K 6 0 7 nu pt wh mx gt rfl (by decide)
end
theorem i_vc_left {k : Nat} {u : SX} {v : SY} (I : i_Rel k u v) (hk : k + 4 ≤ 2050) : wpX_left (fun r u' => wpY_left (fun r' v' => r' = r ∧ i_Rel (k + 4) u' v') v) u := by
  refine re_el (Q := fun u v => wpX_left (fun r u' => wpY_left (fun r' v' => r' = r ∧ i_Rel (k + 4) u' v') v) u) I ?_
  intro r c P mc ws os ld lc ft fb pa ec ed ti ma mt sl ls lx ly sp nu pt wh mx gt hr hp hs
  refine xs_left hr hp fun mc' ws' os' ec' ed' ti' ma' mt' sl' ls' => ?_
  exact ys_left hr hp fun nu' pt' wh' mx' gt' => ⟨rfl, re_mk hr hp (Or.inl rfl)⟩
end
