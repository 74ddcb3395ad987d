section
/-! pure rows to paste: stores, nI and lN arithmetic, masks, shifts, narrowing, branches by naturals (pk_le, pk_lt, pk_eq), loops (lp1 .. lp16: the measure of the state; rp1 ..: recursion), negatives. Take what you need -/
theorem pk_us {f : Nat → Int32} {k : Nat} {x : Int32} : upd f k x k = x := if_pos rfl
theorem pk_un {f : Nat → Int32} {k j : Nat} {x : Int32} (h : j ≠ k) : upd f k x j = f j := if_neg h
theorem pk_uLs {f : Nat → Int64} {k : Nat} {x : Int64} : vp_updL f k x k = x := if_pos rfl
theorem pk_uLn {f : Nat → Int64} {k j : Nat} {x : Int64} (h : j ≠ k) : vp_updL f k x j = f j := if_neg h
theorem pk_sub {a b : Nat} (h : b ≤ a) : nI a - nI b = nI (a - b) := by
  obtain ⟨c, rfl⟩ : ∃ c, a = c + b := ⟨a - b, by omega⟩
  rw [← nI_add, Int32.add_sub_cancel, Nat.add_sub_cancel]
theorem pk_m1 (n : Nat) : nI (n + 1) + (-1) = nI n := by
  rw [← nI_1, Int32.add_assoc, show (1 : Int32) + (-1) = 0 from rfl, Int32.add_zero]
theorem pk_mul (a b : Nat) : nI a * nI b = nI (a * b) := (Int32.ofNat_mul a b).symm
theorem pk_div {a d : Nat} (ha : a < 2 ^ 31) (h0 : 0 < d) (hd : d < 2 ^ 31) : nI a / nI d = nI (a / d) := by
  apply Int32.toInt_inj.mp
  rw [lg_idiv_nonneg (by rw [nI_toInt ha]; omega) (by rw [nI_toInt hd]; omega), nI_toInt ha, nI_toInt hd, nI_toInt (Nat.lt_of_le_of_lt (Nat.div_le_self a d) ha)]
  first | rfl | exact (Int.natCast_ediv _ _).symm
theorem pk_rem {a d : Nat} (ha : a < 2 ^ 31) (h0 : 0 < d) (hd : d < 2 ^ 31) : nI a - nI a / nI d * nI d = nI (a % d) := by
  rw [pk_div ha h0 hd, pk_mul, pk_sub (Nat.div_mul_le_self a d)]
  exact congrArg nI (by have := Nat.div_add_mod' a d; omega)
theorem pk_sub_toInt {a b : Nat} (ha : a < 2 ^ 30) (hb : b < 2 ^ 30) : (nI a - nI b).toInt = (a : Int) - b := by
  rw [Int32.toInt_sub, nI_toInt (by omega), nI_toInt (by omega)]
  exact Int.bmod_eq_of_le (by omega) (by omega)
theorem pk_sneg {a b : Nat} (hb : b < 2 ^ 30) (h : a < b) : nI a - nI b < 0 := by
  rw [Int32.lt_iff_toInt_lt, pk_sub_toInt (by omega) hb, show (0 : Int32).toInt = 0 from by decide]
  omega
theorem pk_ix (x : Int32) {n : Nat} (hn : n < 2 ^ 31) : x < 0 ∨ nI n ≤ x ∨ ∃ j : Nat, j < n ∧ x = nI j := by
  by_cases h : x < 0
  · exact Or.inl h
  · obtain ⟨j, hj, rfl⟩ := nI_of h
    by_cases h2 : j < n
    · exact Or.inr (Or.inr ⟨j, h2, rfl⟩)
    · exact Or.inr (Or.inl (nI_le (by omega) hj))
theorem pk_le {x y : Int32} {A B : Prop} (a b : Nat) (f : a ≤ b → A) (g : b < a → B) (hx : x = nI a := by rfl) (hy : y = nI b := by rfl) (ha : a < 2 ^ 31 := by omega) (hb : b < 2 ^ 31 := by omega) : (x ≤ y → A) ∧ (¬ x ≤ y → B) := by
  subst hx hy
  rw [nI_leI ha hb]
  exact ⟨f, fun z => g (by omega)⟩
theorem pk_lt {x y : Int32} {A B : Prop} (a b : Nat) (f : a < b → A) (g : b ≤ a → B) (hx : x = nI a := by rfl) (hy : y = nI b := by rfl) (ha : a < 2 ^ 31 := by omega) (hb : b < 2 ^ 31 := by omega) : (x < y → A) ∧ (¬ x < y → B) := by
  subst hx hy
  rw [nI_ltI ha hb]
  exact ⟨f, fun z => g (by omega)⟩
theorem pk_eq {x y : Int32} {A B : Prop} (a b : Nat) (f : a = b → A) (g : a ≠ b → B) (hx : x = nI a := by rfl) (hy : y = nI b := by rfl) (ha : a < 2 ^ 31 := by omega) (hb : b < 2 ^ 31 := by omega) : (x = y → A) ∧ (¬ x = y → B) := by
  subst hx hy
  rw [nI_eq ha hb]
  exact ⟨f, g⟩
theorem pk_in {x : Int32} (n N : Nat) (h : n < N) (hx : x = nI n := by rfl) (hN : N < 2 ^ 31 := by omega) : vp_in x N := by
  subst hx
  exact vp_in_nI h hN
theorem pk_cl {x : Int32} (n : Nat) (hx : x = nI n := by rfl) (h : n < 2 ^ 31 := by omega) : x.toNatClampNeg = n := by
  subst hx
  exact nI_clamp h
theorem pk_tn {n : Nat} (h : n < 2 ^ 32) : (nI n).toBitVec.toNat = n := Nat.mod_eq_of_lt h
theorem pk_and (x : Int32) {m : Int32} (k : Nat) (hm : m.toBitVec.toNat = 2 ^ k - 1) : x &&& m = nI (x.toBitVec.toNat % 2 ^ k) := by
  apply Int32.toBitVec_inj.mp
  apply BitVec.eq_of_toNat_eq
  rw [Int32.toBitVec_and, BitVec.toNat_and, hm, Nat.and_two_pow_sub_one_eq_mod]
  show _ = (BitVec.ofNat 32 _).toNat
  rw [BitVec.toNat_ofNat]
  exact (Nat.mod_eq_of_lt (Nat.lt_of_le_of_lt (Nat.mod_le _ _) x.toBitVec.isLt)).symm
theorem pk_andN {n : Nat} (h : n < 2 ^ 32) {m : Int32} (k : Nat) (hm : m.toBitVec.toNat = 2 ^ k - 1) : nI n &&& m = nI (n % 2 ^ k) := by
  rw [pk_and _ k hm, pk_tn h]
theorem pk_andE (x : Int32) {m : Int32} (k : Nat) (hm : m.toBitVec.toNat = 2 ^ k - 1) : ∃ j : Nat, j < 2 ^ k ∧ x &&& m = nI j := ⟨_, Nat.mod_lt _ (Nat.two_pow_pos k), pk_and x k hm⟩
theorem pk_andIn (x : Int32) {m : Int32} (k : Nat) (hm : m.toBitVec.toNat = 2 ^ k - 1) (hk : k ≤ 30) : vp_in (x &&& m) (2 ^ k) := by
  obtain ⟨j, hj, e⟩ := pk_andE x k hm
  rw [e]
  exact vp_in_nI hj (Nat.lt_of_le_of_lt (Nat.pow_le_pow_right (by decide) hk) (by decide))
theorem pk_shl (a s : Int32) (k : Nat) (hs : (s.toBitVec.smod 32).toNat = k) : (a <<< s).toBitVec.toNat = a.toBitVec.toNat * 2 ^ k % 2 ^ 32 := by
  show (a.toBitVec <<< (s.toBitVec.smod 32).toNat).toNat = _
  rw [hs, BitVec.toNat_shiftLeft, Nat.shiftLeft_eq]
theorem pk_shlN {n : Nat} (s : Int32) (k : Nat) (hs : (s.toBitVec.smod 32).toNat = k) (h : n * 2 ^ k < 2 ^ 32) : nI n <<< s = nI (n * 2 ^ k) := by
  apply Int32.toBitVec_inj.mp
  apply BitVec.eq_of_toNat_eq
  have hn : n < 2 ^ 32 := Nat.lt_of_le_of_lt (Nat.le_mul_of_pos_right n (Nat.two_pow_pos k)) h
  rw [pk_shl _ _ k hs, pk_tn hn, pk_tn h, Nat.mod_eq_of_lt h]
theorem pk_shr (a s : Int32) (k : Nat) (hs : (s.toBitVec.smod 32).toNat = k) : (a >>> s).toInt = a.toInt >>> k := by
  show (a.toBitVec.sshiftRight (s.toBitVec.smod 32).toNat).toInt = _
  rw [hs, BitVec.toInt_sshiftRight]
  rfl
theorem pk_shrN {n : Nat} (h : n < 2 ^ 31) (s : Int32) (k : Nat) (hs : (s.toBitVec.smod 32).toNat = k) : nI n >>> s = nI (n / 2 ^ k) := by
  apply Int32.toInt_inj.mp
  have h2 : n / 2 ^ k ≤ n := Nat.div_le_self _ _
  rw [pk_shr _ _ k hs, nI_toInt h, nI_toInt (by omega), Int.shiftRight_eq_div_pow]
  rfl
theorem pk_ushr (x s : Int32) (k : Nat) (hs : ((s.toUInt32 &&& Int32.toUInt32 31).toBitVec % 32).toNat = k) : (x.toUInt32 >>> (s.toUInt32 &&& Int32.toUInt32 31)).toInt32.toBitVec.toNat = x.toBitVec.toNat / 2 ^ k := by
  have e : (x.toUInt32 >>> (s.toUInt32 &&& Int32.toUInt32 31)).toInt32.toBitVec = x.toBitVec >>> k := by
    rw [← hs]
    exact UInt32.toBitVec_shiftRight _ _
  rw [e, BitVec.toNat_ushiftRight, Nat.shiftRight_eq_div_pow]
theorem pk_ushrN {n : Nat} (hn : n < 2 ^ 32) (s : Int32) (k : Nat) (hs : ((s.toUInt32 &&& Int32.toUInt32 31).toBitVec % 32).toNat = k) : ((nI n).toUInt32 >>> (s.toUInt32 &&& Int32.toUInt32 31)).toInt32 = nI (n / 2 ^ k) := by
  apply Int32.toBitVec_inj.mp
  apply BitVec.eq_of_toNat_eq
  rw [pk_ushr _ s k hs, pk_tn hn, pk_tn (Nat.lt_of_le_of_lt (Nat.div_le_self _ _) hn)]
theorem pk_nb (z : Int32) : narrow .byte (.int z.toInt8.toInt32) = .int z.toInt8.toInt32 := congrArg Value.int (by simp)
theorem pk_ns (z : Int32) : narrow .short (.int z.toInt16.toInt32) = .int z.toInt16.toInt32 := congrArg Value.int (by simp)
theorem pk_fb (r : Int32) : fits .byte (.int r.toInt8.toInt32) = true := by
  have ⟨a, b⟩ := lg_i2b_range r
  have h1 : (-128 : Int32).toInt = -128 := by decide
  have h2 : (127 : Int32).toInt = 127 := by decide
  simp only [fits, Bool.and_eq_true, decide_eq_true_eq, Int32.le_iff_toInt_le, h1, h2]
  omega
theorem pk_fs (r : Int32) : fits .short (.int r.toInt16.toInt32) = true := by
  have ⟨a, b⟩ := lg_i2s_range r
  have h1 : (-32768 : Int32).toInt = -32768 := by decide
  have h2 : (32767 : Int32).toInt = 32767 := by decide
  simp only [fits, Bool.and_eq_true, decide_eq_true_eq, Int32.le_iff_toInt_le, h1, h2]
  omega
theorem pk_charN {q : Nat} (hq : q < 65536) : narrow .char (.int (nI q)) = .int (nI q) ∧ fits .char (.int (nI q)) = true := by
  constructor
  · have e : (nI q).toUInt32.toUInt16.toUInt32.toInt32 = nI q := by
      apply Int32.toBitVec_inj.mp
      apply BitVec.eq_of_toNat_eq
      show (nI q).toUInt32.toUInt16.toUInt32.toNat = q % 2 ^ 32
      rw [UInt16.toNat_toUInt32, UInt32.toNat_toUInt16, show (nI q).toUInt32.toNat = q % 2 ^ 32 from rfl]
      omega
    exact congrArg Value.int e
  · have a : (0 : Int32) ≤ nI q := nI_pos' (by omega)
    have b : nI q ≤ 65535 := nI_le (b := 65535) (by omega) (by decide)
    show (decide ((0 : Int32) ≤ nI q) && decide (nI q ≤ 65535)) = true
    rw [decide_eq_true a, decide_eq_true b]
    rfl
theorem pk_char (x : Int32) : (x.toUInt32 % 65536).toInt32 = nI (x.toBitVec.toNat % 65536) := by
  apply Int32.toBitVec_inj.mp
  apply BitVec.eq_of_toNat_eq
  rw [pk_tn (by omega)]
  show (x.toUInt32 % 65536).toNat = _
  rw [UInt32.toNat_mod]
  rfl
theorem pk_nc (x : Int32) : narrow .char (.int (x.toUInt32 % 65536).toInt32) = .int (x.toUInt32 % 65536).toInt32 := by
  rw [pk_char]
  exact (pk_charN (Nat.mod_lt _ (by decide))).1
theorem pk_fc (x : Int32) : fits .char (.int (x.toUInt32 % 65536).toInt32) = true := by
  rw [pk_char]
  exact (pk_charN (Nat.mod_lt _ (by decide))).2
theorem pk_vb (z : Int32) : vp_nar .byte z.toInt8.toInt32 = z.toInt8.toInt32 := by rw [vp_nar_byte]; simp
theorem pk_vs (z : Int32) : vp_nar .short z.toInt16.toInt32 = z.toInt16.toInt32 := by rw [vp_nar_short]; simp
theorem pk_vc (z : Int32) : vp_nar .char (z.toUInt32 % 65536).toInt32 = (z.toUInt32 % 65536).toInt32 := Value.int.inj (pk_nc z)
theorem pk_lT {n : Nat} (h : n < 2 ^ 63) : (lN n).toInt = (n : Int) := lg_ofNat_toInt h
theorem pk_lLT {a b : Nat} (ha : a < 2 ^ 63) (hb : b < 2 ^ 63) : lN a < lN b ↔ a < b := by
  rw [Int64.lt_iff_toInt_lt, pk_lT ha, pk_lT hb]; omega
theorem pk_lLE {a b : Nat} (ha : a < 2 ^ 63) (hb : b < 2 ^ 63) : lN a ≤ lN b ↔ a ≤ b := by
  rw [Int64.le_iff_toInt_le, pk_lT ha, pk_lT hb]; omega
theorem pk_lEQ {a b : Nat} (ha : a < 2 ^ 63) (hb : b < 2 ^ 63) : lN a = lN b ↔ a = b := by
  rw [← Int64.toInt_inj, pk_lT ha, pk_lT hb]; omega
theorem pk_lOf {x : Int64} (h : ¬ x < 0) : ∃ k : Nat, k < 2 ^ 63 ∧ x = lN k := by
  rw [Int64.lt_iff_toInt_lt] at h
  have h0 : (0 : Int64).toInt = 0 := by decide
  have hx := Int64.toInt_lt x
  refine ⟨x.toInt.toNat, by omega, Int64.toInt_inj.mp ?_⟩
  rw [pk_lT (by omega)]
  omega
theorem pk_lDiv {a b : Nat} (ha : a < 2 ^ 63) (h0 : 0 < b) (hb : b < 2 ^ 63) : lN a / lN b = lN (a / b) := by
  apply Int64.toInt_inj.mp
  rw [lg_ldiv_nonneg (by rw [pk_lT ha]; omega) (by rw [pk_lT hb]; omega), pk_lT ha, pk_lT hb, pk_lT (Nat.lt_of_le_of_lt (Nat.div_le_self a b) ha)]
  rfl
theorem pk_lRem {a b : Nat} (ha : a < 2 ^ 63) (h0 : 0 < b) (hb : b < 2 ^ 63) : lN a - lN a / lN b * lN b = lN (a % b) := by
  rw [pk_lDiv ha h0 hb, lN_mul, lN_sub (Nat.div_mul_le_self a b)]
  exact congrArg lN (by have := Nat.div_add_mod' a b; omega)
theorem pk_loop {σ : Type} (W : Nat → Nat → σ → Prop) (I : Nat → σ → Prop) (e i0 : Nat) (s : σ) (hi : i0 ≤ e) (h0 : I i0 s) (hx : ∀ n s, I e s → W (n + 1) e s)
    (hs : ∀ n i s, i < e → I i s → (∀ s', I (i + 1) s' → W n (i + 1) s') → W (n + 1) i s) : ∃ n, W n i0 s :=
  ⟨e + 1, loop_i W I e hx hs (e + 1) i0 s hi (by omega) h0⟩
theorem pk_loopD {σ : Type} (W : Nat → Nat → σ → Prop) (I : Nat → σ → Prop) (hx : ∀ n s, I 0 s → W (n + 1) 0 s)
    (hs : ∀ n i s, I (i + 1) s → (∀ s', I i s' → W n i s') → W (n + 1) (i + 1) s) : ∀ (e : Nat) (s : σ), I e s → W (e + 1) e s := by
  intro e
  induction e with
  | zero => exact fun s h => hx 0 s h
  | succ e ih => exact fun s h => hs (e + 1) e s h (fun s' h' => ih s' h')
theorem lp1 {A1 : Type} (W : Nat → A1 → Prop) (I : A1 → Prop) (μ : A1 → Nat) (hs : ∀ (n : Nat) (a1 : A1), I a1 → (∀ (b1 : A1), I b1 → μ b1 < μ a1 → W n b1) → W (n + 1) a1) (a1 : A1) (h : I a1) : ∃ n, W n a1 :=
  loop_m (σ := A1) (fun n s => W n s) (fun s => I s) (fun s => μ s) (fun n s hI hk => hs n s hI (fun b1 h9 hm => hk b1 h9 hm)) a1 h
theorem lp2 {A1 A2 : Type} (W : Nat → A1 → A2 → Prop) (I : A1 → A2 → Prop) (μ : A1 → A2 → Nat) (hs : ∀ (n : Nat) (a1 : A1) (a2 : A2), I a1 a2 → (∀ (b1 : A1) (b2 : A2), I b1 b2 → μ b1 b2 < μ a1 a2 → W n b1 b2) → W (n + 1) a1 a2) (a1 : A1) (a2 : A2) (h : I a1 a2) : ∃ n, W n a1 a2 :=
  loop_m (σ := A1 × A2) (fun n s => W n s.1 s.2) (fun s => I s.1 s.2) (fun s => μ s.1 s.2) (fun n s hI hk => hs n s.1 s.2 hI (fun b1 b2 h9 hm => hk (b1, b2) h9 hm)) (a1, a2) h
theorem lp3 {A1 A2 A3 : Type} (W : Nat → A1 → A2 → A3 → Prop) (I : A1 → A2 → A3 → Prop) (μ : A1 → A2 → A3 → Nat) (hs : ∀ (n : Nat) (a1 : A1) (a2 : A2) (a3 : A3), I a1 a2 a3 → (∀ (b1 : A1) (b2 : A2) (b3 : A3), I b1 b2 b3 → μ b1 b2 b3 < μ a1 a2 a3 → W n b1 b2 b3) → W (n + 1) a1 a2 a3) (a1 : A1) (a2 : A2) (a3 : A3) (h : I a1 a2 a3) : ∃ n, W n a1 a2 a3 :=
  loop_m (σ := A1 × A2 × A3) (fun n s => W n s.1 s.2.1 s.2.2) (fun s => I s.1 s.2.1 s.2.2) (fun s => μ s.1 s.2.1 s.2.2) (fun n s hI hk => hs n s.1 s.2.1 s.2.2 hI (fun b1 b2 b3 h9 hm => hk (b1, b2, b3) h9 hm)) (a1, a2, a3) h
theorem lp4 {A1 A2 A3 A4 : Type} (W : Nat → A1 → A2 → A3 → A4 → Prop) (I : A1 → A2 → A3 → A4 → Prop) (μ : A1 → A2 → A3 → A4 → Nat) (hs : ∀ (n : Nat) (a1 : A1) (a2 : A2) (a3 : A3) (a4 : A4), I a1 a2 a3 a4 → (∀ (b1 : A1) (b2 : A2) (b3 : A3) (b4 : A4), I b1 b2 b3 b4 → μ b1 b2 b3 b4 < μ a1 a2 a3 a4 → W n b1 b2 b3 b4) → W (n + 1) a1 a2 a3 a4) (a1 : A1) (a2 : A2) (a3 : A3) (a4 : A4) (h : I a1 a2 a3 a4) : ∃ n, W n a1 a2 a3 a4 :=
  loop_m (σ := A1 × A2 × A3 × A4) (fun n s => W n s.1 s.2.1 s.2.2.1 s.2.2.2) (fun s => I s.1 s.2.1 s.2.2.1 s.2.2.2) (fun s => μ s.1 s.2.1 s.2.2.1 s.2.2.2) (fun n s hI hk => hs n s.1 s.2.1 s.2.2.1 s.2.2.2 hI (fun b1 b2 b3 b4 h9 hm => hk (b1, b2, b3, b4) h9 hm)) (a1, a2, a3, a4) h
theorem lp5 {A1 A2 A3 A4 A5 : Type} (W : Nat → A1 → A2 → A3 → A4 → A5 → Prop) (I : A1 → A2 → A3 → A4 → A5 → Prop) (μ : A1 → A2 → A3 → A4 → A5 → Nat) (hs : ∀ (n : Nat) (a1 : A1) (a2 : A2) (a3 : A3) (a4 : A4) (a5 : A5), I a1 a2 a3 a4 a5 → (∀ (b1 : A1) (b2 : A2) (b3 : A3) (b4 : A4) (b5 : A5), I b1 b2 b3 b4 b5 → μ b1 b2 b3 b4 b5 < μ a1 a2 a3 a4 a5 → W n b1 b2 b3 b4 b5) → W (n + 1) a1 a2 a3 a4 a5) (a1 : A1) (a2 : A2) (a3 : A3) (a4 : A4) (a5 : A5) (h : I a1 a2 a3 a4 a5) : ∃ n, W n a1 a2 a3 a4 a5 :=
  loop_m (σ := A1 × A2 × A3 × A4 × A5) (fun n s => W n s.1 s.2.1 s.2.2.1 s.2.2.2.1 s.2.2.2.2) (fun s => I s.1 s.2.1 s.2.2.1 s.2.2.2.1 s.2.2.2.2) (fun s => μ s.1 s.2.1 s.2.2.1 s.2.2.2.1 s.2.2.2.2) (fun n s hI hk => hs n s.1 s.2.1 s.2.2.1 s.2.2.2.1 s.2.2.2.2 hI (fun b1 b2 b3 b4 b5 h9 hm => hk (b1, b2, b3, b4, b5) h9 hm)) (a1, a2, a3, a4, a5) h
theorem lp6 {A1 A2 A3 A4 A5 A6 : Type} (W : Nat → A1 → A2 → A3 → A4 → A5 → A6 → Prop) (I : A1 → A2 → A3 → A4 → A5 → A6 → Prop) (μ : A1 → A2 → A3 → A4 → A5 → A6 → Nat) (hs : ∀ (n : Nat) (a1 : A1) (a2 : A2) (a3 : A3) (a4 : A4) (a5 : A5) (a6 : A6), I a1 a2 a3 a4 a5 a6 → (∀ (b1 : A1) (b2 : A2) (b3 : A3) (b4 : A4) (b5 : A5) (b6 : A6), I b1 b2 b3 b4 b5 b6 → μ b1 b2 b3 b4 b5 b6 < μ a1 a2 a3 a4 a5 a6 → W n b1 b2 b3 b4 b5 b6) → W (n + 1) a1 a2 a3 a4 a5 a6) (a1 : A1) (a2 : A2) (a3 : A3) (a4 : A4) (a5 : A5) (a6 : A6) (h : I a1 a2 a3 a4 a5 a6) : ∃ n, W n a1 a2 a3 a4 a5 a6 :=
  loop_m (σ := A1 × A2 × A3 × A4 × A5 × A6) (fun n s => W n s.1 s.2.1 s.2.2.1 s.2.2.2.1 s.2.2.2.2.1 s.2.2.2.2.2) (fun s => I s.1 s.2.1 s.2.2.1 s.2.2.2.1 s.2.2.2.2.1 s.2.2.2.2.2) (fun s => μ s.1 s.2.1 s.2.2.1 s.2.2.2.1 s.2.2.2.2.1 s.2.2.2.2.2) (fun n s hI hk => hs n s.1 s.2.1 s.2.2.1 s.2.2.2.1 s.2.2.2.2.1 s.2.2.2.2.2 hI (fun b1 b2 b3 b4 b5 b6 h9 hm => hk (b1, b2, b3, b4, b5, b6) h9 hm)) (a1, a2, a3, a4, a5, a6) h
theorem lp7 {A1 A2 A3 A4 A5 A6 A7 : Type} (W : Nat → A1 → A2 → A3 → A4 → A5 → A6 → A7 → Prop) (I : A1 → A2 → A3 → A4 → A5 → A6 → A7 → Prop) (μ : A1 → A2 → A3 → A4 → A5 → A6 → A7 → Nat) (hs : ∀ (n : Nat) (a1 : A1) (a2 : A2) (a3 : A3) (a4 : A4) (a5 : A5) (a6 : A6) (a7 : A7), I a1 a2 a3 a4 a5 a6 a7 → (∀ (b1 : A1) (b2 : A2) (b3 : A3) (b4 : A4) (b5 : A5) (b6 : A6) (b7 : A7), I b1 b2 b3 b4 b5 b6 b7 → μ b1 b2 b3 b4 b5 b6 b7 < μ a1 a2 a3 a4 a5 a6 a7 → W n b1 b2 b3 b4 b5 b6 b7) → W (n + 1) a1 a2 a3 a4 a5 a6 a7) (a1 : A1) (a2 : A2) (a3 : A3) (a4 : A4) (a5 : A5) (a6 : A6) (a7 : A7) (h : I a1 a2 a3 a4 a5 a6 a7) : ∃ n, W n a1 a2 a3 a4 a5 a6 a7 :=
  loop_m (σ := A1 × A2 × A3 × A4 × A5 × A6 × A7) (fun n s => W n s.1 s.2.1 s.2.2.1 s.2.2.2.1 s.2.2.2.2.1 s.2.2.2.2.2.1 s.2.2.2.2.2.2) (fun s => I s.1 s.2.1 s.2.2.1 s.2.2.2.1 s.2.2.2.2.1 s.2.2.2.2.2.1 s.2.2.2.2.2.2) (fun s => μ s.1 s.2.1 s.2.2.1 s.2.2.2.1 s.2.2.2.2.1 s.2.2.2.2.2.1 s.2.2.2.2.2.2) (fun n s hI hk => hs n s.1 s.2.1 s.2.2.1 s.2.2.2.1 s.2.2.2.2.1 s.2.2.2.2.2.1 s.2.2.2.2.2.2 hI (fun b1 b2 b3 b4 b5 b6 b7 h9 hm => hk (b1, b2, b3, b4, b5, b6, b7) h9 hm)) (a1, a2, a3, a4, a5, a6, a7) h
theorem lp8 {A1 A2 A3 A4 A5 A6 A7 A8 : Type} (W : Nat → A1 → A2 → A3 → A4 → A5 → A6 → A7 → A8 → Prop) (I : A1 → A2 → A3 → A4 → A5 → A6 → A7 → A8 → Prop) (μ : A1 → A2 → A3 → A4 → A5 → A6 → A7 → A8 → Nat) (hs : ∀ (n : Nat) (a1 : A1) (a2 : A2) (a3 : A3) (a4 : A4) (a5 : A5) (a6 : A6) (a7 : A7) (a8 : A8), I a1 a2 a3 a4 a5 a6 a7 a8 → (∀ (b1 : A1) (b2 : A2) (b3 : A3) (b4 : A4) (b5 : A5) (b6 : A6) (b7 : A7) (b8 : A8), I b1 b2 b3 b4 b5 b6 b7 b8 → μ b1 b2 b3 b4 b5 b6 b7 b8 < μ a1 a2 a3 a4 a5 a6 a7 a8 → W n b1 b2 b3 b4 b5 b6 b7 b8) → W (n + 1) a1 a2 a3 a4 a5 a6 a7 a8) (a1 : A1) (a2 : A2) (a3 : A3) (a4 : A4) (a5 : A5) (a6 : A6) (a7 : A7) (a8 : A8) (h : I a1 a2 a3 a4 a5 a6 a7 a8) : ∃ n, W n a1 a2 a3 a4 a5 a6 a7 a8 :=
  loop_m (σ := A1 × A2 × A3 × A4 × A5 × A6 × A7 × A8) (fun n s => W n s.1 s.2.1 s.2.2.1 s.2.2.2.1 s.2.2.2.2.1 s.2.2.2.2.2.1 s.2.2.2.2.2.2.1 s.2.2.2.2.2.2.2) (fun s => I s.1 s.2.1 s.2.2.1 s.2.2.2.1 s.2.2.2.2.1 s.2.2.2.2.2.1 s.2.2.2.2.2.2.1 s.2.2.2.2.2.2.2) (fun s => μ s.1 s.2.1 s.2.2.1 s.2.2.2.1 s.2.2.2.2.1 s.2.2.2.2.2.1 s.2.2.2.2.2.2.1 s.2.2.2.2.2.2.2) (fun n s hI hk => hs n s.1 s.2.1 s.2.2.1 s.2.2.2.1 s.2.2.2.2.1 s.2.2.2.2.2.1 s.2.2.2.2.2.2.1 s.2.2.2.2.2.2.2 hI (fun b1 b2 b3 b4 b5 b6 b7 b8 h9 hm => hk (b1, b2, b3, b4, b5, b6, b7, b8) h9 hm)) (a1, a2, a3, a4, a5, a6, a7, a8) h
theorem lp9 {A1 A2 A3 A4 A5 A6 A7 A8 A9 : Type} (W : Nat → A1 → A2 → A3 → A4 → A5 → A6 → A7 → A8 → A9 → Prop) (I : A1 → A2 → A3 → A4 → A5 → A6 → A7 → A8 → A9 → Prop) (μ : A1 → A2 → A3 → A4 → A5 → A6 → A7 → A8 → A9 → Nat) (hs : ∀ (n : Nat) (a1 : A1) (a2 : A2) (a3 : A3) (a4 : A4) (a5 : A5) (a6 : A6) (a7 : A7) (a8 : A8) (a9 : A9), I a1 a2 a3 a4 a5 a6 a7 a8 a9 → (∀ (b1 : A1) (b2 : A2) (b3 : A3) (b4 : A4) (b5 : A5) (b6 : A6) (b7 : A7) (b8 : A8) (b9 : A9), I b1 b2 b3 b4 b5 b6 b7 b8 b9 → μ b1 b2 b3 b4 b5 b6 b7 b8 b9 < μ a1 a2 a3 a4 a5 a6 a7 a8 a9 → W n b1 b2 b3 b4 b5 b6 b7 b8 b9) → W (n + 1) a1 a2 a3 a4 a5 a6 a7 a8 a9) (a1 : A1) (a2 : A2) (a3 : A3) (a4 : A4) (a5 : A5) (a6 : A6) (a7 : A7) (a8 : A8) (a9 : A9) (h : I a1 a2 a3 a4 a5 a6 a7 a8 a9) : ∃ n, W n a1 a2 a3 a4 a5 a6 a7 a8 a9 :=
  loop_m (σ := A1 × A2 × A3 × A4 × A5 × A6 × A7 × A8 × A9) (fun n s => W n s.1 s.2.1 s.2.2.1 s.2.2.2.1 s.2.2.2.2.1 s.2.2.2.2.2.1 s.2.2.2.2.2.2.1 s.2.2.2.2.2.2.2.1 s.2.2.2.2.2.2.2.2) (fun s => I s.1 s.2.1 s.2.2.1 s.2.2.2.1 s.2.2.2.2.1 s.2.2.2.2.2.1 s.2.2.2.2.2.2.1 s.2.2.2.2.2.2.2.1 s.2.2.2.2.2.2.2.2) (fun s => μ s.1 s.2.1 s.2.2.1 s.2.2.2.1 s.2.2.2.2.1 s.2.2.2.2.2.1 s.2.2.2.2.2.2.1 s.2.2.2.2.2.2.2.1 s.2.2.2.2.2.2.2.2) (fun n s hI hk => hs n s.1 s.2.1 s.2.2.1 s.2.2.2.1 s.2.2.2.2.1 s.2.2.2.2.2.1 s.2.2.2.2.2.2.1 s.2.2.2.2.2.2.2.1 s.2.2.2.2.2.2.2.2 hI (fun b1 b2 b3 b4 b5 b6 b7 b8 b9 h9 hm => hk (b1, b2, b3, b4, b5, b6, b7, b8, b9) h9 hm)) (a1, a2, a3, a4, a5, a6, a7, a8, a9) h
theorem lp10 {A1 A2 A3 A4 A5 A6 A7 A8 A9 A10 : Type} (W : Nat → A1 → A2 → A3 → A4 → A5 → A6 → A7 → A8 → A9 → A10 → Prop) (I : A1 → A2 → A3 → A4 → A5 → A6 → A7 → A8 → A9 → A10 → Prop) (μ : A1 → A2 → A3 → A4 → A5 → A6 → A7 → A8 → A9 → A10 → Nat) (hs : ∀ (n : Nat) (a1 : A1) (a2 : A2) (a3 : A3) (a4 : A4) (a5 : A5) (a6 : A6) (a7 : A7) (a8 : A8) (a9 : A9) (a10 : A10), I a1 a2 a3 a4 a5 a6 a7 a8 a9 a10 → (∀ (b1 : A1) (b2 : A2) (b3 : A3) (b4 : A4) (b5 : A5) (b6 : A6) (b7 : A7) (b8 : A8) (b9 : A9) (b10 : A10), I b1 b2 b3 b4 b5 b6 b7 b8 b9 b10 → μ b1 b2 b3 b4 b5 b6 b7 b8 b9 b10 < μ a1 a2 a3 a4 a5 a6 a7 a8 a9 a10 → W n b1 b2 b3 b4 b5 b6 b7 b8 b9 b10) → W (n + 1) a1 a2 a3 a4 a5 a6 a7 a8 a9 a10) (a1 : A1) (a2 : A2) (a3 : A3) (a4 : A4) (a5 : A5) (a6 : A6) (a7 : A7) (a8 : A8) (a9 : A9) (a10 : A10) (h : I a1 a2 a3 a4 a5 a6 a7 a8 a9 a10) : ∃ n, W n a1 a2 a3 a4 a5 a6 a7 a8 a9 a10 :=
  loop_m (σ := A1 × A2 × A3 × A4 × A5 × A6 × A7 × A8 × A9 × A10) (fun n s => W n s.1 s.2.1 s.2.2.1 s.2.2.2.1 s.2.2.2.2.1 s.2.2.2.2.2.1 s.2.2.2.2.2.2.1 s.2.2.2.2.2.2.2.1 s.2.2.2.2.2.2.2.2.1 s.2.2.2.2.2.2.2.2.2) (fun s => I s.1 s.2.1 s.2.2.1 s.2.2.2.1 s.2.2.2.2.1 s.2.2.2.2.2.1 s.2.2.2.2.2.2.1 s.2.2.2.2.2.2.2.1 s.2.2.2.2.2.2.2.2.1 s.2.2.2.2.2.2.2.2.2) (fun s => μ s.1 s.2.1 s.2.2.1 s.2.2.2.1 s.2.2.2.2.1 s.2.2.2.2.2.1 s.2.2.2.2.2.2.1 s.2.2.2.2.2.2.2.1 s.2.2.2.2.2.2.2.2.1 s.2.2.2.2.2.2.2.2.2) (fun n s hI hk => hs n s.1 s.2.1 s.2.2.1 s.2.2.2.1 s.2.2.2.2.1 s.2.2.2.2.2.1 s.2.2.2.2.2.2.1 s.2.2.2.2.2.2.2.1 s.2.2.2.2.2.2.2.2.1 s.2.2.2.2.2.2.2.2.2 hI (fun b1 b2 b3 b4 b5 b6 b7 b8 b9 b10 h9 hm => hk (b1, b2, b3, b4, b5, b6, b7, b8, b9, b10) h9 hm)) (a1, a2, a3, a4, a5, a6, a7, a8, a9, a10) h
theorem lp11 {A1 A2 A3 A4 A5 A6 A7 A8 A9 A10 A11 : Type} (W : Nat → A1 → A2 → A3 → A4 → A5 → A6 → A7 → A8 → A9 → A10 → A11 → Prop) (I : A1 → A2 → A3 → A4 → A5 → A6 → A7 → A8 → A9 → A10 → A11 → Prop) (μ : A1 → A2 → A3 → A4 → A5 → A6 → A7 → A8 → A9 → A10 → A11 → Nat) (hs : ∀ (n : Nat) (a1 : A1) (a2 : A2) (a3 : A3) (a4 : A4) (a5 : A5) (a6 : A6) (a7 : A7) (a8 : A8) (a9 : A9) (a10 : A10) (a11 : A11), I a1 a2 a3 a4 a5 a6 a7 a8 a9 a10 a11 → (∀ (b1 : A1) (b2 : A2) (b3 : A3) (b4 : A4) (b5 : A5) (b6 : A6) (b7 : A7) (b8 : A8) (b9 : A9) (b10 : A10) (b11 : A11), I b1 b2 b3 b4 b5 b6 b7 b8 b9 b10 b11 → μ b1 b2 b3 b4 b5 b6 b7 b8 b9 b10 b11 < μ a1 a2 a3 a4 a5 a6 a7 a8 a9 a10 a11 → W n b1 b2 b3 b4 b5 b6 b7 b8 b9 b10 b11) → W (n + 1) a1 a2 a3 a4 a5 a6 a7 a8 a9 a10 a11) (a1 : A1) (a2 : A2) (a3 : A3) (a4 : A4) (a5 : A5) (a6 : A6) (a7 : A7) (a8 : A8) (a9 : A9) (a10 : A10) (a11 : A11) (h : I a1 a2 a3 a4 a5 a6 a7 a8 a9 a10 a11) : ∃ n, W n a1 a2 a3 a4 a5 a6 a7 a8 a9 a10 a11 :=
  loop_m (σ := A1 × A2 × A3 × A4 × A5 × A6 × A7 × A8 × A9 × A10 × A11) (fun n s => W n s.1 s.2.1 s.2.2.1 s.2.2.2.1 s.2.2.2.2.1 s.2.2.2.2.2.1 s.2.2.2.2.2.2.1 s.2.2.2.2.2.2.2.1 s.2.2.2.2.2.2.2.2.1 s.2.2.2.2.2.2.2.2.2.1 s.2.2.2.2.2.2.2.2.2.2) (fun s => I s.1 s.2.1 s.2.2.1 s.2.2.2.1 s.2.2.2.2.1 s.2.2.2.2.2.1 s.2.2.2.2.2.2.1 s.2.2.2.2.2.2.2.1 s.2.2.2.2.2.2.2.2.1 s.2.2.2.2.2.2.2.2.2.1 s.2.2.2.2.2.2.2.2.2.2) (fun s => μ s.1 s.2.1 s.2.2.1 s.2.2.2.1 s.2.2.2.2.1 s.2.2.2.2.2.1 s.2.2.2.2.2.2.1 s.2.2.2.2.2.2.2.1 s.2.2.2.2.2.2.2.2.1 s.2.2.2.2.2.2.2.2.2.1 s.2.2.2.2.2.2.2.2.2.2) (fun n s hI hk => hs n s.1 s.2.1 s.2.2.1 s.2.2.2.1 s.2.2.2.2.1 s.2.2.2.2.2.1 s.2.2.2.2.2.2.1 s.2.2.2.2.2.2.2.1 s.2.2.2.2.2.2.2.2.1 s.2.2.2.2.2.2.2.2.2.1 s.2.2.2.2.2.2.2.2.2.2 hI (fun b1 b2 b3 b4 b5 b6 b7 b8 b9 b10 b11 h9 hm => hk (b1, b2, b3, b4, b5, b6, b7, b8, b9, b10, b11) h9 hm)) (a1, a2, a3, a4, a5, a6, a7, a8, a9, a10, a11) h
theorem lp12 {A1 A2 A3 A4 A5 A6 A7 A8 A9 A10 A11 A12 : Type} (W : Nat → A1 → A2 → A3 → A4 → A5 → A6 → A7 → A8 → A9 → A10 → A11 → A12 → Prop) (I : A1 → A2 → A3 → A4 → A5 → A6 → A7 → A8 → A9 → A10 → A11 → A12 → Prop) (μ : A1 → A2 → A3 → A4 → A5 → A6 → A7 → A8 → A9 → A10 → A11 → A12 → Nat) (hs : ∀ (n : Nat) (a1 : A1) (a2 : A2) (a3 : A3) (a4 : A4) (a5 : A5) (a6 : A6) (a7 : A7) (a8 : A8) (a9 : A9) (a10 : A10) (a11 : A11) (a12 : A12), I a1 a2 a3 a4 a5 a6 a7 a8 a9 a10 a11 a12 → (∀ (b1 : A1) (b2 : A2) (b3 : A3) (b4 : A4) (b5 : A5) (b6 : A6) (b7 : A7) (b8 : A8) (b9 : A9) (b10 : A10) (b11 : A11) (b12 : A12), I b1 b2 b3 b4 b5 b6 b7 b8 b9 b10 b11 b12 → μ b1 b2 b3 b4 b5 b6 b7 b8 b9 b10 b11 b12 < μ a1 a2 a3 a4 a5 a6 a7 a8 a9 a10 a11 a12 → W n b1 b2 b3 b4 b5 b6 b7 b8 b9 b10 b11 b12) → W (n + 1) a1 a2 a3 a4 a5 a6 a7 a8 a9 a10 a11 a12) (a1 : A1) (a2 : A2) (a3 : A3) (a4 : A4) (a5 : A5) (a6 : A6) (a7 : A7) (a8 : A8) (a9 : A9) (a10 : A10) (a11 : A11) (a12 : A12) (h : I a1 a2 a3 a4 a5 a6 a7 a8 a9 a10 a11 a12) : ∃ n, W n a1 a2 a3 a4 a5 a6 a7 a8 a9 a10 a11 a12 :=
  loop_m (σ := A1 × A2 × A3 × A4 × A5 × A6 × A7 × A8 × A9 × A10 × A11 × A12) (fun n s => W n s.1 s.2.1 s.2.2.1 s.2.2.2.1 s.2.2.2.2.1 s.2.2.2.2.2.1 s.2.2.2.2.2.2.1 s.2.2.2.2.2.2.2.1 s.2.2.2.2.2.2.2.2.1 s.2.2.2.2.2.2.2.2.2.1 s.2.2.2.2.2.2.2.2.2.2.1 s.2.2.2.2.2.2.2.2.2.2.2) (fun s => I s.1 s.2.1 s.2.2.1 s.2.2.2.1 s.2.2.2.2.1 s.2.2.2.2.2.1 s.2.2.2.2.2.2.1 s.2.2.2.2.2.2.2.1 s.2.2.2.2.2.2.2.2.1 s.2.2.2.2.2.2.2.2.2.1 s.2.2.2.2.2.2.2.2.2.2.1 s.2.2.2.2.2.2.2.2.2.2.2) (fun s => μ s.1 s.2.1 s.2.2.1 s.2.2.2.1 s.2.2.2.2.1 s.2.2.2.2.2.1 s.2.2.2.2.2.2.1 s.2.2.2.2.2.2.2.1 s.2.2.2.2.2.2.2.2.1 s.2.2.2.2.2.2.2.2.2.1 s.2.2.2.2.2.2.2.2.2.2.1 s.2.2.2.2.2.2.2.2.2.2.2) (fun n s hI hk => hs n s.1 s.2.1 s.2.2.1 s.2.2.2.1 s.2.2.2.2.1 s.2.2.2.2.2.1 s.2.2.2.2.2.2.1 s.2.2.2.2.2.2.2.1 s.2.2.2.2.2.2.2.2.1 s.2.2.2.2.2.2.2.2.2.1 s.2.2.2.2.2.2.2.2.2.2.1 s.2.2.2.2.2.2.2.2.2.2.2 hI (fun b1 b2 b3 b4 b5 b6 b7 b8 b9 b10 b11 b12 h9 hm => hk (b1, b2, b3, b4, b5, b6, b7, b8, b9, b10, b11, b12) h9 hm)) (a1, a2, a3, a4, a5, a6, a7, a8, a9, a10, a11, a12) h
theorem lp13 {A1 A2 A3 A4 A5 A6 A7 A8 A9 A10 A11 A12 A13 : Type} (W : Nat → A1 → A2 → A3 → A4 → A5 → A6 → A7 → A8 → A9 → A10 → A11 → A12 → A13 → Prop) (I : A1 → A2 → A3 → A4 → A5 → A6 → A7 → A8 → A9 → A10 → A11 → A12 → A13 → Prop) (μ : A1 → A2 → A3 → A4 → A5 → A6 → A7 → A8 → A9 → A10 → A11 → A12 → A13 → Nat) (hs : ∀ (n : Nat) (a1 : A1) (a2 : A2) (a3 : A3) (a4 : A4) (a5 : A5) (a6 : A6) (a7 : A7) (a8 : A8) (a9 : A9) (a10 : A10) (a11 : A11) (a12 : A12) (a13 : A13), I a1 a2 a3 a4 a5 a6 a7 a8 a9 a10 a11 a12 a13 → (∀ (b1 : A1) (b2 : A2) (b3 : A3) (b4 : A4) (b5 : A5) (b6 : A6) (b7 : A7) (b8 : A8) (b9 : A9) (b10 : A10) (b11 : A11) (b12 : A12) (b13 : A13), I b1 b2 b3 b4 b5 b6 b7 b8 b9 b10 b11 b12 b13 → μ b1 b2 b3 b4 b5 b6 b7 b8 b9 b10 b11 b12 b13 < μ a1 a2 a3 a4 a5 a6 a7 a8 a9 a10 a11 a12 a13 → W n b1 b2 b3 b4 b5 b6 b7 b8 b9 b10 b11 b12 b13) → W (n + 1) a1 a2 a3 a4 a5 a6 a7 a8 a9 a10 a11 a12 a13) (a1 : A1) (a2 : A2) (a3 : A3) (a4 : A4) (a5 : A5) (a6 : A6) (a7 : A7) (a8 : A8) (a9 : A9) (a10 : A10) (a11 : A11) (a12 : A12) (a13 : A13) (h : I a1 a2 a3 a4 a5 a6 a7 a8 a9 a10 a11 a12 a13) : ∃ n, W n a1 a2 a3 a4 a5 a6 a7 a8 a9 a10 a11 a12 a13 :=
  loop_m (σ := A1 × A2 × A3 × A4 × A5 × A6 × A7 × A8 × A9 × A10 × A11 × A12 × A13) (fun n s => W n s.1 s.2.1 s.2.2.1 s.2.2.2.1 s.2.2.2.2.1 s.2.2.2.2.2.1 s.2.2.2.2.2.2.1 s.2.2.2.2.2.2.2.1 s.2.2.2.2.2.2.2.2.1 s.2.2.2.2.2.2.2.2.2.1 s.2.2.2.2.2.2.2.2.2.2.1 s.2.2.2.2.2.2.2.2.2.2.2.1 s.2.2.2.2.2.2.2.2.2.2.2.2) (fun s => I s.1 s.2.1 s.2.2.1 s.2.2.2.1 s.2.2.2.2.1 s.2.2.2.2.2.1 s.2.2.2.2.2.2.1 s.2.2.2.2.2.2.2.1 s.2.2.2.2.2.2.2.2.1 s.2.2.2.2.2.2.2.2.2.1 s.2.2.2.2.2.2.2.2.2.2.1 s.2.2.2.2.2.2.2.2.2.2.2.1 s.2.2.2.2.2.2.2.2.2.2.2.2) (fun s => μ s.1 s.2.1 s.2.2.1 s.2.2.2.1 s.2.2.2.2.1 s.2.2.2.2.2.1 s.2.2.2.2.2.2.1 s.2.2.2.2.2.2.2.1 s.2.2.2.2.2.2.2.2.1 s.2.2.2.2.2.2.2.2.2.1 s.2.2.2.2.2.2.2.2.2.2.1 s.2.2.2.2.2.2.2.2.2.2.2.1 s.2.2.2.2.2.2.2.2.2.2.2.2) (fun n s hI hk => hs n s.1 s.2.1 s.2.2.1 s.2.2.2.1 s.2.2.2.2.1 s.2.2.2.2.2.1 s.2.2.2.2.2.2.1 s.2.2.2.2.2.2.2.1 s.2.2.2.2.2.2.2.2.1 s.2.2.2.2.2.2.2.2.2.1 s.2.2.2.2.2.2.2.2.2.2.1 s.2.2.2.2.2.2.2.2.2.2.2.1 s.2.2.2.2.2.2.2.2.2.2.2.2 hI (fun b1 b2 b3 b4 b5 b6 b7 b8 b9 b10 b11 b12 b13 h9 hm => hk (b1, b2, b3, b4, b5, b6, b7, b8, b9, b10, b11, b12, b13) h9 hm)) (a1, a2, a3, a4, a5, a6, a7, a8, a9, a10, a11, a12, a13) h
theorem lp14 {A1 A2 A3 A4 A5 A6 A7 A8 A9 A10 A11 A12 A13 A14 : Type} (W : Nat → A1 → A2 → A3 → A4 → A5 → A6 → A7 → A8 → A9 → A10 → A11 → A12 → A13 → A14 → Prop) (I : A1 → A2 → A3 → A4 → A5 → A6 → A7 → A8 → A9 → A10 → A11 → A12 → A13 → A14 → Prop) (μ : A1 → A2 → A3 → A4 → A5 → A6 → A7 → A8 → A9 → A10 → A11 → A12 → A13 → A14 → Nat) (hs : ∀ (n : Nat) (a1 : A1) (a2 : A2) (a3 : A3) (a4 : A4) (a5 : A5) (a6 : A6) (a7 : A7) (a8 : A8) (a9 : A9) (a10 : A10) (a11 : A11) (a12 : A12) (a13 : A13) (a14 : A14), I a1 a2 a3 a4 a5 a6 a7 a8 a9 a10 a11 a12 a13 a14 → (∀ (b1 : A1) (b2 : A2) (b3 : A3) (b4 : A4) (b5 : A5) (b6 : A6) (b7 : A7) (b8 : A8) (b9 : A9) (b10 : A10) (b11 : A11) (b12 : A12) (b13 : A13) (b14 : A14), I b1 b2 b3 b4 b5 b6 b7 b8 b9 b10 b11 b12 b13 b14 → μ b1 b2 b3 b4 b5 b6 b7 b8 b9 b10 b11 b12 b13 b14 < μ a1 a2 a3 a4 a5 a6 a7 a8 a9 a10 a11 a12 a13 a14 → W n b1 b2 b3 b4 b5 b6 b7 b8 b9 b10 b11 b12 b13 b14) → W (n + 1) a1 a2 a3 a4 a5 a6 a7 a8 a9 a10 a11 a12 a13 a14) (a1 : A1) (a2 : A2) (a3 : A3) (a4 : A4) (a5 : A5) (a6 : A6) (a7 : A7) (a8 : A8) (a9 : A9) (a10 : A10) (a11 : A11) (a12 : A12) (a13 : A13) (a14 : A14) (h : I a1 a2 a3 a4 a5 a6 a7 a8 a9 a10 a11 a12 a13 a14) : ∃ n, W n a1 a2 a3 a4 a5 a6 a7 a8 a9 a10 a11 a12 a13 a14 :=
  loop_m (σ := A1 × A2 × A3 × A4 × A5 × A6 × A7 × A8 × A9 × A10 × A11 × A12 × A13 × A14) (fun n s => W n s.1 s.2.1 s.2.2.1 s.2.2.2.1 s.2.2.2.2.1 s.2.2.2.2.2.1 s.2.2.2.2.2.2.1 s.2.2.2.2.2.2.2.1 s.2.2.2.2.2.2.2.2.1 s.2.2.2.2.2.2.2.2.2.1 s.2.2.2.2.2.2.2.2.2.2.1 s.2.2.2.2.2.2.2.2.2.2.2.1 s.2.2.2.2.2.2.2.2.2.2.2.2.1 s.2.2.2.2.2.2.2.2.2.2.2.2.2) (fun s => I s.1 s.2.1 s.2.2.1 s.2.2.2.1 s.2.2.2.2.1 s.2.2.2.2.2.1 s.2.2.2.2.2.2.1 s.2.2.2.2.2.2.2.1 s.2.2.2.2.2.2.2.2.1 s.2.2.2.2.2.2.2.2.2.1 s.2.2.2.2.2.2.2.2.2.2.1 s.2.2.2.2.2.2.2.2.2.2.2.1 s.2.2.2.2.2.2.2.2.2.2.2.2.1 s.2.2.2.2.2.2.2.2.2.2.2.2.2) (fun s => μ s.1 s.2.1 s.2.2.1 s.2.2.2.1 s.2.2.2.2.1 s.2.2.2.2.2.1 s.2.2.2.2.2.2.1 s.2.2.2.2.2.2.2.1 s.2.2.2.2.2.2.2.2.1 s.2.2.2.2.2.2.2.2.2.1 s.2.2.2.2.2.2.2.2.2.2.1 s.2.2.2.2.2.2.2.2.2.2.2.1 s.2.2.2.2.2.2.2.2.2.2.2.2.1 s.2.2.2.2.2.2.2.2.2.2.2.2.2) (fun n s hI hk => hs n s.1 s.2.1 s.2.2.1 s.2.2.2.1 s.2.2.2.2.1 s.2.2.2.2.2.1 s.2.2.2.2.2.2.1 s.2.2.2.2.2.2.2.1 s.2.2.2.2.2.2.2.2.1 s.2.2.2.2.2.2.2.2.2.1 s.2.2.2.2.2.2.2.2.2.2.1 s.2.2.2.2.2.2.2.2.2.2.2.1 s.2.2.2.2.2.2.2.2.2.2.2.2.1 s.2.2.2.2.2.2.2.2.2.2.2.2.2 hI (fun b1 b2 b3 b4 b5 b6 b7 b8 b9 b10 b11 b12 b13 b14 h9 hm => hk (b1, b2, b3, b4, b5, b6, b7, b8, b9, b10, b11, b12, b13, b14) h9 hm)) (a1, a2, a3, a4, a5, a6, a7, a8, a9, a10, a11, a12, a13, a14) h
theorem lp15 {A1 A2 A3 A4 A5 A6 A7 A8 A9 A10 A11 A12 A13 A14 A15 : Type} (W : Nat → A1 → A2 → A3 → A4 → A5 → A6 → A7 → A8 → A9 → A10 → A11 → A12 → A13 → A14 → A15 → Prop) (I : A1 → A2 → A3 → A4 → A5 → A6 → A7 → A8 → A9 → A10 → A11 → A12 → A13 → A14 → A15 → Prop) (μ : A1 → A2 → A3 → A4 → A5 → A6 → A7 → A8 → A9 → A10 → A11 → A12 → A13 → A14 → A15 → Nat) (hs : ∀ (n : Nat) (a1 : A1) (a2 : A2) (a3 : A3) (a4 : A4) (a5 : A5) (a6 : A6) (a7 : A7) (a8 : A8) (a9 : A9) (a10 : A10) (a11 : A11) (a12 : A12) (a13 : A13) (a14 : A14) (a15 : A15), I a1 a2 a3 a4 a5 a6 a7 a8 a9 a10 a11 a12 a13 a14 a15 → (∀ (b1 : A1) (b2 : A2) (b3 : A3) (b4 : A4) (b5 : A5) (b6 : A6) (b7 : A7) (b8 : A8) (b9 : A9) (b10 : A10) (b11 : A11) (b12 : A12) (b13 : A13) (b14 : A14) (b15 : A15), I b1 b2 b3 b4 b5 b6 b7 b8 b9 b10 b11 b12 b13 b14 b15 → μ b1 b2 b3 b4 b5 b6 b7 b8 b9 b10 b11 b12 b13 b14 b15 < μ a1 a2 a3 a4 a5 a6 a7 a8 a9 a10 a11 a12 a13 a14 a15 → W n b1 b2 b3 b4 b5 b6 b7 b8 b9 b10 b11 b12 b13 b14 b15) → W (n + 1) a1 a2 a3 a4 a5 a6 a7 a8 a9 a10 a11 a12 a13 a14 a15) (a1 : A1) (a2 : A2) (a3 : A3) (a4 : A4) (a5 : A5) (a6 : A6) (a7 : A7) (a8 : A8) (a9 : A9) (a10 : A10) (a11 : A11) (a12 : A12) (a13 : A13) (a14 : A14) (a15 : A15) (h : I a1 a2 a3 a4 a5 a6 a7 a8 a9 a10 a11 a12 a13 a14 a15) : ∃ n, W n a1 a2 a3 a4 a5 a6 a7 a8 a9 a10 a11 a12 a13 a14 a15 :=
  loop_m (σ := A1 × A2 × A3 × A4 × A5 × A6 × A7 × A8 × A9 × A10 × A11 × A12 × A13 × A14 × A15) (fun n s => W n s.1 s.2.1 s.2.2.1 s.2.2.2.1 s.2.2.2.2.1 s.2.2.2.2.2.1 s.2.2.2.2.2.2.1 s.2.2.2.2.2.2.2.1 s.2.2.2.2.2.2.2.2.1 s.2.2.2.2.2.2.2.2.2.1 s.2.2.2.2.2.2.2.2.2.2.1 s.2.2.2.2.2.2.2.2.2.2.2.1 s.2.2.2.2.2.2.2.2.2.2.2.2.1 s.2.2.2.2.2.2.2.2.2.2.2.2.2.1 s.2.2.2.2.2.2.2.2.2.2.2.2.2.2) (fun s => I s.1 s.2.1 s.2.2.1 s.2.2.2.1 s.2.2.2.2.1 s.2.2.2.2.2.1 s.2.2.2.2.2.2.1 s.2.2.2.2.2.2.2.1 s.2.2.2.2.2.2.2.2.1 s.2.2.2.2.2.2.2.2.2.1 s.2.2.2.2.2.2.2.2.2.2.1 s.2.2.2.2.2.2.2.2.2.2.2.1 s.2.2.2.2.2.2.2.2.2.2.2.2.1 s.2.2.2.2.2.2.2.2.2.2.2.2.2.1 s.2.2.2.2.2.2.2.2.2.2.2.2.2.2) (fun s => μ s.1 s.2.1 s.2.2.1 s.2.2.2.1 s.2.2.2.2.1 s.2.2.2.2.2.1 s.2.2.2.2.2.2.1 s.2.2.2.2.2.2.2.1 s.2.2.2.2.2.2.2.2.1 s.2.2.2.2.2.2.2.2.2.1 s.2.2.2.2.2.2.2.2.2.2.1 s.2.2.2.2.2.2.2.2.2.2.2.1 s.2.2.2.2.2.2.2.2.2.2.2.2.1 s.2.2.2.2.2.2.2.2.2.2.2.2.2.1 s.2.2.2.2.2.2.2.2.2.2.2.2.2.2) (fun n s hI hk => hs n s.1 s.2.1 s.2.2.1 s.2.2.2.1 s.2.2.2.2.1 s.2.2.2.2.2.1 s.2.2.2.2.2.2.1 s.2.2.2.2.2.2.2.1 s.2.2.2.2.2.2.2.2.1 s.2.2.2.2.2.2.2.2.2.1 s.2.2.2.2.2.2.2.2.2.2.1 s.2.2.2.2.2.2.2.2.2.2.2.1 s.2.2.2.2.2.2.2.2.2.2.2.2.1 s.2.2.2.2.2.2.2.2.2.2.2.2.2.1 s.2.2.2.2.2.2.2.2.2.2.2.2.2.2 hI (fun b1 b2 b3 b4 b5 b6 b7 b8 b9 b10 b11 b12 b13 b14 b15 h9 hm => hk (b1, b2, b3, b4, b5, b6, b7, b8, b9, b10, b11, b12, b13, b14, b15) h9 hm)) (a1, a2, a3, a4, a5, a6, a7, a8, a9, a10, a11, a12, a13, a14, a15) h
theorem lp16 {A1 A2 A3 A4 A5 A6 A7 A8 A9 A10 A11 A12 A13 A14 A15 A16 : Type} (W : Nat → A1 → A2 → A3 → A4 → A5 → A6 → A7 → A8 → A9 → A10 → A11 → A12 → A13 → A14 → A15 → A16 → Prop) (I : A1 → A2 → A3 → A4 → A5 → A6 → A7 → A8 → A9 → A10 → A11 → A12 → A13 → A14 → A15 → A16 → Prop) (μ : A1 → A2 → A3 → A4 → A5 → A6 → A7 → A8 → A9 → A10 → A11 → A12 → A13 → A14 → A15 → A16 → Nat) (hs : ∀ (n : Nat) (a1 : A1) (a2 : A2) (a3 : A3) (a4 : A4) (a5 : A5) (a6 : A6) (a7 : A7) (a8 : A8) (a9 : A9) (a10 : A10) (a11 : A11) (a12 : A12) (a13 : A13) (a14 : A14) (a15 : A15) (a16 : A16), I a1 a2 a3 a4 a5 a6 a7 a8 a9 a10 a11 a12 a13 a14 a15 a16 → (∀ (b1 : A1) (b2 : A2) (b3 : A3) (b4 : A4) (b5 : A5) (b6 : A6) (b7 : A7) (b8 : A8) (b9 : A9) (b10 : A10) (b11 : A11) (b12 : A12) (b13 : A13) (b14 : A14) (b15 : A15) (b16 : A16), I b1 b2 b3 b4 b5 b6 b7 b8 b9 b10 b11 b12 b13 b14 b15 b16 → μ b1 b2 b3 b4 b5 b6 b7 b8 b9 b10 b11 b12 b13 b14 b15 b16 < μ a1 a2 a3 a4 a5 a6 a7 a8 a9 a10 a11 a12 a13 a14 a15 a16 → W n b1 b2 b3 b4 b5 b6 b7 b8 b9 b10 b11 b12 b13 b14 b15 b16) → W (n + 1) a1 a2 a3 a4 a5 a6 a7 a8 a9 a10 a11 a12 a13 a14 a15 a16) (a1 : A1) (a2 : A2) (a3 : A3) (a4 : A4) (a5 : A5) (a6 : A6) (a7 : A7) (a8 : A8) (a9 : A9) (a10 : A10) (a11 : A11) (a12 : A12) (a13 : A13) (a14 : A14) (a15 : A15) (a16 : A16) (h : I a1 a2 a3 a4 a5 a6 a7 a8 a9 a10 a11 a12 a13 a14 a15 a16) : ∃ n, W n a1 a2 a3 a4 a5 a6 a7 a8 a9 a10 a11 a12 a13 a14 a15 a16 :=
  loop_m (σ := A1 × A2 × A3 × A4 × A5 × A6 × A7 × A8 × A9 × A10 × A11 × A12 × A13 × A14 × A15 × A16) (fun n s => W n s.1 s.2.1 s.2.2.1 s.2.2.2.1 s.2.2.2.2.1 s.2.2.2.2.2.1 s.2.2.2.2.2.2.1 s.2.2.2.2.2.2.2.1 s.2.2.2.2.2.2.2.2.1 s.2.2.2.2.2.2.2.2.2.1 s.2.2.2.2.2.2.2.2.2.2.1 s.2.2.2.2.2.2.2.2.2.2.2.1 s.2.2.2.2.2.2.2.2.2.2.2.2.1 s.2.2.2.2.2.2.2.2.2.2.2.2.2.1 s.2.2.2.2.2.2.2.2.2.2.2.2.2.2.1 s.2.2.2.2.2.2.2.2.2.2.2.2.2.2.2) (fun s => I s.1 s.2.1 s.2.2.1 s.2.2.2.1 s.2.2.2.2.1 s.2.2.2.2.2.1 s.2.2.2.2.2.2.1 s.2.2.2.2.2.2.2.1 s.2.2.2.2.2.2.2.2.1 s.2.2.2.2.2.2.2.2.2.1 s.2.2.2.2.2.2.2.2.2.2.1 s.2.2.2.2.2.2.2.2.2.2.2.1 s.2.2.2.2.2.2.2.2.2.2.2.2.1 s.2.2.2.2.2.2.2.2.2.2.2.2.2.1 s.2.2.2.2.2.2.2.2.2.2.2.2.2.2.1 s.2.2.2.2.2.2.2.2.2.2.2.2.2.2.2) (fun s => μ s.1 s.2.1 s.2.2.1 s.2.2.2.1 s.2.2.2.2.1 s.2.2.2.2.2.1 s.2.2.2.2.2.2.1 s.2.2.2.2.2.2.2.1 s.2.2.2.2.2.2.2.2.1 s.2.2.2.2.2.2.2.2.2.1 s.2.2.2.2.2.2.2.2.2.2.1 s.2.2.2.2.2.2.2.2.2.2.2.1 s.2.2.2.2.2.2.2.2.2.2.2.2.1 s.2.2.2.2.2.2.2.2.2.2.2.2.2.1 s.2.2.2.2.2.2.2.2.2.2.2.2.2.2.1 s.2.2.2.2.2.2.2.2.2.2.2.2.2.2.2) (fun n s hI hk => hs n s.1 s.2.1 s.2.2.1 s.2.2.2.1 s.2.2.2.2.1 s.2.2.2.2.2.1 s.2.2.2.2.2.2.1 s.2.2.2.2.2.2.2.1 s.2.2.2.2.2.2.2.2.1 s.2.2.2.2.2.2.2.2.2.1 s.2.2.2.2.2.2.2.2.2.2.1 s.2.2.2.2.2.2.2.2.2.2.2.1 s.2.2.2.2.2.2.2.2.2.2.2.2.1 s.2.2.2.2.2.2.2.2.2.2.2.2.2.1 s.2.2.2.2.2.2.2.2.2.2.2.2.2.2.1 s.2.2.2.2.2.2.2.2.2.2.2.2.2.2.2 hI (fun b1 b2 b3 b4 b5 b6 b7 b8 b9 b10 b11 b12 b13 b14 b15 b16 h9 hm => hk (b1, b2, b3, b4, b5, b6, b7, b8, b9, b10, b11, b12, b13, b14, b15, b16) h9 hm)) (a1, a2, a3, a4, a5, a6, a7, a8, a9, a10, a11, a12, a13, a14, a15, a16) h
theorem pk_least (P : Nat → Prop) (h : ∃ k, P k) : ∃ k, P k ∧ ∀ j, j < k → ¬ P j := by
  obtain ⟨k, hk⟩ := h
  induction k using Nat.strongRecOn with
  | ind k ih =>
    by_cases e : ∃ j, j < k ∧ P j
    · obtain ⟨j, hj, pj⟩ := e
      exact ih j hj pj
    · exact ⟨k, hk, fun j hj pj => e ⟨j, hj, pj⟩⟩
theorem rp1 {ρ A1 : Type} (W : Nat → (ρ → Prop) → A1 → Prop) (ok : A1 → Prop) (μ : A1 → Nat) (val : A1 → ρ)
    (hs : ∀ (d : Nat) (post : ρ → Prop) (a1 : A1), ok a1 → post (val a1) → (∀ (post' : ρ → Prop) (b1 : A1), ok b1 → μ b1 < μ a1 → post' (val b1) → W d post' b1) → W (d + 1) post a1) :
    ∀ (d : Nat) (post : ρ → Prop) (a1 : A1), ok a1 → μ a1 < d → post (val a1) → W d post a1 := by
  intro d
  induction d with
  | zero => intro post a1 _ h; omega
  | succ d ih =>
    intro post a1 ho hm hp
    exact hs d post a1 ho hp (fun post' b1 ho' hm' hp' => ih post' b1 ho' (by omega) hp')
theorem rp2 {ρ A1 A2 : Type} (W : Nat → (ρ → Prop) → A1 → A2 → Prop) (ok : A1 → A2 → Prop) (μ : A1 → A2 → Nat) (val : A1 → A2 → ρ)
    (hs : ∀ (d : Nat) (post : ρ → Prop) (a1 : A1) (a2 : A2), ok a1 a2 → post (val a1 a2) → (∀ (post' : ρ → Prop) (b1 : A1) (b2 : A2), ok b1 b2 → μ b1 b2 < μ a1 a2 → post' (val b1 b2) → W d post' b1 b2) → W (d + 1) post a1 a2) :
    ∀ (d : Nat) (post : ρ → Prop) (a1 : A1) (a2 : A2), ok a1 a2 → μ a1 a2 < d → post (val a1 a2) → W d post a1 a2 := by
  intro d
  induction d with
  | zero => intro post a1 a2 _ h; omega
  | succ d ih =>
    intro post a1 a2 ho hm hp
    exact hs d post a1 a2 ho hp (fun post' b1 b2 ho' hm' hp' => ih post' b1 b2 ho' (by omega) hp')
theorem rp3 {ρ A1 A2 A3 : Type} (W : Nat → (ρ → Prop) → A1 → A2 → A3 → Prop) (ok : A1 → A2 → A3 → Prop) (μ : A1 → A2 → A3 → Nat) (val : A1 → A2 → A3 → ρ)
    (hs : ∀ (d : Nat) (post : ρ → Prop) (a1 : A1) (a2 : A2) (a3 : A3), ok a1 a2 a3 → post (val a1 a2 a3) → (∀ (post' : ρ → Prop) (b1 : A1) (b2 : A2) (b3 : A3), ok b1 b2 b3 → μ b1 b2 b3 < μ a1 a2 a3 → post' (val b1 b2 b3) → W d post' b1 b2 b3) → W (d + 1) post a1 a2 a3) :
    ∀ (d : Nat) (post : ρ → Prop) (a1 : A1) (a2 : A2) (a3 : A3), ok a1 a2 a3 → μ a1 a2 a3 < d → post (val a1 a2 a3) → W d post a1 a2 a3 := by
  intro d
  induction d with
  | zero => intro post a1 a2 a3 _ h; omega
  | succ d ih =>
    intro post a1 a2 a3 ho hm hp
    exact hs d post a1 a2 a3 ho hp (fun post' b1 b2 b3 ho' hm' hp' => ih post' b1 b2 b3 ho' (by omega) hp')
theorem rp4 {ρ A1 A2 A3 A4 : Type} (W : Nat → (ρ → Prop) → A1 → A2 → A3 → A4 → Prop) (ok : A1 → A2 → A3 → A4 → Prop) (μ : A1 → A2 → A3 → A4 → Nat) (val : A1 → A2 → A3 → A4 → ρ)
    (hs : ∀ (d : Nat) (post : ρ → Prop) (a1 : A1) (a2 : A2) (a3 : A3) (a4 : A4), ok a1 a2 a3 a4 → post (val a1 a2 a3 a4) → (∀ (post' : ρ → Prop) (b1 : A1) (b2 : A2) (b3 : A3) (b4 : A4), ok b1 b2 b3 b4 → μ b1 b2 b3 b4 < μ a1 a2 a3 a4 → post' (val b1 b2 b3 b4) → W d post' b1 b2 b3 b4) → W (d + 1) post a1 a2 a3 a4) :
    ∀ (d : Nat) (post : ρ → Prop) (a1 : A1) (a2 : A2) (a3 : A3) (a4 : A4), ok a1 a2 a3 a4 → μ a1 a2 a3 a4 < d → post (val a1 a2 a3 a4) → W d post a1 a2 a3 a4 := by
  intro d
  induction d with
  | zero => intro post a1 a2 a3 a4 _ h; omega
  | succ d ih =>
    intro post a1 a2 a3 a4 ho hm hp
    exact hs d post a1 a2 a3 a4 ho hp (fun post' b1 b2 b3 b4 ho' hm' hp' => ih post' b1 b2 b3 b4 ho' (by omega) hp')
theorem rp5 {ρ A1 A2 A3 A4 A5 : Type} (W : Nat → (ρ → Prop) → A1 → A2 → A3 → A4 → A5 → Prop) (ok : A1 → A2 → A3 → A4 → A5 → Prop) (μ : A1 → A2 → A3 → A4 → A5 → Nat) (val : A1 → A2 → A3 → A4 → A5 → ρ)
    (hs : ∀ (d : Nat) (post : ρ → Prop) (a1 : A1) (a2 : A2) (a3 : A3) (a4 : A4) (a5 : A5), ok a1 a2 a3 a4 a5 → post (val a1 a2 a3 a4 a5) → (∀ (post' : ρ → Prop) (b1 : A1) (b2 : A2) (b3 : A3) (b4 : A4) (b5 : A5), ok b1 b2 b3 b4 b5 → μ b1 b2 b3 b4 b5 < μ a1 a2 a3 a4 a5 → post' (val b1 b2 b3 b4 b5) → W d post' b1 b2 b3 b4 b5) → W (d + 1) post a1 a2 a3 a4 a5) :
    ∀ (d : Nat) (post : ρ → Prop) (a1 : A1) (a2 : A2) (a3 : A3) (a4 : A4) (a5 : A5), ok a1 a2 a3 a4 a5 → μ a1 a2 a3 a4 a5 < d → post (val a1 a2 a3 a4 a5) → W d post a1 a2 a3 a4 a5 := by
  intro d
  induction d with
  | zero => intro post a1 a2 a3 a4 a5 _ h; omega
  | succ d ih =>
    intro post a1 a2 a3 a4 a5 ho hm hp
    exact hs d post a1 a2 a3 a4 a5 ho hp (fun post' b1 b2 b3 b4 b5 ho' hm' hp' => ih post' b1 b2 b3 b4 b5 ho' (by omega) hp')
theorem rp6 {ρ A1 A2 A3 A4 A5 A6 : Type} (W : Nat → (ρ → Prop) → A1 → A2 → A3 → A4 → A5 → A6 → Prop) (ok : A1 → A2 → A3 → A4 → A5 → A6 → Prop) (μ : A1 → A2 → A3 → A4 → A5 → A6 → Nat) (val : A1 → A2 → A3 → A4 → A5 → A6 → ρ)
    (hs : ∀ (d : Nat) (post : ρ → Prop) (a1 : A1) (a2 : A2) (a3 : A3) (a4 : A4) (a5 : A5) (a6 : A6), ok a1 a2 a3 a4 a5 a6 → post (val a1 a2 a3 a4 a5 a6) → (∀ (post' : ρ → Prop) (b1 : A1) (b2 : A2) (b3 : A3) (b4 : A4) (b5 : A5) (b6 : A6), ok b1 b2 b3 b4 b5 b6 → μ b1 b2 b3 b4 b5 b6 < μ a1 a2 a3 a4 a5 a6 → post' (val b1 b2 b3 b4 b5 b6) → W d post' b1 b2 b3 b4 b5 b6) → W (d + 1) post a1 a2 a3 a4 a5 a6) :
    ∀ (d : Nat) (post : ρ → Prop) (a1 : A1) (a2 : A2) (a3 : A3) (a4 : A4) (a5 : A5) (a6 : A6), ok a1 a2 a3 a4 a5 a6 → μ a1 a2 a3 a4 a5 a6 < d → post (val a1 a2 a3 a4 a5 a6) → W d post a1 a2 a3 a4 a5 a6 := by
  intro d
  induction d with
  | zero => intro post a1 a2 a3 a4 a5 a6 _ h; omega
  | succ d ih =>
    intro post a1 a2 a3 a4 a5 a6 ho hm hp
    exact hs d post a1 a2 a3 a4 a5 a6 ho hp (fun post' b1 b2 b3 b4 b5 b6 ho' hm' hp' => ih post' b1 b2 b3 b4 b5 b6 ho' (by omega) hp')
theorem rec_p {σ ρ : Type} (W : Nat → (ρ → Prop) → σ → Prop) (ok : σ → Prop) (μ : σ → Nat) (val : σ → ρ)
    (hs : ∀ d s post, ok s → post (val s) → (∀ s' post', ok s' → μ s' < μ s → post' (val s') → W d post' s') → W (d + 1) post s) :
    ∀ d s post, ok s → μ s < d → post (val s) → W d post s := by
  intro d
  induction d with
  | zero => intro s post _ h; omega
  | succ d ih =>
    intro s post ho hm hp
    exact hs d s post ho hp (fun s' post' ho' hm' hp' => ih s' post' ho' (by omega) hp')
theorem rec_q {σ ρ : Type} (W : Nat → (ρ → Prop) → σ → Prop) (ok : σ → Prop) (μ : σ → Nat) (Q : σ → ρ → Prop)
    (hs : ∀ d s post, ok s → (∀ r, Q s r → post r) → (∀ s' post', ok s' → μ s' < μ s → (∀ r, Q s' r → post' r) → W d post' s') → W (d + 1) post s) :
    ∀ d s post, ok s → μ s < d → (∀ r, Q s r → post r) → W d post s := by
  intro d
  induction d with
  | zero => intro s post _ h; omega
  | succ d ih =>
    intro s post ho hm hp
    exact hs d s post ho hp (fun s' post' ho' hm' hp' => ih s' post' ho' (by omega) hp')
def bx_sum (f : Nat → Int32) : Nat → Int32
  | 0 => 0
  | n + 1 => bx_sum f n + f n
theorem ek_u {A : Prop} {B : Nat → Prop} {k N : Nat} (hk : k < N) (h : B k) : (some k = none → A) ∧ (∀ y : Nat, some k = some y → (y < N ∧ B y)) :=
  ⟨fun z => absurd z (Option.some_ne_none k), fun _ e => (by cases e; exact ⟨hk, h⟩)⟩
theorem ek_nu {A : Prop} {B : Nat → Prop} (h : A) : ((none : Option Nat) = none → A) ∧ (∀ y : Nat, (none : Option Nat) = some y → B y) :=
  ⟨fun _ => h, fun _ e => (by cases e)⟩
theorem ek_if {c d A B : Prop} (e : c ↔ d) (f : d → A) (g : ¬ d → B) : (c → A) ∧ (¬ c → B) :=
  ⟨fun z => f (e.mp z), fun z => g (fun y => z (e.mpr y))⟩
theorem ek_v {α : Sort _} {P : α → Prop} {a b : α} (e : a = b) (h : P b) : P a := e ▸ h
theorem co_some {x : Option Nat} {A : Prop} {B : Nat → Prop} (i : Nat) (h : B i) (hx : x = some i := by rfl) : (x = none → A) ∧ (∀ y : Nat, x = some y → B y) := by
  subst hx
  exact ⟨fun e => (nomatch e), fun y e => Option.some.inj e ▸ h⟩
theorem co_none {x : Option Nat} {A : Prop} {B : Nat → Prop} (h : A) (hx : x = none := by rfl) : (x = none → A) ∧ (∀ y : Nat, x = some y → B y) := by
  subst hx
  exact ⟨fun _ => h, fun y e => (nomatch e)⟩
theorem co_any {x : Option Nat} {A : Prop} {B : Nat → Prop} (hn : x = none → A) (hs : ∀ i : Nat, x = some i → B i) : (x = none → A) ∧ (∀ y : Nat, x = some y → B y) := ⟨hn, hs⟩
theorem co_2 {P : Nat → Prop} (h0 : P 0) (h1 : P 1) {i : Nat} (hi : i < 2) : P i :=
  match i, hi with
  | 0, _ => h0
  | 1, _ => h1
theorem co_3 {P : Nat → Prop} (h0 : P 0) (h1 : P 1) (h2 : P 2) {i : Nat} (hi : i < 3) : P i :=
  match i, hi with
  | 0, _ => h0
  | 1, _ => h1
  | 2, _ => h2
theorem co_4 {P : Nat → Prop} (h0 : P 0) (h1 : P 1) (h2 : P 2) (h3 : P 3) {i : Nat} (hi : i < 4) : P i :=
  match i, hi with
  | 0, _ => h0
  | 1, _ => h1
  | 2, _ => h2
  | 3, _ => h3
theorem co_dec {N : Nat} {P : Nat → Prop} [DecidablePred P] (h : (List.range N).all (fun i => decide (P i)) = true) {i : Nat} (hi : i < N) : P i := by
  have := List.all_eq_true.mp h i (List.mem_range.mpr hi)
  exact of_decide_eq_true this
theorem co_tab {α : Type} {l : List α} {d : α} {P : α → Prop} (h : ∀ a, a ∈ l → P a) {i : Nat} (hi : i < l.length) : P (l.getD i d) := by
  rw [List.getD_eq_getElem?_getD, List.getElem?_eq_getElem hi]
  exact h _ (List.getElem_mem hi)
theorem pk_mu {x : Int32} {L : Nat} (h0 : ¬ x < 0) (h : ¬ nI L ≤ x) (hL : L < 2 ^ 31) : ∃ j : Nat, j < L ∧ x = nI j ∧ x + 1 = nI (j + 1) ∧ x.toNatClampNeg = j ∧ L - (x + 1).toNatClampNeg < L - x.toNatClampNeg := by
  obtain ⟨j, hj, rfl⟩ := nI_of h0
  have hl : j < L := Nat.not_le.mp fun q => h (nI_le q hj)
  refine ⟨j, hl, rfl, nI_1 j, nI_clamp hj, ?_⟩
  rw [nI_1, nI_clamp (by omega), nI_clamp hj]
  omega
theorem op_s {α : Type} {r : Option α} {A : Prop} {B : α → Prop} {y : α} (h : r = some y) (b : B y) : (r = none → A) ∧ ∀ z, r = some z → B z :=
  ⟨fun e => (by rw [h] at e; cases e), fun z e => (by rw [h] at e; cases e; exact b)⟩
def l_holds {α : Type} (a : Nat → Option Nat) (LP : List Nat) (p : Nat → α) (c : Nat) (b : Nat → α) : Prop :=
  ∀ j, j < c → ∃ y, a j = some y ∧ y ∈ LP ∧ p y = b j
theorem l_holds_0 {α : Type} {a : Nat → Option Nat} {LP : List Nat} {p b : Nat → α} : l_holds a LP p 0 b := fun j h => absurd h (Nat.not_lt_zero j)
theorem l_in_new (LP : List Nat) (q : Nat) : q ∈ LP ++ [q] := List.mem_append.mpr (Or.inr (List.mem_singleton.mpr rfl))
def l_sum (b : Nat → Int32) : Nat → Int32
  | 0 => 0
  | k + 1 => l_sum b k + b k
theorem sb_shr0 (x : Int32) : x >>> ((0 : Int32) &&& 31) = x := by
  rw [show ((0 : Int32) &&& 31) = 0 by decide]
  simp
theorem sb_shl0 (x : Int32) : x <<< ((0 : Int32) &&& 31) = x := by
  rw [show ((0 : Int32) &&& 31) = 0 by decide]
  simp
theorem sb_cl0 : (0 : Int32).toNatClampNeg = 0 := by decide
theorem sb_m1 {p : Nat} (h : 0 < p) : nI p + (-1) = nI (p - 1) := by
  obtain ⟨q, rfl⟩ : ∃ q, p = q + 1 := ⟨p - 1, by omega⟩
  exact pk_m1 q
def sb_b (c : Nat) : Int32 := (nI c).toInt8.toInt32
theorem sb_byte : ∀ c, c < 256 → sb_b c &&& 255 = nI c ∧ ((nI c).toUInt32 % 65536).toInt32 = nI c ∧ nI c ≤ 255 := by decide +kernel
def sb_Fit (a : Nat → Int32) : Prop := ∀ j, fits .byte (.int (a j)) = true
def sb_Lat (t : Nat → Nat) (n : Nat) (a : Nat → Int32) : Prop := ∀ j, j < n → t j < 256 ∧ a j = sb_b (t j)
theorem sb_fitB (c : Nat) : fits .byte (.int (sb_b c)) = true := pk_fb _
theorem sb_fit0 : sb_Fit (fun _ => 0) := fun _ => by
  show fits .byte (.int 0) = true
  decide
theorem sb_fitU {a : Nat → Int32} {k : Nat} {x : Int32} (h : sb_Fit a) (hx : fits .byte (.int x) = true) : sb_Fit (upd a k x) := by
  intro j
  by_cases e : j = k
  · subst e
    rw [pk_us]
    exact hx
  · rw [pk_un e]
    exact h j
def sb_cat (t : Nat → Nat) (n : Nat) (s : Nat → Nat) : Nat → Nat := fun j => if j < n then t j else s (j - n)
theorem sb_cat_lo {t s : Nat → Nat} {n j : Nat} (h : j < n) : sb_cat t n s j = t j := if_pos h
theorem sb_cat_hi {t s : Nat → Nat} {n j : Nat} : sb_cat t n s (n + j) = s j := by
  show (if n + j < n then t (n + j) else s (n + j - n)) = s j
  rw [if_neg (by omega), Nat.add_sub_cancel_left]
theorem sb_latPut {t s : Nat → Nat} {n w : Nat} {a a' : Nat → Int32} (h : sb_Lat t n a) (hk : ∀ j, j < n → a' j = a j) (hs : ∀ i, i < w → s i < 256 ∧ a' (n + i) = sb_b (s i)) : sb_Lat (sb_cat t n s) (n + w) a' := by
  intro j hj
  by_cases e : j < n
  · rw [sb_cat_lo e, hk j e]
    exact h j e
  · obtain ⟨i, rfl⟩ : ∃ i, j = n + i := ⟨j - n, by omega⟩
    rw [sb_cat_hi]
    exact hs i (by omega)
theorem sb_latKeep {t : Nat → Nat} {n : Nat} {a a' : Nat → Int32} (h : sb_Lat t n a) (hk : ∀ j, j < n → a' j = a j) : sb_Lat t n a' := fun j hj => by
  rw [hk j hj]
  exact h j hj
def sb_cap (q m : Nat) : Nat := if q ≤ m then m else if 2 * m + 2 < q then q else 2 * m + 2
def sb_Room (q m mc ms : Nat) : Prop := q ≤ m ∨ (1 ≤ mc ∧ sb_cap q m ≤ ms ∧ sb_cap q m ≤ 65536)
theorem sb_cap_ge (q m : Nat) : q ≤ sb_cap q m := by
  unfold sb_cap
  split
  · omega
  · split <;> omega
theorem sb_cap_gem (q m : Nat) : m ≤ sb_cap q m := by
  unfold sb_cap
  split
  · omega
  · split <;> omega
theorem sb_cap_le {q m mc ms : Nat} (hm : m ≤ 65536) (hr : sb_Room q m mc ms) : sb_cap q m ≤ 65536 := by
  rcases hr with h | h
  · rw [sb_cap, if_pos h]
    exact hm
  · exact h.2.2
theorem sb_at {P : Int32 → Prop} {x y : Int32} (e : x = y) (h : P y) : P x := e ▸ h
def sb_dg (w : Nat) : Nat := if w < 10 then 1 else if w < 100 then 2 else if w < 1000 then 3 else if w < 10000 then 4 else if w < 100000 then 5 else if w < 1000000 then 6 else if w < 10000000 then 7 else if w < 100000000 then 8 else if w < 1000000000 then 9 else 10
def sb_dec (v : Nat) : Nat → Nat := fun i => 48 + v / 10 ^ (sb_dg v - 1 - i) % 10
theorem sb_dg_in (w : Nat) : 1 ≤ sb_dg w ∧ sb_dg w ≤ 10 := by
  unfold sb_dg
  constructor <;> (repeat' split) <;> omega
theorem sb_dg100 {w : Nat} (h : 100 ≤ w) (hw : w < 2 ^ 31) : sb_dg w = sb_dg (w / 100) + 2 := by
  rw [sb_dg, sb_dg, if_neg (show ¬ w < 10 by omega), if_neg (show ¬ w < 100 by omega)]
  by_cases h3 : w < 1000
  · rw [if_pos h3, if_pos (show w / 100 < 10 by omega)]
  rw [if_neg h3, if_neg (show ¬ w / 100 < 10 by omega)]
  by_cases h4 : w < 10000
  · rw [if_pos h4, if_pos (show w / 100 < 100 by omega)]
  rw [if_neg h4, if_neg (show ¬ w / 100 < 100 by omega)]
  by_cases h5 : w < 100000
  · rw [if_pos h5, if_pos (show w / 100 < 1000 by omega)]
  rw [if_neg h5, if_neg (show ¬ w / 100 < 1000 by omega)]
  by_cases h6 : w < 1000000
  · rw [if_pos h6, if_pos (show w / 100 < 10000 by omega)]
  rw [if_neg h6, if_neg (show ¬ w / 100 < 10000 by omega)]
  by_cases h7 : w < 10000000
  · rw [if_pos h7, if_pos (show w / 100 < 100000 by omega)]
  rw [if_neg h7, if_neg (show ¬ w / 100 < 100000 by omega)]
  by_cases h8 : w < 100000000
  · rw [if_pos h8, if_pos (show w / 100 < 1000000 by omega)]
  rw [if_neg h8, if_neg (show ¬ w / 100 < 1000000 by omega)]
  by_cases h9 : w < 1000000000
  · rw [if_pos h9, if_pos (show w / 100 < 10000000 by omega)]
  rw [if_neg h9, if_neg (show ¬ w / 100 < 10000000 by omega)]
  rw [if_pos (show w / 100 < 100000000 by omega)]
theorem sb_negT {w : Nat} (h : w < 2 ^ 31) : (-nI w).toInt = -(w : Int) := by
  rw [Int32.toInt_neg, nI_toInt h]
  exact Int.bmod_eq_of_le (by omega) (by omega)
theorem sb_nle {a b : Nat} (ha : a < 2 ^ 31) (hb : b < 2 ^ 31) : -nI a ≤ -nI b ↔ b ≤ a := by
  rw [Int32.le_iff_toInt_le, sb_negT ha, sb_negT hb]
  omega
theorem sb_nlt {a b : Nat} (ha : a < 2 ^ 31) (hb : b < 2 ^ 31) : -nI a < -nI b ↔ b < a := by
  rw [Int32.lt_iff_toInt_lt, sb_negT ha, sb_negT hb]
  omega
theorem sb_cmp {A B : Prop} {x : Int32} (v c : Nat) (f : c ≤ v → A) (g : v < c → B) (hv : v < 2 ^ 31) (hx : x = -nI c := by rfl) (hc : c < 2 ^ 31 := by omega) : (-nI v ≤ x → A) ∧ (¬ -nI v ≤ x → B) := by
  subst hx
  rw [sb_nle hv hc]
  exact ⟨f, fun z => g (by omega)⟩
theorem sb_ndiv {w : Nat} (hw : w < 2 ^ 31) : (-nI w) / 100 = -nI (w / 100) := by
  apply Int32.toInt_inj.mp
  have h100 : (100 : Int32).toInt = 100 := by decide
  rw [Int32.toInt_div, sb_negT hw, h100, sb_negT (by omega), Int.neg_tdiv, Int.tdiv_eq_ediv_of_nonneg (by omega), Int.bmod_eq_of_le (by omega) (by omega)]
  omega
theorem sb_nrem {w : Nat} (hw : w < 2 ^ 31) : (-nI (w / 100)) * 100 - (-nI w) = nI (w % 100) := by
  have h := pk_rem (a := w) (d := 100) hw (by decide) (by decide)
  rw [pk_div hw (by decide) (by decide)] at h
  rw [← h]
  show (-nI (w / 100)) * nI 100 - (-nI w) = nI w - nI (w / 100) * nI 100
  rw [Int32.neg_mul, Int32.sub_neg, Int32.add_comm, ← Int32.sub_eq_add_neg]
end
section
/-! rows on bits, shifts and unsigned numbers, to paste: each family out of a closed proof of our own, whole with what it rests on; each by itself clean at Lean in its own claim (generation 39, form 5). Take a family whole -/
/-! ===== Int32 by its bits: bt x i ===== -/
def bt (x : Int32) (i : Nat) : Bool := x.toBitVec.getLsbD i
theorem b_ext {x y : Int32} (h : ∀ i, i < 32 → bt x i = bt y i) : x = y := Int32.toBitVec_inj.mp (BitVec.eq_of_getLsbD_eq (fun i hi => h i hi))
theorem b_or (x y : Int32) (i : Nat) : bt (x ||| y) i = (bt x i || bt y i) := by unfold bt; rw [Int32.toBitVec_or, BitVec.getLsbD_or]
theorem b_and (x y : Int32) (i : Nat) : bt (x &&& y) i = (bt x i && bt y i) := by unfold bt; rw [Int32.toBitVec_and, BitVec.getLsbD_and]
theorem b_xor (x y : Int32) (i : Nat) : bt (x ^^^ y) i = (bt x i ^^ bt y i) := by unfold bt; rw [Int32.toBitVec_xor, BitVec.getLsbD_xor]
theorem b_big {x : Int32} {i : Nat} (h : 32 ≤ i) : bt x i = false := BitVec.getLsbD_of_ge _ _ h
theorem b_255 (i : Nat) : bt 255 i = decide (i < 8) := by
  rcases Nat.lt_or_ge i 32 with h | h
  · exact (by decide +kernel : ∀ i, i < 32 → bt 255 i = decide (i < 8)) i h
  · rw [b_big h, decide_eq_false (by omega)]
theorem b_65535 (i : Nat) : bt 65535 i = decide (i < 16) := by
  rcases Nat.lt_or_ge i 32 with h | h
  · exact (by decide +kernel : ∀ i, i < 32 → bt 65535 i = decide (i < 16)) i h
  · rw [b_big h, decide_eq_false (by omega)]
theorem b_m1 : ∀ i, i < 32 → bt (-1) i = true := by decide +kernel
theorem b_0 (i : Nat) : bt 0 i = false := BitVec.getLsbD_zero
theorem s_l : ∀ n, n < 32 → ((nI n &&& 31).toBitVec.smod 32).toNat = n := by decide +kernel
theorem s_u : ∀ n, n < 32 → (((nI n).toUInt32 &&& Int32.toUInt32 31).toBitVec % 32).toNat = n := by decide +kernel
theorem b_shl (n : Nat) (hn : n < 32) (x : Int32) {i : Nat} (hi : i < 32) : bt (x <<< (nI n &&& 31)) i = (decide (n ≤ i) && bt x (i - n)) := by
  unfold bt
  rw [Int32.toBitVec_shiftLeft]
  show (x.toBitVec <<< ((nI n &&& 31).toBitVec.smod 32).toNat).getLsbD i = _
  rw [s_l n hn, BitVec.getLsbD_shiftLeft]
  rcases Nat.lt_or_ge i n with h | h
  · simp [h, Nat.not_le.mpr h]
  · simp [hi, h, Nat.not_lt.mpr h]
theorem b_ushr (n : Nat) (hn : n < 32) (x : Int32) (i : Nat) : bt ((x.toUInt32 >>> ((nI n).toUInt32 &&& Int32.toUInt32 31)).toInt32) i = bt x (n + i) := by
  show (x.toUInt32 >>> ((nI n).toUInt32 &&& Int32.toUInt32 31)).toBitVec.getLsbD i = x.toUInt32.toBitVec.getLsbD (n + i)
  rw [UInt32.toBitVec_shiftRight]
  show (x.toUInt32.toBitVec >>> (((nI n).toUInt32 &&& Int32.toUInt32 31).toBitVec % 32).toNat).getLsbD i = _
  rw [s_u n hn, BitVec.getLsbD_ushiftRight]
theorem b_sshr (n : Nat) (hn : n < 32) (x : Int32) {i : Nat} (hi : i < 32) : bt (x >>> (nI n &&& 31)) i = if n + i < 32 then bt x (n + i) else bt x 31 := by
  unfold bt
  rw [Int32.toBitVec_shiftRight]
  show (x.toBitVec.sshiftRight ((nI n &&& 31).toBitVec.smod 32).toNat).getLsbD i = _
  rw [s_l n hn, BitVec.getLsbD_sshiftRight, BitVec.msb_eq_getLsbD_last]
  simp [hi]
theorem b_shl8 (x : Int32) {i : Nat} (hi : i < 32) : bt (x <<< ((8 : Int32) &&& 31)) i = (decide (8 ≤ i) && bt x (i - 8)) := b_shl 8 (by omega) x hi
theorem b_shl16 (x : Int32) {i : Nat} (hi : i < 32) : bt (x <<< ((16 : Int32) &&& 31)) i = (decide (16 ≤ i) && bt x (i - 16)) := b_shl 16 (by omega) x hi
theorem b_shl24 (x : Int32) {i : Nat} (hi : i < 32) : bt (x <<< ((24 : Int32) &&& 31)) i = (decide (24 ≤ i) && bt x (i - 24)) := b_shl 24 (by omega) x hi
theorem b_sshr8 (x : Int32) {i : Nat} (hi : i < 32) : bt (x >>> ((8 : Int32) &&& 31)) i = if 8 + i < 32 then bt x (8 + i) else bt x 31 := b_sshr 8 (by omega) x hi
/-! ===== nI under and, xor, >>>, one bit, 65535 ===== -/
theorem nx_and (a b : Nat) : nI a &&& nI b = nI (a &&& b) := by
  apply Int32.toBitVec_inj.1
  show BitVec.ofNat 32 a &&& BitVec.ofNat 32 b = BitVec.ofNat 32 (a &&& b)
  apply BitVec.eq_of_getLsbD_eq
  intro i hi
  simp [hi]
theorem nx_xor (a b : Nat) : nI a ^^^ nI b = nI (a ^^^ b) := by
  apply Int32.toBitVec_inj.1
  show BitVec.ofNat 32 a ^^^ BitVec.ofNat 32 b = BitVec.ofNat 32 (a ^^^ b)
  apply BitVec.eq_of_getLsbD_eq
  intro i hi
  simp [hi]
theorem nx_cnt : ∀ j : Fin 32, (UInt32.ofNat j.val &&& Int32.toUInt32 31).toNat % 32 = j.val := by decide +kernel
theorem nx_ush {k j : Nat} (hk : k < 65536) (hj : j < 32) : ((nI k).toUInt32 >>> ((nI j).toUInt32 &&& Int32.toUInt32 31)).toInt32 = nI (k >>> j) := by
  have hs : k >>> j ≤ k := by
    rw [Nat.shiftRight_eq_div_pow]
    exact Nat.div_le_self _ _
  have e2 : UInt32.ofNat k >>> (UInt32.ofNat j &&& Int32.toUInt32 31) = UInt32.ofNat (k >>> j) := by
    apply UInt32.toNat_inj.1
    have h1 : (UInt32.ofNat k).toNat = k := Nat.mod_eq_of_lt (by omega)
    have h2 : (UInt32.ofNat (k >>> j)).toNat = k >>> j := Nat.mod_eq_of_lt (by omega)
    rw [UInt32.toNat_shiftRight, nx_cnt ⟨j, hj⟩, h1, h2]
  show (UInt32.ofNat k >>> (UInt32.ofNat j &&& Int32.toUInt32 31)).toInt32 = _
  rw [e2]
  rfl
theorem nx_bit {k j : Nat} (hk : k < 65536) (hj : j < 16) : (((nI k).toUInt32 >>> ((nI j).toUInt32 &&& Int32.toUInt32 31)).toInt32 &&& 1) = 0 ↔ k.testBit j = false := by
  rw [nx_ush hk (by omega)]
  show nI (k >>> j) &&& nI 1 = 0 ↔ _
  rw [nx_and, Nat.and_one_is_mod, ← nI_0, nI_eq (by omega) (by omega), Nat.testBit_eq_decide_div_mod_eq, Nat.shiftRight_eq_div_pow, decide_eq_false_iff_not]
  generalize k / 2 ^ j = z
  omega
theorem nx_mod (k : Nat) : nI k &&& 65535 = nI (k % 65536) := by
  show nI k &&& nI 65535 = _
  rw [nx_and, show (65535 : Nat) = 2 ^ 16 - 1 from rfl, Nat.and_two_pow_sub_one_eq_mod]
theorem nx_m16 {k : Nat} (h : k < 65536) : nI k &&& 65535 = nI k := by rw [nx_mod, Nat.mod_eq_of_lt h]
theorem nx_mask (x : Int32) : ∃ k, k < 65536 ∧ x &&& 65535 = nI k := by
  have e : x = nI x.toBitVec.toNat := by
    apply Int32.toBitVec_inj.1
    show x.toBitVec = BitVec.ofNat 32 x.toBitVec.toNat
    simp
  refine ⟨x.toBitVec.toNat % 65536, Nat.mod_lt _ (by omega), ?_⟩
  rw [← nx_mod, ← e]
/-! ===== Int32 as a set of bits: test, set ===== -/
def nf_M (m : Int32) : Nat := 4294967296 - m.toBitVec.toNat
theorem nf_sh : ∀ l, l < 32 → ((1 : Int32) <<< (nI l &&& 31)).toBitVec = BitVec.twoPow 32 l := by decide +kernel
theorem nf_sl : ∀ l, l < 32 → (((nI l).toUInt32 &&& Int32.toUInt32 31).toBitVec % 32).toNat = l := by decide +kernel
theorem nf_tp : ∀ l, l < 32 → BitVec.twoPow 32 l ≠ 0#32 := by decide +kernel
theorem nf_bit (m : Int32) (l : Nat) (hl : l < 32) : ((m.toUInt32 >>> ((nI l).toUInt32 &&& Int32.toUInt32 31)).toInt32 &&& 1) = 0 ↔ (m &&& ((1 : Int32) <<< (nI l &&& 31))) = 0 := by
  have e : ((m.toUInt32 >>> ((nI l).toUInt32 &&& Int32.toUInt32 31)).toInt32).toBitVec = m.toBitVec >>> l := by
    show m.toBitVec >>> (((nI l).toUInt32 &&& Int32.toUInt32 31).toBitVec % 32) = m.toBitVec >>> l
    rw [BitVec.ushiftRight_eq', nf_sl l hl]
  rw [← Int32.toBitVec_inj, ← Int32.toBitVec_inj, Int32.toBitVec_and, Int32.toBitVec_and, nf_sh l hl, e, BitVec.and_twoPow]
  show (m.toBitVec >>> l &&& 1#32) = 0#32 ↔ _ = 0#32
  rw [BitVec.and_one_eq_setWidth_ofBool_getLsbD, BitVec.getLsbD_ushiftRight, Nat.add_zero]
  cases hb : m.toBitVec.getLsbD l
  · exact ⟨fun _ => by simp, fun _ => by decide⟩
  · exact ⟨fun z => absurd z (by decide), fun z => absurd ((if_pos rfl).symm.trans z) (nf_tp l hl)⟩
theorem nf_gr (m k : Int32) (h : m &&& k = 0) (hk : k ≠ 0) : nf_M (m ||| k) < nf_M m := by
  have hm := m.toBitVec.isLt
  have hm' := (m ||| k).toBitVec.isLt
  have h1 : m.toBitVec.toNat ≤ (m ||| k).toBitVec.toNat := by
    rw [Int32.toBitVec_or, BitVec.toNat_or]
    exact Nat.left_le_or
  have h2 : m.toBitVec.toNat ≠ (m ||| k).toBitVec.toNat := by
    intro e
    have e2 : m = m ||| k := Int32.toBitVec_inj.mp (BitVec.eq_of_toNat_eq e)
    apply hk
    apply Int32.toBitVec_inj.mp
    show k.toBitVec = 0#32
    apply BitVec.eq_of_getLsbD_eq
    intro i hi
    have a : m.toBitVec.getLsbD i = (m.toBitVec.getLsbD i || k.toBitVec.getLsbD i) := by rw [← BitVec.getLsbD_or, ← Int32.toBitVec_or, ← e2]
    have b : (m.toBitVec.getLsbD i && k.toBitVec.getLsbD i) = false := by
      rw [← BitVec.getLsbD_and, ← Int32.toBitVec_and, h]
      exact BitVec.getLsbD_zero
    rw [BitVec.getLsbD_zero]
    revert a b
    cases m.toBitVec.getLsbD i <;> cases k.toBitVec.getLsbD i <;> simp
  unfold nf_M
  omega
/-! ===== a byte read unsigned ===== -/
theorem bp_b (x : Int32) : x.toInt8.toInt32 &&& 255 = x &&& 255 := by
  apply Int32.toBitVec_inj.mp
  rw [Int32.toBitVec_and, Int32.toBitVec_and, Int8.toBitVec_toInt32, Int32.toBitVec_toInt8]
  apply BitVec.eq_of_getLsbD_eq
  intro i hi
  rw [BitVec.getLsbD_and, BitVec.getLsbD_and]
  have hm : ∀ i < 32, 8 ≤ i → (255 : Int32).toBitVec.getLsbD i = false := by decide
  rcases Nat.lt_or_ge i 8 with z | z
  · rw [BitVec.getLsbD_signExtend, BitVec.getLsbD_signExtend, if_pos z, if_pos hi]
    simp only [z, hi, decide_true, Bool.true_and]
  · rw [hm i hi z]; simp
/-! ===== the char cast and 65535 ===== -/
theorem em_w (v : Int32) : ∃ w : Nat, w < 65536 ∧ (v.toUInt32 % 65536).toInt32 = nI w ∧ v &&& 65535 = nI w := by
  have hr := lw_u16_r v
  have h0 : (0 : Int32).toInt = 0 := by decide
  obtain ⟨w, h1, h2⟩ := nI_of (x := lw_u16 v) (by rw [Int32.lt_iff_toInt_lt]; omega)
  have h3 : (v.toUInt32 % 65536).toInt32 = nI w := h2
  rw [h2, nI_toInt h1] at hr
  exact ⟨w, by omega, h3, by rw [← lg_i2c_mask, ← lg_i2c_nf, h3]⟩
/-! ===== Int64 as a set of bits: test, set, clear ===== -/
theorem ts_nf {x : Bool} (h : ¬ x = false) : x = true := by cases x <;> first | rfl | exact absurd rfl h
theorem ts_nt {x : Bool} (h : ¬ x = true) : x = false := by cases x <;> first | rfl | exact absurd rfl h
theorem ts_bit {w : Int64} {s : UInt64} {j : Nat} (hj : j < 64) (hs : s.toNat = j) : ((w.toUInt64 >>> s).toInt64 &&& 1) = 0 ↔ w.toBitVec.getLsbD j = false := by
  have e : (w.toUInt64 >>> s).toInt64.toBitVec = w.toBitVec >>> j := by
    apply BitVec.eq_of_toNat_eq
    show (w.toUInt64 >>> s).toNat = _
    rw [UInt64.toNat_shiftRight, hs, Nat.mod_eq_of_lt hj, BitVec.toNat_ushiftRight]
    rfl
  rw [← Int64.toBitVec_inj, Int64.toBitVec_and, e]
  show w.toBitVec >>> j &&& 1#64 = 0#64 ↔ _
  constructor
  · intro h
    have t := congrArg (fun x => x.getLsbD 0) h
    simpa using t
  · intro h
    apply BitVec.eq_of_getLsbD_eq
    intro i hi
    cases i with
    | zero => simp [h]
    | succ i => simp
theorem ts_or {w m : Int64} {j : Nat} (hj : j < 64) (hm : m.toBitVec = BitVec.twoPow 64 j) : (w ||| m) = w ↔ w.toBitVec.getLsbD j = true := by
  rw [← Int64.toBitVec_inj, Int64.toBitVec_or, hm]
  constructor
  · intro h
    have t := congrArg (fun x => x.getLsbD j) h
    simp only [BitVec.getLsbD_or, BitVec.getLsbD_twoPow] at t
    simpa [hj] using t.symm
  · intro h
    apply BitVec.eq_of_getLsbD_eq
    intro i hi
    rw [BitVec.getLsbD_or, BitVec.getLsbD_twoPow]
    by_cases e : j = i
    · subst e; rw [h, Bool.true_or]
    · simp [e]
theorem ts_and {w m : Int64} {j : Nat} (hj : j < 64) (hm : m.toBitVec = BitVec.twoPow 64 j) : (w &&& (m ^^^ (-1))) = w ↔ w.toBitVec.getLsbD j = false := by
  have ha : (-1 : Int64).toBitVec = BitVec.allOnes 64 := by decide
  rw [← Int64.toBitVec_inj, Int64.toBitVec_and, Int64.toBitVec_xor, hm, ha]
  constructor
  · intro h
    have t := congrArg (fun x => x.getLsbD j) h
    simp only [BitVec.getLsbD_and, BitVec.getLsbD_xor, BitVec.getLsbD_twoPow, BitVec.getLsbD_allOnes] at t
    simpa [hj] using t.symm
  · intro h
    apply BitVec.eq_of_getLsbD_eq
    intro i hi
    rw [BitVec.getLsbD_and, BitVec.getLsbD_xor, BitVec.getLsbD_twoPow, BitVec.getLsbD_allOnes]
    by_cases e : j = i
    · subst e; rw [h, Bool.false_and]
    · simp [e, hi]
/-! ===== lN n to 2^64: shifts, and, or, masks, one bit ===== -/
theorem wb_tb (n : Nat) : (lN n).toBitVec = BitVec.ofNat 64 n := rfl
theorem wb_inj {a b : Int64} (h : a.toBitVec = b.toBitVec) : a = b := Int64.toBitVec_inj.mp h
theorem wb_tn {n : Nat} (h : n < 2 ^ 64) : (lN n).toBitVec.toNat = n := by rw [wb_tb, BitVec.toNat_ofNat, Nat.mod_eq_of_lt h]
theorem wb_of (x : Int64) : ∃ n, n < 2 ^ 64 ∧ x = lN n := ⟨x.toBitVec.toNat, x.toBitVec.isLt, wb_inj (by rw [wb_tb]; simp)⟩
theorem wb_of32 (x : Int32) : ∃ n, n < 2 ^ 32 ∧ x = nI n := ⟨x.toBitVec.toNat, x.toBitVec.isLt, Int32.toBitVec_inj.mp (by show _ = BitVec.ofNat 32 _; simp)⟩
theorem wb_c : ∀ k, k < 64 → ((nI k).toInt64 &&& 63) = lN k := by decide +kernel
theorem wb_cu : ∀ k, k < 64 → ((nI k).toInt64.toUInt64 &&& Int64.toUInt64 63) = UInt64.ofNat k := by decide +kernel
theorem wb_sm : ∀ k, k < 64 → (BitVec.ofNat 64 k).smod 64 = BitVec.ofNat 64 k := by decide +kernel
theorem wb_pw {a b : Nat} (h : a ≤ b) : 2 ^ b = 2 ^ a * 2 ^ (b - a) := by rw [← Nat.pow_add]; congr 1; omega
theorem wb_lt2 {a b : Nat} (h : a < b) : 2 ^ a < 2 ^ b := Nat.pow_lt_pow_right (by decide) h
theorem wb_mod (n : Nat) : lN n = lN (n % 2 ^ 64) := wb_inj (by rw [wb_tb, wb_tb]; apply BitVec.eq_of_toNat_eq; rw [BitVec.toNat_ofNat, BitVec.toNat_ofNat, Nat.mod_mod])
theorem wb_shr {n k : Nat} (hn : n < 2 ^ 64) (hk : k < 64) : ((lN n).toUInt64 >>> ((nI k).toInt64.toUInt64 &&& Int64.toUInt64 63)).toInt64 = lN (n / 2 ^ k) := by
  rw [wb_cu k hk]
  apply wb_inj
  apply BitVec.eq_of_toNat_eq
  show ((lN n).toUInt64 >>> UInt64.ofNat k).toNat = (BitVec.ofNat 64 _).toNat
  have h1 : (UInt64.ofNat k).toNat = k := by
    show (BitVec.ofNat 64 k).toNat = k
    rw [BitVec.toNat_ofNat, Nat.mod_eq_of_lt (by omega)]
  have h2 : (lN n).toUInt64.toNat = n := wb_tn hn
  rw [UInt64.toNat_shiftRight, h1, h2, Nat.mod_eq_of_lt hk, Nat.shiftRight_eq_div_pow, BitVec.toNat_ofNat, Nat.mod_eq_of_lt (Nat.lt_of_le_of_lt (Nat.div_le_self _ _) hn)]
theorem wb_shl (n : Nat) {k : Nat} (hk : k < 64) : lN n <<< ((nI k).toInt64 &&& 63) = lN (n * 2 ^ k) := by
  rw [wb_c k hk]
  apply wb_inj
  rw [Int64.toBitVec_shiftLeft, wb_tb, wb_tb, wb_tb, wb_sm k hk]
  apply BitVec.eq_of_toNat_eq
  rw [BitVec.shiftLeft_eq', BitVec.toNat_shiftLeft, BitVec.toNat_ofNat, BitVec.toNat_ofNat, BitVec.toNat_ofNat, Nat.mod_eq_of_lt (show k < 2 ^ 64 by omega), Nat.shiftLeft_eq, Nat.mul_mod, Nat.mod_mod, ← Nat.mul_mod]
theorem wb_and {a b : Nat} (ha : a < 2 ^ 64) (hb : b < 2 ^ 64) : lN a &&& lN b = lN (a &&& b) := by
  apply wb_inj
  rw [Int64.toBitVec_and, wb_tb, wb_tb, wb_tb]
  apply BitVec.eq_of_toNat_eq
  rw [BitVec.toNat_and, BitVec.toNat_ofNat, BitVec.toNat_ofNat, BitVec.toNat_ofNat, Nat.mod_eq_of_lt ha, Nat.mod_eq_of_lt hb, Nat.mod_eq_of_lt (Nat.and_lt_two_pow _ hb)]
theorem wb_or {a b : Nat} (ha : a < 2 ^ 64) (hb : b < 2 ^ 64) : lN a ||| lN b = lN (a ||| b) := by
  apply wb_inj
  rw [Int64.toBitVec_or, wb_tb, wb_tb, wb_tb]
  apply BitVec.eq_of_toNat_eq
  rw [BitVec.toNat_or, BitVec.toNat_ofNat, BitVec.toNat_ofNat, BitVec.toNat_ofNat, Nat.mod_eq_of_lt ha, Nat.mod_eq_of_lt hb, Nat.mod_eq_of_lt (Nat.or_lt_two_pow ha hb)]
theorem wb_mask {n k : Nat} (hn : n < 2 ^ 64) (hk : k < 64) : lN n &&& lN (2 ^ k - 1) = lN (n % 2 ^ k) := by
  rw [wb_and hn (by have := wb_lt2 hk; omega), Nat.and_two_pow_sub_one_eq_mod]
theorem wb_a1 {n : Nat} (hn : n < 2 ^ 64) : lN n &&& 1 = lN (n % 2) := wb_mask (k := 1) hn (by decide)
theorem wb_bit {n k : Nat} (hn : n < 2 ^ 64) (hk : k < 64) : ((lN n).toUInt64 >>> ((nI k).toInt64.toUInt64 &&& Int64.toUInt64 63)).toInt64 &&& 1 = lN (n / 2 ^ k % 2) := by
  rw [wb_shr hn hk, wb_a1 (Nat.lt_of_le_of_lt (Nat.div_le_self _ _) hn)]
theorem wb_xor {q k : Nat} (hk : k < 63) (h : 2 ^ k ≤ q) (h2 : q < 2 ^ (k + 1)) : lN q ^^^ lN (2 ^ k) = lN (q - 2 ^ k) := by
  obtain ⟨r, rfl⟩ : ∃ r, q = 2 ^ k + r := ⟨q - 2 ^ k, by omega⟩
  have hr : r < 2 ^ k := by rw [Nat.pow_succ] at h2; omega
  have hx : (2 ^ k + r) ^^^ 2 ^ k = r := by
    apply Nat.eq_of_testBit_eq
    intro i
    rw [Nat.testBit_xor, Nat.testBit_two_pow]
    rcases Nat.lt_trichotomy i k with h | h | h
    · rw [Nat.testBit_two_pow_add_gt h]
      simp [show ¬ k = i by omega]
    · subst h
      rw [Nat.testBit_two_pow_add_eq]
      simp
    · have a1 : 2 ^ (k + 1) ≤ 2 ^ i := Nat.pow_le_pow_right (by decide) h
      rw [Nat.testBit_lt_two_pow (show 2 ^ k + r < 2 ^ i by omega), Nat.testBit_lt_two_pow (show r < 2 ^ i by omega)]
      simp [show ¬ k = i by omega]
  have b1 := wb_lt2 (show k + 1 < 64 by omega)
  have b2 := wb_lt2 (show k < 64 by omega)
  apply wb_inj
  rw [Int64.toBitVec_xor, wb_tb, wb_tb, wb_tb]
  apply BitVec.eq_of_toNat_eq
  rw [BitVec.toNat_xor, BitVec.toNat_ofNat, BitVec.toNat_ofNat, BitVec.toNat_ofNat, Nat.mod_eq_of_lt (by omega : 2 ^ k + r < 2 ^ 64), Nat.mod_eq_of_lt b2, hx, Nat.add_sub_cancel_left, Nat.mod_eq_of_lt (by omega)]
/-! ===== lN: masks, 'or' of parts that don't overlap is a sum ===== -/
theorem u_tn {n : Nat} (h : n < 2 ^ 64) : (UInt64.ofNat n).toNat = n := Nat.mod_eq_of_lt h
theorem g_and {a b c : Nat} (ha : a < 2 ^ 64) (hb : b < 2 ^ 64) (hc : a &&& b = c) : lN a &&& lN b = lN c := by
  subst hc
  have h : UInt64.ofNat a &&& UInt64.ofNat b = UInt64.ofNat (a &&& b) := UInt64.toNat_inj.mp (by rw [UInt64.toNat_and, u_tn ha, u_tn hb, u_tn (Nat.and_lt_two_pow a hb)])
  have h2 := congrArg UInt64.toInt64 h
  exact h2
theorem g_and1 {a : Nat} (ha : a < 2 ^ 64) : lN a &&& 1 = lN (a % 2) := g_and (b := 1) ha (by decide) (Nat.and_two_pow_sub_one_eq_mod a 1)
theorem g_mask {a s p : Nat} (hp : 2 ^ s = p) (hs : s < 64) (ha : a < 2 ^ 64) : lN a &&& lN (p - 1) = lN (a % p) := by
  subst hp
  have := Nat.pow_lt_pow_right (show 1 < 2 by decide) hs
  exact g_and ha (by omega) (Nat.and_two_pow_sub_one_eq_mod a s)
theorem g_or {k p a b : Nat} (hp : 2 ^ k = p) (ha : a < p) (h : b * p + a < 2 ^ 64) : lN (b * p) ||| lN a = lN (b * p + a) := by
  subst hp
  have h1 : b * 2 ^ k ||| a = b * 2 ^ k + a := by rw [← Nat.shiftLeft_eq, Nat.shiftLeft_add_eq_or_of_lt ha]
  have h3 : UInt64.ofNat (b * 2 ^ k) ||| UInt64.ofNat a = UInt64.ofNat (b * 2 ^ k + a) := UInt64.toNat_inj.mp (by rw [UInt64.toNat_or, u_tn (by omega), u_tn (by omega), u_tn h, h1])
  have h2 := congrArg UInt64.toInt64 h3
  exact h2
theorem g_or' {k p a b : Nat} (hp : 2 ^ k = p) (ha : a < p) (h : a + b * p < 2 ^ 64) : lN a ||| lN (b * p) = lN (a + b * p) := by
  rw [Int64.or_comm, g_or hp ha (by omega), Nat.add_comm]
theorem g_ushr {a k p : Nat} {y : UInt64} (hy : y = UInt64.ofNat k) (hk : k < 64) (hp : 2 ^ k = p) (ha : a < 2 ^ 64) : ((lN a).toUInt64 >>> y).toInt64 = lN (a / p) := by
  subst hy hp
  have h : UInt64.ofNat a >>> UInt64.ofNat k = UInt64.ofNat (a / 2 ^ k) := UInt64.toNat_inj.mp (by rw [UInt64.toNat_shiftRight, u_tn ha, u_tn (by omega), u_tn (Nat.lt_of_le_of_lt (Nat.div_le_self _ _) ha), Nat.mod_eq_of_lt hk, Nat.shiftRight_eq_div_pow])
  have h2 := congrArg UInt64.toInt64 h
  exact h2
theorem g_shl {a k p : Nat} {y : Int64} (hy : y.toBitVec.smod 64 = BitVec.ofNat 64 k) (hk : k < 64) (hp : 2 ^ k = p) (ha : a < 2 ^ 64) : lN a <<< y = lN (a * p) := by
  subst hp
  apply Int64.toBitVec_inj.mp
  rw [Int64.toBitVec_shiftLeft, hy]
  apply BitVec.eq_of_toNat_eq
  have hb : (lN a).toBitVec.toNat = a := Nat.mod_eq_of_lt ha
  have hk' : (BitVec.ofNat 64 k).toNat = k := Nat.mod_eq_of_lt (by omega)
  have h : ((lN a).toBitVec <<< BitVec.ofNat 64 k).toNat = (a * 2 ^ k) % 2 ^ 64 := by simp only [BitVec.shiftLeft_eq', BitVec.toNat_shiftLeft, hb, hk', Nat.shiftLeft_eq]
  exact h
/-! ===== lN to 2^62 under >> and >>> ===== -/
theorem pf_lI {a : Nat} (h : a < 2 ^ 63) : (lN a).toInt = (a : Int) := lg_ofNat_toInt h
theorem pf_shr {a d : Nat} {D : Int64} (hD : (D.toBitVec.smod 64).toNat = d) (h : a < 2 ^ 62) : lN a >>> D = lN (a / 2 ^ d) := by
  have hd : a / 2 ^ d ≤ a := Nat.div_le_self _ _
  apply Int64.toInt_inj.mp
  have e : (lN a >>> D).toInt = (lN a).toInt >>> d := by
    rw [← hD]
    exact BitVec.toInt_sshiftRight ..
  rw [e, Int.shiftRight_eq_div_pow, pf_lI (by omega), pf_lI (by omega)]
  rfl
theorem pf_ushr {a d : Nat} {D : UInt64} (hD : D.toNat % 64 = d) (h : a < 2 ^ 62) : ((lN a).toUInt64 >>> D).toInt64 = lN (a / 2 ^ d) := by
  have hd : a / 2 ^ d ≤ a := Nat.div_le_self _ _
  have e : (lN a).toUInt64 >>> D = UInt64.ofNat (a / 2 ^ d) := UInt64.toNat_inj.mp (by
    rw [UInt64.toNat_shiftRight, hD, Nat.shiftRight_eq_div_pow, UInt64.toNat_ofNat']
    show (UInt64.ofNat a).toNat / 2 ^ d = _
    rw [UInt64.toNat_ofNat', Nat.mod_eq_of_lt (by omega), Nat.mod_eq_of_lt (by omega)])
  rw [e]
  rfl
theorem pf_andw (x : Int64) : ∃ m, m < 2 ^ 32 ∧ x &&& 4294967295 = lN m := ⟨x.toBitVec.toNat % 2 ^ 32, Nat.mod_lt _ (by decide), Int64.toBitVec_inj.mp (BitVec.eq_of_toNat_eq (by
  show (x.toBitVec &&& 4294967295#64).toNat = (BitVec.ofNat 64 (x.toBitVec.toNat % 2 ^ 32)).toNat
  rw [BitVec.toNat_and, show (4294967295#64).toNat = 2 ^ 32 - 1 from by decide, Nat.and_two_pow_sub_one_eq_mod, BitVec.toNat_ofNat]
  omega))⟩
/-! ===== Int64 as an unsigned number: uN x ===== -/
def uN (x : Int64) : Nat := x.toUInt64.toNat
theorem uN_lt (x : Int64) : uN x < 18446744073709551616 := x.toUInt64.toNat_lt
theorem uN_inj {x y : Int64} (h : uN x = uN y) : x = y := congrArg UInt64.toInt64 (UInt64.toNat_inj.mp h)
theorem uN_add (x y : Int64) : uN (x + y) = (uN x + uN y) % 18446744073709551616 := by
  show (x.toUInt64 + y.toUInt64).toNat = _
  exact UInt64.toNat_add _ _
theorem uN_mul (x y : Int64) : uN (x * y) = (uN x * uN y) % 18446744073709551616 := by
  show (x.toUInt64 * y.toUInt64).toNat = _
  exact UInt64.toNat_mul _ _
theorem uN_shl (x : Int64) : uN (x <<< ((1 : Int32).toInt64 &&& 63)) = (2 * uN x) % 18446744073709551616 := by
  have h : (((1 : Int32).toInt64 &&& 63).toBitVec.smod 64).toNat = 1 := by decide
  show (x.toBitVec <<< (((1 : Int32).toInt64 &&& 63).toBitVec.smod 64).toNat).toNat = _
  rw [h, BitVec.toNat_shiftLeft, Nat.shiftLeft_eq, Nat.mul_comm]
  rfl
theorem uN_shr (x : Int64) (s : UInt64) : uN (x.toUInt64 >>> s).toInt64 = uN x / 2 ^ (s.toNat % 64) := by
  show (x.toUInt64 >>> s).toNat = _
  rw [UInt64.toNat_shiftRight, Nat.shiftRight_eq_div_pow]
  rfl
theorem uN_s32 (x : Int64) : uN (x.toUInt64 >>> ((32 : Int32).toInt64.toUInt64 &&& Int64.toUInt64 63)).toInt64 = uN x / 4294967296 := by
  have h : ((32 : Int32).toInt64.toUInt64 &&& Int64.toUInt64 63).toNat % 64 = 32 := by decide
  rw [uN_shr, h]
theorem uN_s63 (x : Int64) : uN (x.toUInt64 >>> ((63 : Int32).toInt64.toUInt64 &&& Int64.toUInt64 63)).toInt64 = uN x / 9223372036854775808 := by
  have h : ((63 : Int32).toInt64.toUInt64 &&& Int64.toUInt64 63).toNat % 64 = 63 := by decide
  rw [uN_shr, h]
theorem uN_lo (x : Int64) : uN (x &&& 4294967295) = uN x % 4294967296 := by
  show (x.toUInt64 &&& Int64.toUInt64 4294967295).toNat = _
  rw [UInt64.toNat_and]
  exact Nat.and_two_pow_sub_one_eq_mod _ 32
theorem uN_bit (x : Int64) : (x &&& 1) = 0 ↔ uN x % 2 = 0 := by
  have h : uN (x &&& 1) = uN x % 2 := by
    show (x.toUInt64 &&& Int64.toUInt64 1).toNat = _
    rw [UInt64.toNat_and]
    exact Nat.and_two_pow_sub_one_eq_mod _ 1
  rw [← h]
  exact ⟨fun z => by rw [z]; rfl, fun z => uN_inj (z.trans rfl)⟩
theorem uN_or {x y : Int64} (hy : uN y < 2) : uN ((x <<< ((1 : Int32).toInt64 &&& 63)) ||| y) = (2 * uN x) % 18446744073709551616 + uN y := by
  have h1 : uN ((x <<< ((1 : Int32).toInt64 &&& 63)) ||| y) = uN (x <<< ((1 : Int32).toInt64 &&& 63)) ||| uN y := UInt64.toNat_or _ _
  have h2 : (2 * uN x) % 18446744073709551616 = 2 ^ 1 * (uN x % 9223372036854775808) := by omega
  rw [h1, uN_shl, h2]
  exact (Nat.two_pow_add_eq_or_of_lt (i := 1) hy _).symm
theorem nat_xor {a : Nat} (h : a < 18446744073709551616) : a ^^^ 2 ^ 63 = (a + 9223372036854775808) % 18446744073709551616 := by
  have h1 : (a ^^^ 2 ^ 63) % 2 ^ 63 = a % 2 ^ 63 := by rw [Nat.xor_mod_two_pow, Nat.mod_self, Nat.xor_zero]
  have h2 : (a ^^^ 2 ^ 63) / 2 ^ 63 = (a / 2 ^ 63) ^^^ 1 := by rw [Nat.xor_div_two_pow, Nat.div_self (Nat.two_pow_pos 63)]
  have h3 : a / 2 ^ 63 = 0 ∨ a / 2 ^ 63 = 1 := by omega
  generalize a ^^^ 2 ^ 63 = t at h1 h2
  rcases h3 with h3 | h3
  · rw [h3] at h2
    have h2 : t / 2 ^ 63 = 1 := h2
    omega
  · rw [h3] at h2
    have h2 : t / 2 ^ 63 = 0 := h2
    omega
theorem uN_xor (x : Int64) : uN (x ^^^ (-9223372036854775808)) = (uN x + 9223372036854775808) % 18446744073709551616 := by
  rw [← nat_xor (uN_lt x)]
  exact UInt64.toNat_xor _ _
theorem uN_int (x : Int64) : x.toInt = if 2 * uN x < 18446744073709551616 then (uN x : Int) else (uN x : Int) - 18446744073709551616 := BitVec.toInt_eq_toNat_cond _
theorem uN_le (x y : Int64) : (x ^^^ (-9223372036854775808)) ≤ (y ^^^ (-9223372036854775808)) ↔ uN x ≤ uN y := by
  have hx := uN_lt x
  have hy := uN_lt y
  rw [Int64.le_iff_toInt_le, uN_int, uN_int, uN_xor, uN_xor]
  omega
theorem uN_sk (x : Int64) {k : Nat} (hk : k < 64) : uN (x.toUInt64 >>> ((nI k).toInt64.toUInt64 &&& Int64.toUInt64 63)).toInt64 = uN x / 2 ^ k := by
  have h : ((nI k).toInt64.toUInt64 &&& Int64.toUInt64 63).toNat % 64 = k := by
    rw [nI_l (by omega), UInt64.toNat_and]
    have e : (lN k).toUInt64.toNat = k % 2 ^ 64 := rfl
    have e2 : (Int64.toUInt64 63).toNat = 2 ^ 6 - 1 := by decide
    rw [e, e2, Nat.and_two_pow_sub_one_eq_mod]
    omega
  rw [uN_shr, h]
/-! ===== unsigned comparison by xor with the least ===== -/
theorem lN_bv (n : Nat) : (lN n).toBitVec = BitVec.ofNat 64 n := rfl
theorem lN_nat {n : Nat} (h : n < 2 ^ 64) : (lN n).toBitVec.toNat = n := by rw [lN_bv, BitVec.toNat_ofNat]; exact Nat.mod_eq_of_lt h
theorem lN_xor (a b : Nat) : lN a ^^^ lN b = lN (a ^^^ b) := by
  apply Int64.toBitVec_inj.mp; rw [Int64.toBitVec_xor, lN_bv, lN_bv, lN_bv]; apply BitVec.eq_of_getLsbD_eq; intro i hi; simp [BitVec.getLsbD_ofNat, Nat.testBit_xor, hi]
theorem lN_ti {m : Nat} (h : m < 2 ^ 64) : (lN m).toInt = if m < 2 ^ 63 then (m : Int) else (m : Int) - 2 ^ 64 := by
  have c := BitVec.toInt_eq_toNat_cond (lN m).toBitVec
  rw [lN_nat h] at c
  show (lN m).toBitVec.toInt = _
  rw [c]
  split <;> split <;> omega
theorem xor63 {x : Nat} (h : x < 2 ^ 63) : x ^^^ 2 ^ 63 = 2 ^ 63 + x := by
  apply Nat.eq_of_testBit_eq
  intro i
  rw [Nat.testBit_xor, Nat.testBit_two_pow]
  rcases Nat.lt_trichotomy i 63 with z | z | z
  · rw [Nat.testBit_two_pow_add_gt z, decide_eq_false (by omega)]; simp
  · subst z; rw [Nat.testBit_two_pow_add_eq]; simp
  · have hp : 2 ^ 64 ≤ 2 ^ i := Nat.pow_le_pow_right (by decide) z
    rw [Nat.testBit_lt_two_pow (show x < 2 ^ i by omega), Nat.testBit_lt_two_pow (show 2 ^ 63 + x < 2 ^ i by omega), decide_eq_false (by omega)]; rfl
theorem xorS {a : Nat} (h : a < 2 ^ 64) : (lN a ^^^ (-9223372036854775808)).toInt = (a : Int) - 2 ^ 63 := by
  rw [show (-9223372036854775808 : Int64) = lN (2 ^ 63) from by decide +kernel, lN_xor]
  rcases Nat.lt_or_ge a (2 ^ 63) with z | z
  · rw [xor63 z, lN_ti (by omega), if_neg (by omega)]; omega
  · obtain ⟨x, rfl⟩ : ∃ x, a = 2 ^ 63 + x := ⟨a - 2 ^ 63, by omega⟩
    rw [← xor63 (by omega), Nat.xor_assoc, Nat.xor_self, Nat.xor_zero, lN_ti (by omega), if_pos (by omega), xor63 (by omega)]; omega
theorem ultL {a b : Nat} (ha : a < 2 ^ 64) (hb : b < 2 ^ 64) : ((lN b ^^^ (-9223372036854775808)) ≤ (lN a ^^^ (-9223372036854775808))) ↔ b ≤ a := by
  rw [Int64.le_iff_toInt_le, xorS ha, xorS hb]; omega
/-! ===== Int64 masks of n low bits ===== -/
theorem cr_bits (W U M : BitVec 64) : ((W &&& U) &&& (U &&& (M ^^^ BitVec.allOnes 64))) = 0#64 ↔ (W &&& U) &&& M = W &&& U := by
  constructor
  · intro h
    apply BitVec.eq_of_getLsbD_eq
    intro i hi
    have e := congrArg (fun x => BitVec.getLsbD x i) h
    simp only [BitVec.getLsbD_and, BitVec.getLsbD_xor, BitVec.getLsbD_allOnes, BitVec.getLsbD_zero, hi, decide_true] at e ⊢
    revert e
    cases W.getLsbD i <;> cases U.getLsbD i <;> cases M.getLsbD i <;> decide
  · intro h
    apply BitVec.eq_of_getLsbD_eq
    intro i hi
    have e := congrArg (fun x => BitVec.getLsbD x i) h
    simp only [BitVec.getLsbD_and, BitVec.getLsbD_xor, BitVec.getLsbD_allOnes, BitVec.getLsbD_zero, hi, decide_true] at e ⊢
    revert e
    cases W.getLsbD i <;> cases U.getLsbD i <;> cases M.getLsbD i <;> decide
theorem cr_mask (w U m : Int64) (n : Nat) (hm : m.toBitVec.toNat = 2 ^ n - 1) : ((w &&& U) &&& (U &&& (m ^^^ (-1)))) = 0 ↔ (w &&& U).toBitVec.toNat < 2 ^ n := by
  have e0 : (-1 : Int64).toBitVec = BitVec.allOnes 64 := by decide
  have z0 : (0 : Int64).toBitVec = 0#64 := by decide
  rw [← Int64.toBitVec_inj, z0, Int64.toBitVec_and, Int64.toBitVec_and, Int64.toBitVec_and, Int64.toBitVec_xor, e0, cr_bits]
  generalize w.toBitVec &&& U.toBitVec = T
  rw [← BitVec.toNat_inj, BitVec.toNat_and, hm, Nat.and_two_pow_sub_one_eq_mod]
  constructor
  · intro h
    have t := Nat.mod_lt T.toNat (Nat.two_pow_pos n)
    rw [h] at t
    exact t
  · exact Nat.mod_eq_of_lt
theorem cr_shr (t : Int64) (x : UInt64) (n : Nat) (hx : x.toNat % 64 = n) : (t.toUInt64 >>> x).toInt64 = 0 ↔ t.toBitVec.toNat < 2 ^ n := by
  rw [← Int64.toBitVec_inj, ← BitVec.toNat_inj]
  show (t.toUInt64 >>> x).toNat = 0 ↔ t.toUInt64.toNat < 2 ^ n
  rw [UInt64.toNat_shiftRight, hx, Nat.shiftRight_eq_div_pow]
  constructor
  · intro h
    have d : t.toUInt64.toNat / 2 ^ n < 1 := by
      rw [h]
      decide
    have e := (Nat.div_lt_iff_lt_mul (Nat.two_pow_pos n)).mp d
    rw [Nat.one_mul] at e
    exact e
  · exact Nat.div_eq_of_lt
theorem cr_amt (s : Int64) : ∃ n, n < 64 ∧ s &&& 63 = lN n ∧ (s.toUInt64 &&& Int64.toUInt64 63).toNat % 64 = n := by
  have e : (s.toUInt64 &&& Int64.toUInt64 63).toNat = s.toUInt64.toNat % 2 ^ 6 := by
    rw [UInt64.toNat_and, show (Int64.toUInt64 63).toNat = 2 ^ 6 - 1 from by decide, Nat.and_two_pow_sub_one_eq_mod]
  refine ⟨s.toUInt64.toNat % 2 ^ 6, by omega, ?_, by omega⟩
  rw [← Int64.toBitVec_inj, ← BitVec.toNat_inj]
  show (s.toUInt64 &&& Int64.toUInt64 63).toNat = (BitVec.ofNat 64 (s.toUInt64.toNat % 2 ^ 6)).toNat
  rw [e, BitVec.toNat_ofNat]
  omega
end
section
/-! the middle: flat programs, histories (latest first), digits -/
abbrev sq_PG : Type := (Nat → Nat) × (Nat → Nat) × (Nat → Nat) × (Nat → Nat)
def sq_th (P : sq_PG) (j : Nat) : Nat := P.1 j
def sq_kd (P : sq_PG) (j : Nat) : Nat := P.2.1 j
def sq_vr (P : sq_PG) (j : Nat) : Nat := P.2.2.1 j
def sq_vl (P : sq_PG) (j : Nat) : Nat := P.2.2.2 j
/-- the last store ahead of b by thread t to x -/
def sq_own (P : sq_PG) (t x : Nat) : Nat → Option Nat
  | 0 => none
  | j + 1 => if sq_th P j = t ∧ sq_kd P j = 0 ∧ sq_vr P j = x then some j else sq_own P t x j
theorem sq_own_some {P : sq_PG} {t x : Nat} : ∀ {b o : Nat}, sq_own P t x b = some o → o < b ∧ sq_th P o = t ∧ sq_kd P o = 0 ∧ sq_vr P o = x ∧ ∀ j, j < b → sq_th P j = t → sq_kd P j = 0 → sq_vr P j = x → j ≤ o := by
  intro b
  induction b with
  | zero => intro o h; simp [sq_own] at h
  | succ b ih =>
    intro o h
    unfold sq_own at h
    by_cases c : sq_th P b = t ∧ sq_kd P b = 0 ∧ sq_vr P b = x
    · rw [if_pos c] at h
      cases h
      exact ⟨Nat.lt_succ_self _, c.1, c.2.1, c.2.2, fun j hj _ _ _ => Nat.le_of_lt_succ hj⟩
    · rw [if_neg c] at h
      obtain ⟨h1, h2, h3, h4, h5⟩ := ih h
      refine ⟨Nat.lt_succ_of_lt h1, h2, h3, h4, fun j hj e1 e2 e3 => ?_⟩
      by_cases e : j = b
      · subst e; exact absurd ⟨e1, e2, e3⟩ c
      · exact h5 j (by omega) e1 e2 e3
theorem sq_own_none {P : sq_PG} {t x : Nat} : ∀ {b : Nat}, sq_own P t x b = none → ∀ j, j < b → ¬ (sq_th P j = t ∧ sq_kd P j = 0 ∧ sq_vr P j = x) := by
  intro b
  induction b with
  | zero => intro _ j hj; omega
  | succ b ih =>
    intro h j hj
    unfold sq_own at h
    by_cases c : sq_th P b = t ∧ sq_kd P b = 0 ∧ sq_vr P b = x
    · rw [if_pos c] at h; cases h
    · rw [if_neg c] at h
      by_cases e : j = b
      · subst e; exact c
      · exact ih h j (by omega)
/-- the number of a load: how many loads stand ahead of it -/
def sq_ln (P : sq_PG) : Nat → Nat
  | 0 => 0
  | j + 1 => sq_ln P j + (if sq_kd P j = 1 then 1 else 0)
theorem sq_ln_le (P : sq_PG) : ∀ j, sq_ln P j ≤ j := by
  intro j
  induction j with
  | zero => exact Nat.le_refl _
  | succ j ih => unfold sq_ln; split <;> omega
theorem sq_ln_mono (P : sq_PG) {a : Nat} : ∀ {b : Nat}, a ≤ b → sq_ln P a ≤ sq_ln P b := by
  intro b
  induction b with
  | zero => intro h; have : a = 0 := by omega
            subst this; exact Nat.le_refl _
  | succ b ih =>
    intro h
    by_cases e : a = b + 1
    · subst e; exact Nat.le_refl _
    · have := ih (by omega)
      show sq_ln P a ≤ sq_ln P b + _
      omega
theorem sq_ln_lt (P : sq_PG) {a b : Nat} (h : a < b) (ha : sq_kd P a = 1) : sq_ln P a < sq_ln P b := by
  have h1 : sq_ln P (a + 1) = sq_ln P a + 1 := by
    show sq_ln P a + (if sq_kd P a = 1 then 1 else 0) = _
    rw [if_pos ha]
  have h2 := sq_ln_mono P (a := a + 1) (b := b) h
  omega
theorem sq_ln_inj (P : sq_PG) {a b : Nat} (ha : sq_kd P a = 1) (hb : sq_kd P b = 1) (h : sq_ln P a = sq_ln P b) : a = b := by
  rcases Nat.lt_trichotomy a b with c | c | c
  · have := sq_ln_lt P c ha; omega
  · exact c
  · have := sq_ln_lt P c hb; omega
def sq_up (f : Nat → Nat) (i v : Nat) : Nat → Nat := fun j => if j = i then v else f j
theorem sq_up_s (f : Nat → Nat) (i v : Nat) : sq_up f i v i = v := if_pos rfl
theorem sq_up_n (f : Nat → Nat) {i j : Nat} (v : Nat) (h : j ≠ i) : sq_up f i v j = f j := if_neg h
/-- what load l finds when h has happened and the memory's digits are g -/
def sq_rd (P : sq_PG) (h : List Nat) (g : Nat → Nat) (l : Nat) : Nat :=
  match sq_own P (sq_th P l) (sq_vr P l) l with
  | some o => if o ∈ h then g (6 + sq_vr P l) else sq_vl P o
  | none => g (6 + sq_vr P l)
/-- the nine digits after a history (latest first) -/
def sq_dg (P : sq_PG) : List Nat → Nat → Nat
  | [] => fun _ => 0
  | e :: h => if sq_kd P e = 0 then sq_up (sq_dg P h) (6 + sq_vr P e) (sq_vl P e)
      else if sq_kd P e = 1 then sq_up (sq_dg P h) (sq_ln P e) (sq_rd P h (sq_dg P h) e) else sq_dg P h
theorem sq_dg_cons (P : sq_PG) (e : Nat) (h : List Nat) : sq_dg P (e :: h) = if sq_kd P e = 0 then sq_up (sq_dg P h) (6 + sq_vr P e) (sq_vl P e)
      else if sq_kd P e = 1 then sq_up (sq_dg P h) (sq_ln P e) (sq_rd P h (sq_dg P h) e) else sq_dg P h := rfl
/-- the latest store to x in a history -/
def sq_ls (P : sq_PG) (x : Nat) : List Nat → Option Nat
  | [] => none
  | e :: h => if sq_kd P e = 0 ∧ sq_vr P e = x then some e else sq_ls P x h
def sq_vo (P : sq_PG) : Option Nat → Nat
  | none => 0
  | some s => sq_vl P s
theorem sq_dg_mem {P : sq_PG} {x : Nat} : ∀ {h : List Nat}, (∀ e, e ∈ h → e < 6) → sq_dg P h (6 + x) = sq_vo P (sq_ls P x h) := by
  intro h
  induction h with
  | nil => intro _; rfl
  | cons e h ih =>
    intro hb
    have ih' := ih (fun a ha => hb a (List.mem_cons_of_mem _ ha))
    have he := hb e List.mem_cons_self
    have hl := sq_ln_le P e
    unfold sq_dg sq_ls
    by_cases k0 : sq_kd P e = 0
    · rw [if_pos k0]
      by_cases hx : sq_vr P e = x
      · rw [if_pos ⟨k0, hx⟩, hx, sq_up_s]; rfl
      · rw [if_neg (fun c => hx c.2), sq_up_n _ _ (by omega), ih']
    · rw [if_neg k0, if_neg (fun c : sq_kd P e = 0 ∧ sq_vr P e = x => k0 c.1)]
      by_cases k1 : sq_kd P e = 1
      · rw [if_pos k1, sq_up_n _ _ (by omega), ih']
      · rw [if_neg k1, ih']
theorem sq_ls_none {P : sq_PG} {x : Nat} : ∀ {h : List Nat}, sq_ls P x h = none → ∀ j, j ∈ h → ¬ (sq_kd P j = 0 ∧ sq_vr P j = x) := by
  intro h
  induction h with
  | nil => intro _ j hj; cases hj
  | cons e h ih =>
    intro c j hj
    unfold sq_ls at c
    by_cases d : sq_kd P e = 0 ∧ sq_vr P e = x
    · rw [if_pos d] at c; cases c
    · rw [if_neg d] at c
      rcases List.mem_cons.mp hj with r | r
      · subst r; exact d
      · exact ih c j r
/-- what is older than j in a history -/
def sq_old : List Nat → Nat → List Nat
  | [], _ => []
  | e :: h, j => if e = j then h else sq_old h j
theorem sq_old_sub : ∀ {h : List Nat} {j a : Nat}, a ∈ sq_old h j → a ∈ h := by
  intro h
  induction h with
  | nil => intro j a c; exact c
  | cons e h ih =>
    intro j a c
    unfold sq_old at c
    by_cases d : e = j
    · rw [if_pos d] at c; exact List.mem_cons_of_mem _ c
    · rw [if_neg d] at c; exact List.mem_cons_of_mem _ (ih c)
theorem sq_old_h {e : Nat} {h : List Nat} : sq_old (e :: h) e = h := if_pos rfl
theorem sq_old_t {e j : Nat} {h : List Nat} (d : e ≠ j) : sq_old (e :: h) j = sq_old h j := if_neg d
theorem sq_old_irr : ∀ {h : List Nat} {j : Nat}, h.Nodup → j ∉ sq_old h j := by
  intro h
  induction h with
  | nil => intro j _ c; cases c
  | cons e h ih =>
    intro j nd c
    rw [List.nodup_cons] at nd
    by_cases d : e = j
    · subst d; rw [sq_old_h] at c; exact nd.1 c
    · rw [sq_old_t d] at c; exact ih nd.2 c
theorem sq_old_tr : ∀ {h : List Nat} {a b c : Nat}, h.Nodup → a ∈ sq_old h b → b ∈ sq_old h c → a ∈ sq_old h c := by
  intro h
  induction h with
  | nil => intro a b c _ x _; cases x
  | cons e h ih =>
    intro a b c nd x y
    rw [List.nodup_cons] at nd
    have bne : b ∈ h → e ≠ b := fun m q => nd.1 (q ▸ m)
    by_cases d : e = c
    · subst d; rw [sq_old_h] at y ⊢
      rw [sq_old_t (bne y)] at x; exact sq_old_sub x
    · rw [sq_old_t d] at y ⊢
      rw [sq_old_t (bne (sq_old_sub y))] at x; exact ih nd.2 x y
theorem sq_old_tot : ∀ {h : List Nat} {a b : Nat}, a ∈ h → b ∈ h → a ≠ b → a ∈ sq_old h b ∨ b ∈ sq_old h a := by
  intro h
  induction h with
  | nil => intro a b x; cases x
  | cons e h ih =>
    intro a b x y ne
    by_cases d : e = b
    · subst d; rw [sq_old_h]
      rcases List.mem_cons.mp x with r | r
      · exact absurd r ne
      · exact Or.inl r
    · by_cases d' : e = a
      · subst d'; rw [sq_old_h]
        rcases List.mem_cons.mp y with r | r
        · exact absurd r.symm d
        · exact Or.inr r
      · rw [sq_old_t d, sq_old_t d']
        rcases List.mem_cons.mp x with r | r
        · exact absurd r.symm d'
        · rcases List.mem_cons.mp y with r' | r'
          · exact absurd r'.symm d
          · exact ih r r' ne
theorem sq_ls_some {P : sq_PG} {x : Nat} : ∀ {h : List Nat} {m : Nat}, h.Nodup → sq_ls P x h = some m → m ∈ h ∧ sq_kd P m = 0 ∧ sq_vr P m = x ∧ ∀ j, j ∈ h → sq_kd P j = 0 → sq_vr P j = x → j = m ∨ j ∈ sq_old h m := by
  intro h
  induction h with
  | nil => intro m _ c; cases c
  | cons e h ih =>
    intro m nd c
    rw [List.nodup_cons] at nd
    unfold sq_ls at c
    by_cases d : sq_kd P e = 0 ∧ sq_vr P e = x
    · rw [if_pos d] at c
      cases c
      refine ⟨List.mem_cons_self, d.1, d.2, fun j hj _ _ => ?_⟩
      rw [sq_old_h]
      exact List.mem_cons.mp hj
    · rw [if_neg d] at c
      obtain ⟨h1, h2, h3, h4⟩ := ih nd.2 c
      have ne : e ≠ m := fun q => nd.1 (q ▸ h1)
      refine ⟨List.mem_cons_of_mem _ h1, h2, h3, fun j hj k0 kx => ?_⟩
      rw [sq_old_t ne]
      rcases List.mem_cons.mp hj with r | r
      · subst r; exact absurd ⟨k0, kx⟩ d
      · exact h4 j r k0 kx
/-- order: what is kept by pp is older -/
theorem sq_ord_old {pp : Nat → Nat → Prop} : ∀ {h : List Nat} {a b : Nat}, h.Pairwise (fun a b => ¬ pp a b) → a ∈ h → b ∈ h → a ≠ b → pp a b → a ∈ sq_old h b := by
  intro h
  induction h with
  | nil => intro a b _ x; cases x
  | cons e h ih =>
    intro a b pw x y ne q
    rw [List.pairwise_cons] at pw
    by_cases d : e = b
    · subst d; rw [sq_old_h]
      rcases List.mem_cons.mp x with r | r
      · exact absurd r ne
      · exact r
    · rw [sq_old_t d]
      have yb : b ∈ h := by
        rcases List.mem_cons.mp y with r | r
        · exact absurd r.symm d
        · exact r
      rcases List.mem_cons.mp x with r | r
      · subst r; exact absurd q (pw.1 b yb)
      · exact ih pw.2 r yb ne q
theorem sq_old_ord {pp : Nat → Nat → Prop} : ∀ {h : List Nat} {a b : Nat}, h.Pairwise (fun a b => ¬ pp a b) → a ∈ sq_old h b → ¬ pp b a := by
  intro h
  induction h with
  | nil => intro a b _ x; cases x
  | cons e h ih =>
    intro a b pw x
    rw [List.pairwise_cons] at pw
    by_cases d : e = b
    · subst d; rw [sq_old_h] at x; exact pw.1 a x
    · rw [sq_old_t d] at x; exact ih pw.2 x
theorem sq_old_nd : ∀ {h : List Nat} {b : Nat}, h.Nodup → (sq_old h b).Nodup := by
  intro h
  induction h with
  | nil => intro b nd; exact nd
  | cons e h ih =>
    intro b nd
    rw [List.nodup_cons] at nd
    by_cases d : e = b
    · subst d; rw [sq_old_h]; exact nd.2
    · rw [sq_old_t d]; exact ih nd.2
/-- inside the older part the order is the same -/
theorem sq_old_old : ∀ {h : List Nat} {a b c : Nat}, h.Nodup → a ∈ sq_old (sq_old h c) b → a ∈ sq_old h b := by
  intro h
  induction h with
  | nil => intro a b c _ x; exact x
  | cons e h ih =>
    intro a b c nd x
    rw [List.nodup_cons] at nd
    by_cases d : e = b
    · subst d
      rw [sq_old_h]
      by_cases d' : e = c
      · subst d'; rw [sq_old_h] at x; exact sq_old_sub x
      · rw [sq_old_t d'] at x; exact sq_old_sub (sq_old_sub x)
    · rw [sq_old_t d]
      by_cases d' : e = c
      · subst d'; rw [sq_old_h] at x; exact x
      · rw [sq_old_t d'] at x; exact ih nd.2 x
theorem sq_dg_load {P : sq_PG} {l : Nat} (hl : sq_kd P l = 1) (l6 : l < 6) : ∀ {h : List Nat}, h.Nodup → l ∈ h → sq_dg P h (sq_ln P l) = sq_rd P (sq_old h l) (sq_dg P (sq_old h l)) l := by
  intro h
  induction h with
  | nil => intro _ c; cases c
  | cons e h ih =>
    intro nd c
    rw [List.nodup_cons] at nd
    have hl' := sq_ln_le P l
    by_cases d : e = l
    · subst d
      rw [sq_old_h]
      rw [sq_dg_cons]
      rw [if_neg (by omega), if_pos hl, sq_up_s]
    · rw [sq_old_t d]
      have hm : l ∈ h := by
        rcases List.mem_cons.mp c with r | r
        · exact absurd r.symm d
        · exact r
      rw [← ih nd.2 hm]
      rw [sq_dg_cons]
      by_cases k0 : sq_kd P e = 0
      · rw [if_pos k0, sq_up_n _ _ (by omega)]
      · rw [if_neg k0]
        by_cases k1 : sq_kd P e = 1
        · rw [if_pos k1, sq_up_n _ _ (fun q => d (sq_ln_inj P k1 hl q.symm))]
        · rw [if_neg k1]
theorem sq_dg_zero {P : sq_PG} {i : Nat} (hi : i < 6) : ∀ {h : List Nat}, (∀ e, e ∈ h → sq_kd P e = 1 → sq_ln P e ≠ i) → sq_dg P h i = 0 := by
  intro h
  induction h with
  | nil => intro _; rfl
  | cons e h ih =>
    intro hn
    have ih' := ih (fun a ha => hn a (List.mem_cons_of_mem _ ha))
    rw [sq_dg_cons]
    by_cases k0 : sq_kd P e = 0
    · rw [if_pos k0, sq_up_n _ _ (by omega), ih']
    · rw [if_neg k0]
      by_cases k1 : sq_kd P e = 1
      · rw [if_pos k1, sq_up_n _ _ (fun q => hn e List.mem_cons_self k1 q.symm), ih']
      · rw [if_neg k1, ih']
end
section
/-! the axiomatic side against histories -/
theorem tl_max {R : Nat → Nat → Prop} (tr : ∀ a b c, R a b → R b c → R a c) (ir : ∀ a, ¬ R a a) : ∀ {L : List Nat}, L ≠ [] → ∃ x, x ∈ L ∧ ∀ y, y ∈ L → ¬ R x y := by
  intro L
  induction L with
  | nil => intro h; exact absurd rfl h
  | cons a L ih =>
    intro _
    by_cases e : L = []
    · subst e
      refine ⟨a, List.mem_cons_self, fun y hy => ?_⟩
      rcases List.mem_cons.mp hy with r | r
      · subst r; exact ir y
      · cases r
    · obtain ⟨x, hx, hm⟩ := ih e
      by_cases c : R x a
      · refine ⟨a, List.mem_cons_self, fun y hy q => ?_⟩
        rcases List.mem_cons.mp hy with r | r
        · subst r; exact ir _ q
        · exact hm y r (tr _ _ _ c q)
      · refine ⟨x, List.mem_cons_of_mem _ hx, fun y hy q => ?_⟩
        rcases List.mem_cons.mp hy with r | r
        · subst r; exact c q
        · exact hm y r q
theorem tl_topo {R : Nat → Nat → Prop} (tr : ∀ a b c, R a b → R b c → R a c) (ir : ∀ a, ¬ R a a) : ∀ (m : Nat) (L : List Nat), L.length ≤ m → ∃ H : List Nat, H.Nodup ∧ (∀ j, j ∈ H ↔ j ∈ L) ∧ H.Pairwise (fun a b => ¬ R a b) := by
  intro m
  induction m with
  | zero =>
    intro L hL
    have : L = [] := List.length_eq_zero_iff.mp (by omega)
    subst this
    exact ⟨[], List.nodup_nil, fun j => Iff.rfl, List.Pairwise.nil⟩
  | succ m ih =>
    intro L hL
    by_cases e : L = []
    · subst e
      exact ⟨[], List.nodup_nil, fun j => Iff.rfl, List.Pairwise.nil⟩
    · obtain ⟨x, hx, hm⟩ := tl_max tr ir e
      have hlt : (L.filter (fun j => decide (j ≠ x))).length < L.length := by
        rw [List.length_filter_lt_length_iff_exists]
        exact ⟨x, hx, by simp⟩
      obtain ⟨H, nd, mm, pw⟩ := ih (L.filter (fun j => decide (j ≠ x))) (by omega)
      have mf : ∀ j, j ∈ H ↔ j ∈ L ∧ j ≠ x := by
        intro j; rw [mm, List.mem_filter]; simp
      refine ⟨x :: H, ?_, ?_, ?_⟩
      · rw [List.nodup_cons]; exact ⟨fun c => ((mf x).mp c).2 rfl, nd⟩
      · intro j
        rw [List.mem_cons, mf]
        constructor
        · rintro (r | r)
          · subst r; exact hx
          · exact r.1
        · intro r
          by_cases d : j = x
          · exact Or.inl d
          · exact Or.inr ⟨r, d⟩
      · rw [List.pairwise_cons]
        exact ⟨fun y hy => hm y ((mf y).mp hy).1, pw⟩
/-- each load may find what it is chosen to find -/
def sq_mf (P : sq_PG) (n : Nat) (Pl : Nat → Nat) (F : Nat → Option Nat) : Prop :=
  ∀ l, l < n → sq_kd P l = 1 → (F l = none → sq_own P (sq_th P l) (sq_vr P l) l = none) ∧
    (∀ s, F l = some s → s < n ∧ sq_kd P s = 0 ∧ sq_vr P s = sq_vr P l ∧ ¬ (sq_th P s = sq_th P l ∧ l < s) ∧ ∀ o, sq_own P (sq_th P l) (sq_vr P l) l = some o → Pl o ≤ Pl s)
/-- what must come before what -/
def sq_af (P : sq_PG) (pp : Nat → Nat → Prop) (str : Prop) (Pl : Nat → Nat) (F : Nat → Option Nat) (a b : Nat) : Prop :=
  pp a b ∨ (sq_kd P a = 0 ∧ sq_kd P b = 0 ∧ sq_vr P a = sq_vr P b ∧ Pl a < Pl b) ∨ (sq_kd P b = 1 ∧ F b = some a ∧ (str ∨ sq_th P a ≠ sq_th P b)) ∨
    (sq_kd P a = 1 ∧ sq_kd P b = 0 ∧ sq_vr P a = sq_vr P b ∧ ∀ s, F a = some s → Pl s < Pl b)
/-- the digits of a choice -/
def sq_out (P : sq_PG) (n : Nat) (Pl : Nat → Nat) (F : Nat → Option Nat) (g : Nat → Nat) : Prop :=
  (∀ l, l < n → sq_kd P l = 1 → g (sq_ln P l) = sq_vo P (F l)) ∧ (∀ i, i < 6 → (∀ l, l < n → sq_kd P l = 1 → sq_ln P l ≠ i) → g i = 0) ∧
  (∀ x, (∀ j, j < n → ¬ (sq_kd P j = 0 ∧ sq_vr P j = x)) → g (6 + x) = 0) ∧
  (∀ m, m < n → sq_kd P m = 0 → (∀ j, j < n → sq_kd P j = 0 → sq_vr P j = sq_vr P m → Pl j ≤ Pl m) → g (6 + sq_vr P m) = sq_vl P m)
/-- a full history in order -/
def sq_full (n : Nat) (pp : Nat → Nat → Prop) (h : List Nat) : Prop :=
  h.Nodup ∧ (∀ j, j ∈ h ↔ j < n) ∧ h.Pairwise (fun a b => ¬ pp a b)
theorem sq_Y1 {P : sq_PG} {n : Nat} {pp : Nat → Nat → Prop} {str : Prop} {Pl : Nat → Nat} {F : Nat → Option Nat} {R : Nat → Nat → Prop} (n6 : n ≤ 6)
    (hp2 : ∀ a b, a < b → b < n → sq_th P a = sq_th P b → ¬ (sq_kd P a = 0 ∧ sq_kd P b = 1) → pp a b)
    (inj : ∀ a b, a < n → b < n → sq_kd P a = 0 → sq_kd P b = 0 → Pl a = Pl b → a = b)
    (mf : sq_mf P n Pl F) (tr : ∀ a b c, R a b → R b c → R a c) (ir : ∀ a, ¬ R a a)
    (af : ∀ a b, a < n → b < n → sq_af P pp str Pl F a b → R a b) :
    ∃ H : List Nat, sq_full n pp H ∧ sq_out P n Pl F (sq_dg P H) := by
  obtain ⟨H, nd, mm, pw⟩ := tl_topo tr ir n (List.range n) (by simp)
  have mn : ∀ j, j ∈ H ↔ j < n := fun j => by rw [mm, List.mem_range]
  have h6 : ∀ e, e ∈ H → e < 6 := fun e he => by have := (mn e).mp he; omega
  have oldR : ∀ a b, a < n → b < n → R a b → a ∈ sq_old H b := fun a b ha hb q =>
    sq_ord_old pw ((mn a).mpr ha) ((mn b).mpr hb) (fun c => ir b (c ▸ q)) q
  have noR : ∀ a b, a ∈ sq_old H b → ¬ R b a := fun a b x => sq_old_ord pw x
  refine ⟨H, ⟨nd, mn, ?_⟩, ?_, ?_, ?_, ?_⟩
  · refine List.Pairwise.imp_of_mem ?_ pw
    intro a b ha hb q c
    exact q (af a b ((mn a).mp ha) ((mn b).mp hb) (Or.inl c))
  · intro l hl k1
    have l6 : l < 6 := by omega
    rw [sq_dg_load k1 l6 nd ((mn l).mpr hl)]
    have ond : (sq_old H l).Nodup := sq_old_nd nd
    have o6 : ∀ e, e ∈ sq_old H l → e < 6 := fun e he => h6 e (sq_old_sub he)
    have on : ∀ e, e ∈ sq_old H l → e < n := fun e he => (mn e).mp (sq_old_sub he)
    obtain ⟨m1, m2⟩ := mf l hl k1
    -- the memory's digit, seen from the load
    have memS : ∀ s, F l = some s → s ∈ sq_old H l → sq_dg P (sq_old H l) (6 + sq_vr P l) = sq_vl P s := by
      intro s hs so
      obtain ⟨sn, sk, sx, _, _⟩ := m2 s hs
      rw [sq_dg_mem o6]
      cases e : sq_ls P (sq_vr P l) (sq_old H l) with
      | none => exact absurd ⟨sk, sx⟩ (sq_ls_none e s so)
      | some m =>
        obtain ⟨q1, q2, q3, q4⟩ := sq_ls_some ond e
        rcases q4 s so sk sx with r | r
        · rw [r]; rfl
        · exfalso
          have r' : s ∈ sq_old H m := sq_old_old nd r
          have mnn := on m q1
          by_cases c : Pl s < Pl m
          · have : R l m := af l m hl mnn (Or.inr (Or.inr (Or.inr ⟨k1, q2, q3.symm, fun s' hs' => by rw [hs] at hs'; cases hs'; exact c⟩)))
            exact noR m l q1 this
          · have ne : Pl m ≠ Pl s := fun c' => by
              have := inj m s mnn sn q2 sk c'
              subst this
              exact sq_old_irr nd r'
            exact noR s m r' (af m s mnn sn (Or.inr (Or.inl ⟨q2, sk, by rw [q3, sx], by omega⟩)))
    have extS : ∀ s, F l = some s → sq_th P s ≠ sq_th P l → s ∈ sq_old H l := by
      intro s hs ht
      obtain ⟨sn, sk, sx, _, _⟩ := m2 s hs
      exact oldR s l sn hl (af s l sn hl (Or.inr (Or.inr (Or.inl ⟨k1, hs, Or.inr ht⟩))))
    cases ho : sq_own P (sq_th P l) (sq_vr P l) l with
    | none =>
      have er : sq_rd P (sq_old H l) (sq_dg P (sq_old H l)) l = sq_dg P (sq_old H l) (6 + sq_vr P l) := by
        unfold sq_rd; rw [ho]
      rw [er]
      cases hF : F l with
      | none =>
        rw [sq_dg_mem o6]
        cases e : sq_ls P (sq_vr P l) (sq_old H l) with
        | none => rfl
        | some m =>
          exfalso
          obtain ⟨q1, q2, q3, _⟩ := sq_ls_some ond e
          exact noR m l q1 (af l m hl (on m q1) (Or.inr (Or.inr (Or.inr ⟨k1, q2, q3.symm, fun s hs => by rw [hF] at hs; cases hs⟩))))
      | some s =>
        obtain ⟨sn, sk, sx, sl, _⟩ := m2 s hF
        have ht : sq_th P s ≠ sq_th P l := by
          intro c
          have : s ≠ l := fun d => by subst d; omega
          have : s < l := by
            have := fun d => sl ⟨c, d⟩
            omega
          exact sq_own_none ho s this ⟨c, sk, sx⟩
        rw [memS s hF (extS s hF ht)]; rfl
    | some o =>
      obtain ⟨o1, o2, o3, o4, o5⟩ := sq_own_some ho
      have hF : ∃ s, F l = some s := by
        cases hF : F l with
        | none => have := m1 hF; rw [ho] at this; cases this
        | some s => exact ⟨s, rfl⟩
      obtain ⟨s, hF⟩ := hF
      obtain ⟨sn, sk, sx, sl, so⟩ := m2 s hF
      have po := so o ho
      -- an own store that is found is the last one
      have same : sq_th P s = sq_th P l → s = o := by
        intro c
        have d1 : s ≠ l := fun d => by subst d; omega
        have d2 : s < l := by
          have := fun d => sl ⟨c, d⟩
          omega
        have d3 := o5 s d2 c sk sx
        by_cases e : s = o
        · exact e
        · exfalso
          have r1 : R s o := af s o sn (by omega) (Or.inl (hp2 s o (by omega) (by omega) (by rw [c, o2]) (by omega)))
          have ne : Pl o ≠ Pl s := fun c' => e (inj o s (by omega) sn o3 sk c').symm
          have r2 : R o s := af o s (by omega) sn (Or.inr (Or.inl ⟨o3, sk, by rw [o4, sx], by omega⟩))
          exact ir _ (tr _ _ _ r1 r2)
      by_cases oo : o ∈ sq_old H l
      · have er : sq_rd P (sq_old H l) (sq_dg P (sq_old H l)) l = sq_dg P (sq_old H l) (6 + sq_vr P l) := by
          unfold sq_rd; rw [ho]; exact if_pos oo
        rw [er, hF]
        by_cases c : sq_th P s = sq_th P l
        · have := same c
          subst this
          rw [memS s hF oo]; rfl
        · rw [memS s hF (extS s hF c)]; rfl
      · have er : sq_rd P (sq_old H l) (sq_dg P (sq_old H l)) l = sq_vl P o := by
          unfold sq_rd; rw [ho]; exact if_neg oo
        rw [er, hF]
        by_cases c : sq_th P s = sq_th P l
        · rw [same c]; rfl
        · exfalso
          have e : s ≠ o := fun d => c (by rw [d, o2])
          have ne : Pl o ≠ Pl s := fun c' => e (inj o s (by omega) sn o3 sk c').symm
          have r2 : R o s := af o s (by omega) sn (Or.inr (Or.inl ⟨o3, sk, by rw [o4, sx], by omega⟩))
          have r3 : R s l := af s l sn hl (Or.inr (Or.inr (Or.inl ⟨k1, hF, Or.inr c⟩)))
          exact oo (oldR o l (by omega) hl (tr _ _ _ r2 r3))
  · intro i hi hn
    exact sq_dg_zero hi (fun e he k1 => hn e ((mn e).mp he) k1)
  · intro x hn
    rw [sq_dg_mem h6]
    cases e : sq_ls P x H with
    | none => rfl
    | some m =>
      obtain ⟨q1, q2, q3, _⟩ := sq_ls_some nd e
      exact absurd ⟨q2, q3⟩ (hn m ((mn m).mp q1))
  · intro m hm k0 hmax
    rw [sq_dg_mem h6]
    cases e : sq_ls P (sq_vr P m) H with
    | none => exact absurd ⟨k0, rfl⟩ (sq_ls_none e m ((mn m).mpr hm))
    | some m' =>
      obtain ⟨q1, q2, q3, q4⟩ := sq_ls_some nd e
      rcases q4 m ((mn m).mpr hm) k0 rfl with r | r
      · rw [r]; rfl
      · exfalso
        have mn' := (mn m').mp q1
        have le := hmax m' mn' q2 q3
        have ne : Pl m' ≠ Pl m := fun c' => by
          have := inj m' m mn' hm q2 k0 c'
          subst this
          exact sq_old_irr nd r
        exact noR m m' r (af m' m mn' hm (Or.inr (Or.inl ⟨q2, k0, q3, by omega⟩)))
end
section
/-! histories give allowed choices -/
theorem tl_nd_len {α : Type} [DecidableEq α] : ∀ {A B : List α}, A.Nodup → (∀ j, j ∈ A → j ∈ B) → A.length ≤ B.length := by
  intro A
  induction A with
  | nil => intro B _ _; exact Nat.zero_le _
  | cons a A ih =>
    intro B nd sub
    rw [List.nodup_cons] at nd
    have ha := sub a List.mem_cons_self
    have := ih (B := B.erase a) nd.2 (fun j hj => (List.mem_erase_of_ne (fun (c : j = a) => nd.1 (c ▸ hj))).mpr (sub j (List.mem_cons_of_mem _ hj)))
    rw [List.length_erase_of_mem ha] at this
    have hp : 0 < B.length := List.length_pos_of_mem ha
    rw [List.length_cons]
    omega
/-- the stores of a history -/
def sq_hs (P : sq_PG) (h : List Nat) : List Nat := h.filter (fun j => decide (sq_kd P j = 0))
theorem sq_hs_mem {P : sq_PG} {h : List Nat} {j : Nat} : j ∈ sq_hs P h ↔ j ∈ h ∧ sq_kd P j = 0 := by
  unfold sq_hs; rw [List.mem_filter]; simp
theorem sq_hs_old {P : sq_PG} : ∀ {h : List Nat} {b : Nat}, b ∈ h → sq_kd P b = 0 → h.Nodup → ∀ a, a ∈ sq_old (sq_hs P h) b ↔ a ∈ sq_old h b ∧ sq_kd P a = 0 := by
  intro h
  induction h with
  | nil => intro b c; cases c
  | cons e h ih =>
    intro b hb k0 nd a
    rw [List.nodup_cons] at nd
    by_cases d : e = b
    · subst d
      have : sq_hs P (e :: h) = e :: sq_hs P h := by
        unfold sq_hs; rw [List.filter_cons_of_pos (by simpa using k0)]
      rw [this, sq_old_h, sq_old_h, sq_hs_mem]
    · have hb' : b ∈ h := by
        rcases List.mem_cons.mp hb with r | r
        · exact absurd r.symm d
        · exact r
      rw [sq_old_t d]
      by_cases ke : sq_kd P e = 0
      · have : sq_hs P (e :: h) = e :: sq_hs P h := by
          unfold sq_hs; rw [List.filter_cons_of_pos (by simpa using ke)]
        rw [this, sq_old_t d]
        exact ih hb' k0 nd.2 a
      · have : sq_hs P (e :: h) = sq_hs P h := by
          unfold sq_hs; rw [List.filter_cons_of_neg (by simpa using ke)]
        rw [this]
        exact ih hb' k0 nd.2 a
theorem sq_old_len : ∀ {h : List Nat} {a b : Nat}, h.Nodup → a ∈ sq_old h b → (sq_old h a).length < (sq_old h b).length := by
  intro h
  induction h with
  | nil => intro a b _ c; cases c
  | cons e h ih =>
    intro a b nd c
    rw [List.nodup_cons] at nd
    by_cases d : e = b
    · subst d
      rw [sq_old_h] at c ⊢
      have : e ≠ a := fun q => nd.1 (q ▸ c)
      rw [sq_old_t this]
      clear ih nd this
      induction h with
      | nil => cases c
      | cons f h ih =>
        by_cases q : f = a
        · subst q; rw [sq_old_h]; exact Nat.lt_succ_self _
        · rw [sq_old_t q]
          rcases List.mem_cons.mp c with r | r
          · exact absurd r.symm q
          · exact Nat.lt_succ_of_lt (ih r)
    · rw [sq_old_t d] at c ⊢
      have : e ≠ a := fun q => nd.1 (q ▸ sq_old_sub c)
      rw [sq_old_t this]
      exact ih nd.2 c
theorem sq_old_ll : ∀ {h : List Nat} {a : Nat}, a ∈ h → (sq_old h a).length < h.length := by
  intro h
  induction h with
  | nil => intro a c; cases c
  | cons f h ih =>
    intro a c
    by_cases q : f = a
    · subst q; rw [sq_old_h]; exact Nat.lt_succ_self _
    · rw [sq_old_t q]
      rcases List.mem_cons.mp c with r | r
      · exact absurd r.symm q
      · exact Nat.lt_succ_of_lt (ih r)
/-- a history's places and finds -/
def sq_pl (P : sq_PG) (H : List Nat) (j : Nat) : Nat := (sq_old (sq_hs P H) j).length
def sq_fo (P : sq_PG) (H : List Nat) (l : Nat) : Option Nat :=
  match sq_own P (sq_th P l) (sq_vr P l) l with
  | some o => if o ∈ sq_old H l then sq_ls P (sq_vr P l) (sq_old H l) else some o
  | none => sq_ls P (sq_vr P l) (sq_old H l)
theorem sq_fo_c {P : sq_PG} {H : List Nat} {l : Nat} : (sq_fo P H l = sq_ls P (sq_vr P l) (sq_old H l) ∧ (∀ o, sq_own P (sq_th P l) (sq_vr P l) l = some o → o ∈ sq_old H l)) ∨
    ∃ o, sq_own P (sq_th P l) (sq_vr P l) l = some o ∧ o ∉ sq_old H l ∧ sq_fo P H l = some o := by
  unfold sq_fo
  cases e : sq_own P (sq_th P l) (sq_vr P l) l with
  | none => exact Or.inl ⟨rfl, fun o c => by cases c⟩
  | some o =>
    by_cases d : o ∈ sq_old H l
    · exact Or.inl ⟨if_pos d, fun o' c => by cases c; exact d⟩
    · exact Or.inr ⟨o, rfl, d, if_neg d⟩
theorem sq_Y2 {P : sq_PG} {n : Nat} {pp : Nat → Nat → Prop} {str : Prop} {H : List Nat} (n6 : n ≤ 6)
    (hp1 : ∀ a b, pp a b → a ≠ b)
    (hp2 : ∀ a b, a < b → b < n → sq_th P a = sq_th P b → ¬ (sq_kd P a = 0 ∧ sq_kd P b = 1) → pp a b)
    (hp3 : str → ∀ a b, a < b → b < n → sq_th P a = sq_th P b → pp a b)
    (f : sq_full n pp H) :
    (∀ a b, a < n → b < n → sq_kd P a = 0 → sq_kd P b = 0 → sq_pl P H a = sq_pl P H b → a = b) ∧
    (∀ a, a < n → sq_kd P a = 0 → sq_pl P H a < (sq_hs P (List.range n)).length) ∧
    sq_mf P n (sq_pl P H) (sq_fo P H) ∧
    (∀ a b, a < n → b < n → sq_af P pp str (sq_pl P H) (sq_fo P H) a b → a ∈ sq_old H b) ∧
    sq_out P n (sq_pl P H) (sq_fo P H) (sq_dg P H) := by
  obtain ⟨nd, mn, pw⟩ := f
  have h6 : ∀ e, e ∈ H → e < 6 := fun e he => by have := (mn e).mp he; omega
  have hsnd : (sq_hs P H).Nodup := List.Pairwise.filter _ nd
  -- places follow the history
  have plR : ∀ a b, a < n → b < n → sq_kd P a = 0 → sq_kd P b = 0 → a ∈ sq_old H b → sq_pl P H a < sq_pl P H b := by
    intro a b ha hb ka kb o
    exact sq_old_len hsnd ((sq_hs_old ((mn b).mpr hb) kb nd a).mpr ⟨o, ka⟩)
  have tot : ∀ a b, a < n → b < n → a ≠ b → a ∈ sq_old H b ∨ b ∈ sq_old H a := fun a b ha hb ne =>
    sq_old_tot ((mn a).mpr ha) ((mn b).mpr hb) ne
  have plI : ∀ a b, a < n → b < n → sq_kd P a = 0 → sq_kd P b = 0 → sq_pl P H a < sq_pl P H b → a ∈ sq_old H b := by
    intro a b ha hb ka kb lt
    have ne : a ≠ b := fun c => by subst c; omega
    rcases tot a b ha hb ne with r | r
    · exact r
    · have := plR b a hb ha kb ka r; omega
  have ppo : ∀ a b, a < n → b < n → pp a b → a ∈ sq_old H b := fun a b ha hb q =>
    sq_ord_old pw ((mn a).mpr ha) ((mn b).mpr hb) (hp1 a b q) q
  have asym : ∀ a b, a ∈ sq_old H b → b ∈ sq_old H a → False := fun a b x y => sq_old_irr nd (sq_old_tr nd x y)
  have on : ∀ e l, e ∈ sq_old H l → e < n := fun e l he => (mn e).mp (sq_old_sub he)
  -- the latest in the older part
  have lsF : ∀ l s, sq_ls P (sq_vr P l) (sq_old H l) = some s → s ∈ sq_old H l ∧ sq_kd P s = 0 ∧ sq_vr P s = sq_vr P l ∧ ∀ j, j ∈ sq_old H l → sq_kd P j = 0 → sq_vr P j = sq_vr P l → sq_pl P H j ≤ sq_pl P H s := by
    intro l s e
    obtain ⟨q1, q2, q3, q4⟩ := sq_ls_some (sq_old_nd nd) e
    refine ⟨q1, q2, q3, fun j hj k0 kx => ?_⟩
    rcases q4 j hj k0 kx with r | r
    · rw [r]; exact Nat.le_refl _
    · exact Nat.le_of_lt (plR j s (on j l hj) (on s l q1) k0 q2 (sq_old_old nd r))
  refine ⟨?_, ?_, ?_, ?_, ?_, ?_, ?_, ?_⟩
  · intro a b ha hb ka kb e
    by_cases ne : a = b
    · exact ne
    · rcases tot a b ha hb ne with r | r
      · have := plR a b ha hb ka kb r; omega
      · have := plR b a hb ha kb ka r; omega
  · intro a ha ka
    have h1 : (sq_old (sq_hs P H) a).length < (sq_hs P H).length := sq_old_ll (sq_hs_mem.mpr ⟨(mn a).mpr ha, ka⟩)
    have h2 : (sq_hs P H).length ≤ (sq_hs P (List.range n)).length := tl_nd_len hsnd (fun j hj => by
      rw [sq_hs_mem] at hj ⊢
      exact ⟨List.mem_range.mpr ((mn j).mp hj.1), hj.2⟩)
    exact Nat.lt_of_lt_of_le h1 h2
  · intro l hl k1
    constructor
    · intro e
      rcases @sq_fo_c P H l with ⟨c1, c2⟩ | ⟨o, c1, c2, c3⟩
      · cases ho : sq_own P (sq_th P l) (sq_vr P l) l with
        | none => rfl
        | some o =>
          exfalso
          obtain ⟨_, _, o3, o4, _⟩ := sq_own_some ho
          rw [c1] at e
          exact sq_ls_none e o (c2 o ho) ⟨o3, o4⟩
      · rw [c3] at e; cases e
    · intro s e
      rcases @sq_fo_c P H l with ⟨c1, c2⟩ | ⟨o, c1, c2, c3⟩
      · rw [c1] at e
        obtain ⟨q1, q2, q3, q4⟩ := lsF l s e
        refine ⟨on s l q1, q2, q3, ?_, ?_⟩
        · rintro ⟨d1, d2⟩
          exact asym s l q1 (ppo l s hl (on s l q1) (hp2 l s d2 (on s l q1) d1.symm (by omega)))
        · intro o ho
          obtain ⟨_, _, o3, o4, _⟩ := sq_own_some ho
          exact q4 o (c2 o ho) o3 o4
      · rw [c3] at e
        cases e
        obtain ⟨o1, o2, o3, o4, o5⟩ := sq_own_some c1
        refine ⟨by omega, o3, o4, fun d => by omega, fun o' ho' => ?_⟩
        rw [c1] at ho'; cases ho'; exact Nat.le_refl _
  · intro a b ha hb q
    rcases q with q | ⟨ka, kb, kx, lt⟩ | ⟨kb, e, c⟩ | ⟨ka, kb, kx, c⟩
    · exact ppo a b ha hb q
    · exact plI a b ha hb ka kb lt
    · rcases @sq_fo_c P H b with ⟨c1, c2⟩ | ⟨o, c1, c2, c3⟩
      · rw [c1] at e; exact (lsF b a e).1
      · rw [c3] at e
        have e' : o = a := Option.some.inj e
        subst e'
        obtain ⟨o1, o2, o3, o4, o5⟩ := sq_own_some c1
        rcases c with c | c
        · exact absurd (ppo o b ha hb (hp3 c o b o1 hb o2)) c2
        · exact absurd o2 c
    · have ne : a ≠ b := fun d => by subst d; omega
      rcases tot a b ha hb ne with r | r
      · exact r
      · exfalso
        rcases @sq_fo_c P H a with ⟨c1, c2⟩ | ⟨o, c1, c2, c3⟩
        · cases e : sq_ls P (sq_vr P a) (sq_old H a) with
          | none => exact sq_ls_none e b r ⟨kb, kx.symm⟩
          | some s =>
            have lt := c s (by rw [c1, e])
            have := (lsF a s e).2.2.2 b r kb kx.symm
            omega
        · have lt := c o c3
          obtain ⟨o1, o2, o3, o4, o5⟩ := sq_own_some c1
          exact c2 (sq_old_tr nd (plI o b (by omega) hb o3 kb lt) r)
  · intro l hl k1
    rw [sq_dg_load k1 (by omega) nd ((mn l).mpr hl)]
    have o6 : ∀ e, e ∈ sq_old H l → e < 6 := fun e he => h6 e (sq_old_sub he)
    unfold sq_rd sq_fo
    cases ho : sq_own P (sq_th P l) (sq_vr P l) l with
    | none => exact sq_dg_mem o6
    | some o =>
      by_cases d : o ∈ sq_old H l
      · show (if o ∈ sq_old H l then _ else _) = sq_vo P (if o ∈ sq_old H l then _ else _)
        rw [if_pos d, if_pos d]; exact sq_dg_mem o6
      · show (if o ∈ sq_old H l then _ else _) = sq_vo P (if o ∈ sq_old H l then _ else _)
        rw [if_neg d, if_neg d]; rfl
  · intro i hi hn
    exact sq_dg_zero hi (fun e he k1 => hn e ((mn e).mp he) k1)
  · intro x hn
    rw [sq_dg_mem h6]
    cases e : sq_ls P x H with
    | none => rfl
    | some m =>
      obtain ⟨q1, q2, q3, _⟩ := sq_ls_some nd e
      exact absurd ⟨q2, q3⟩ (hn m ((mn m).mp q1))
  · intro m hm k0 hmax
    rw [sq_dg_mem h6]
    cases e : sq_ls P (sq_vr P m) H with
    | none => exact absurd ⟨k0, rfl⟩ (sq_ls_none e m ((mn m).mpr hm))
    | some m' =>
      obtain ⟨q1, q2, q3, q4⟩ := sq_ls_some nd e
      rcases q4 m ((mn m).mpr hm) k0 rfl with r | r
      · rw [r]; rfl
      · exfalso
        have mn' := (mn m').mp q1
        have le := hmax m' mn' q2 q3
        have := plR m m' hm mn' k0 q2 r
        omega
end
section
/-! the machine's states against histories: one invariant, kept by every step -/
def sx_is (K : Nat → Nat) (t : Nat) : Nat → Nat
  | 0 => 0
  | a + 1 => sx_is K t a + (if K (12 * t + a) = 0 then 1 else 0)
theorem sx_is_s {K : Nat → Nat} {t a : Nat} (h : K (12 * t + a) = 0) : sx_is K t (a + 1) = sx_is K t a + 1 := by
  show sx_is K t a + (if K (12 * t + a) = 0 then 1 else 0) = _
  rw [if_pos h]
theorem sx_is_n {K : Nat → Nat} {t a : Nat} (h : ¬ K (12 * t + a) = 0) : sx_is K t (a + 1) = sx_is K t a := by
  show sx_is K t a + (if K (12 * t + a) = 0 then 1 else 0) = _
  rw [if_neg h]; rfl
theorem sx_is_mono {K : Nat → Nat} {t a : Nat} : ∀ {b : Nat}, a ≤ b → sx_is K t a ≤ sx_is K t b := by
  intro b
  induction b with
  | zero => intro h; have : a = 0 := by omega
            subst this; exact Nat.le_refl _
  | succ b ih =>
    intro h
    by_cases e : a = b + 1
    · subst e; exact Nat.le_refl _
    · have := ih (by omega)
      show sx_is K t a ≤ sx_is K t b + _
      omega
theorem sx_is_lt {K : Nat → Nat} {t a b : Nat} (h : K (12 * t + a) = 0) (ab : a < b) : sx_is K t a < sx_is K t b := by
  have h1 := sx_is_s h
  have h2 := sx_is_mono (K := K) (t := t) (a := a + 1) (b := b) ab
  omega
theorem sx_is_inj {K : Nat → Nat} {t a b : Nat} (ha : K (12 * t + a) = 0) (hb : K (12 * t + b) = 0) (e : sx_is K t a = sx_is K t b) : a = b := by
  rcases Nat.lt_trichotomy a b with c | c | c
  · have := sx_is_lt ha c; omega
  · exact c
  · have := sx_is_lt hb c; omega
theorem sx_is_le {K : Nat → Nat} {t : Nat} : ∀ a, sx_is K t a ≤ a := by
  intro a
  induction a with
  | zero => exact Nat.le_refl _
  | succ a ih => unfold sx_is; split <;> omega
theorem sx_is_ivt {K : Nat → Nat} {t d : Nat} : ∀ {a : Nat}, d < sx_is K t a → ∃ i, i < a ∧ K (12 * t + i) = 0 ∧ sx_is K t i = d := by
  intro a
  induction a with
  | zero => intro h; simp [sx_is] at h
  | succ a ih =>
    intro h
    by_cases c : d < sx_is K t a
    · obtain ⟨i, h1, h2, h3⟩ := ih c
      exact ⟨i, by omega, h2, h3⟩
    · by_cases k : K (12 * t + a) = 0
      · rw [sx_is_s k] at h
        exact ⟨a, by omega, k, by omega⟩
      · rw [sx_is_n k] at h; omega
/-- the place of an instruction in the program under trial -/
def sq_ps (P : sq_PG) (G : Nat → Bool) : Nat → Nat
  | 0 => 0
  | j + 1 => if sq_th P (j + 1) = sq_th P j then sq_ps P G j + 1 + (if G j = true then 1 else 0) else 0
def sq_ok (P : sq_PG) (n : Nat) : Prop :=
  n ≤ 6 ∧ (∀ j, j < n → sq_th P j < 4 ∧ sq_kd P j ≤ 2 ∧ sq_vr P j ≤ 2 ∧ sq_vl P j ≤ 3) ∧ ∀ i j, i ≤ j → j < n → sq_th P i ≤ sq_th P j
def sq_lk (P : sq_PG) (n : Nat) (G : Nat → Bool) (len K X V N : Nat → Nat) : Prop :=
  (∀ j, j < n → sq_ps P G j < len (sq_th P j) ∧ K (12 * sq_th P j + sq_ps P G j) = sq_kd P j ∧ X (12 * sq_th P j + sq_ps P G j) = sq_vr P j ∧
    V (12 * sq_th P j + sq_ps P G j) = sq_vl P j ∧ (sq_kd P j = 1 → N (12 * sq_th P j + sq_ps P G j) = sq_ln P j)) ∧
  (∀ t i, t < 4 → i < len t → (∃ j, j < n ∧ sq_th P j = t ∧ sq_ps P G j = i) ∨
    (K (12 * t + i) = 2 ∧ ∃ j, j + 1 < n ∧ sq_th P j = t ∧ sq_th P (j + 1) = t ∧ G j = true ∧ i = sq_ps P G j + 1)) ∧ ∀ t, t < 4 → len t ≤ 11
theorem sq_sqz {P : sq_PG} {n a b c : Nat} (ok : sq_ok P n) (h1 : a ≤ b) (h2 : b ≤ c) (h3 : c < n) (e : sq_th P a = sq_th P c) : sq_th P b = sq_th P c := by
  have := ok.2.2 a b h1 (by omega)
  have := ok.2.2 b c h2 h3
  omega
theorem sq_ps_s {P : sq_PG} {G : Nat → Bool} {j : Nat} (e : sq_th P (j + 1) = sq_th P j) : sq_ps P G (j + 1) = sq_ps P G j + 1 + (if G j = true then 1 else 0) := by
  show (if sq_th P (j + 1) = sq_th P j then _ else _) = _
  rw [if_pos e]
theorem sq_ps_lt {P : sq_PG} {n : Nat} {G : Nat → Bool} (ok : sq_ok P n) {a : Nat} : ∀ {b : Nat}, a < b → b < n → sq_th P a = sq_th P b → sq_ps P G a < sq_ps P G b := by
  intro b
  induction b with
  | zero => intro h; omega
  | succ b ih =>
    intro h hb e
    have e1 : sq_th P b = sq_th P (b + 1) := sq_sqz ok (by omega) (by omega) hb e
    rw [sq_ps_s e1.symm]
    by_cases c : a = b
    · subst c; omega
    · have := ih (by omega) (by omega) (e.trans e1.symm)
      omega
theorem sq_ps_inj {P : sq_PG} {n : Nat} {G : Nat → Bool} (ok : sq_ok P n) {a b : Nat} (ha : a < n) (hb : b < n) (e : sq_th P a = sq_th P b) (q : sq_ps P G a = sq_ps P G b) : a = b := by
  rcases Nat.lt_trichotomy a b with c | c | c
  · have := sq_ps_lt (G := G) ok c hb e; omega
  · exact c
  · have := sq_ps_lt (G := G) ok c ha e.symm; omega
theorem sq_ps_ord {P : sq_PG} {n : Nat} {G : Nat → Bool} (ok : sq_ok P n) {a b : Nat} (ha : a < n) (hb : b < n) (e : sq_th P a = sq_th P b) (q : sq_ps P G a < sq_ps P G b) : a < b := by
  rcases Nat.lt_trichotomy a b with c | c | c
  · exact c
  · subst c; omega
  · have := sq_ps_lt (G := G) ok c ha e.symm; omega
/-- a fence put in behind i stands ahead of b -/
theorem sq_ps_g {P : sq_PG} {n : Nat} {G : Nat → Bool} (ok : sq_ok P n) {i b : Nat} (h : i < b) (hb : b < n) (e : sq_th P i = sq_th P b) (g : G i = true) : sq_ps P G i + 1 < sq_ps P G b := by
  have e1 : sq_th P (i + 1) = sq_th P b := sq_sqz ok (a := i) (by omega) (by omega) hb e
  have s := sq_ps_s (G := G) (e1.trans e.symm)
  rw [if_pos g] at s
  by_cases c : i + 1 = b
  · subst c; omega
  · have := sq_ps_lt (G := G) ok (a := i + 1) (b := b) (by omega) hb e1
    omega
/-- no instruction stands where a fence was put in -/
theorem sq_ps_nf {P : sq_PG} {n : Nat} {G : Nat → Bool} (ok : sq_ok P n) {i b : Nat} (hi : i + 1 < n) (hb : b < n) (e : sq_th P (i + 1) = sq_th P i) (e2 : sq_th P b = sq_th P i) (g : G i = true) : sq_ps P G b ≠ sq_ps P G i + 1 := by
  intro q
  have : i < b := sq_ps_ord (G := G) ok (by omega) hb e2.symm (by omega)
  have := sq_ps_g ok this hb e2.symm g
  omega
/-- what is kept of the program's order -/
def sq_pp (P : sq_PG) (G : Nat → Bool) (str : Prop) (a b : Nat) : Prop :=
  a < b ∧ sq_th P a = sq_th P b ∧ ¬ (sq_kd P a = 0 ∧ sq_kd P b = 1 ∧ ¬ str ∧ ¬ ∃ i, a ≤ i ∧ i < b ∧ (G i = true ∨ sq_kd P i = 2))
/-- the invariant: history h, places at, done -/
def sq_inv (P : sq_PG) (n : Nat) (G : Nat → Bool) (len K : Nat → Nat) (str : Prop) (h : List Nat) (at' dn : Nat → Nat) : Prop :=
  h.Nodup ∧ (∀ j, j ∈ h → j < n) ∧ (∀ t, t < 4 → at' t ≤ len t ∧ dn t ≤ sx_is K t (at' t)) ∧
  (∀ j, j < n → sq_kd P j ≠ 0 → (j ∈ h ↔ sq_ps P G j < at' (sq_th P j))) ∧
  (∀ j, j < n → sq_kd P j = 0 → (j ∈ h ↔ sx_is K (sq_th P j) (sq_ps P G j) < dn (sq_th P j))) ∧
  (∀ j, j + 1 < n → sq_th P (j + 1) = sq_th P j → G j = true → sq_ps P G j + 1 < at' (sq_th P j) → ∀ s, s ≤ j → sq_th P s = sq_th P j → sq_kd P s = 0 → s ∈ h) ∧
  h.Pairwise (fun a b => ¬ sq_pp P G str a b) ∧ (∀ a b, b ∈ h → sq_pp P G str a b → a ∈ h)
section
variable {P : sq_PG} {n : Nat} {G : Nat → Bool} {len K X V N : Nat → Nat} {str : Prop}
theorem sq_inv0 : sq_inv P n G len K str [] (fun _ => 0) (fun _ => 0) := by
  refine ⟨List.nodup_nil, ?_, fun t _ => ⟨Nat.zero_le _, Nat.zero_le _⟩, ?_, ?_, ?_, List.Pairwise.nil, ?_⟩
  · intro j c; cases c
  · intro j _ _; exact ⟨fun c => absurd c List.not_mem_nil, fun c => absurd c (Nat.not_lt_zero _)⟩
  · intro j _ _; exact ⟨fun c => absurd c List.not_mem_nil, fun c => absurd c (Nat.not_lt_zero _)⟩
  · intro j _ _ _ c; exact absurd c (Nat.not_lt_zero _)
  · intro a b c; cases c
/-- a store ahead of the place of another instruction -/
theorem sq_stK (lk : sq_lk P n G len K X V N) {j : Nat} (hj : j < n) (k : sq_kd P j = 0) : K (12 * sq_th P j + sq_ps P G j) = 0 := by
  rw [(lk.1 j hj).2.1, k]
/-- an event that moves the thread on: a load, or a fence of the program -/
theorem sq_inv_ev (ok : sq_ok P n) (lk : sq_lk P n G len K X V N) {h : List Nat} {at' dn : Nat → Nat} (I : sq_inv P n G len K str h at' dn) {l : Nat} (hl : l < n) (k : sq_kd P l ≠ 0)
    (ha : at' (sq_th P l) = sq_ps P G l) (hs : str → dn (sq_th P l) = sx_is K (sq_th P l) (at' (sq_th P l))) (hf : sq_kd P l ≠ 1 → sx_is K (sq_th P l) (at' (sq_th P l)) ≤ dn (sq_th P l)) :
    l ∉ h ∧ sq_inv P n G len K str (l :: h) (sq_up at' (sq_th P l) (at' (sq_th P l) + 1)) dn := by
  obtain ⟨i1, i2, i3, i4, i5, i6, i7, i8⟩ := I
  have lh : l ∉ h := fun c => by have := (i4 l hl k).mp c; omega
  have atn : ∀ t, t ≠ sq_th P l → sq_up at' (sq_th P l) (at' (sq_th P l) + 1) t = at' t := fun t ht => sq_up_n _ _ ht
  have ats := sq_up_s at' (sq_th P l) (at' (sq_th P l) + 1)
  have l4 := (ok.2.1 l hl).1
  have kl := (lk.1 l hl)
  have nst : sx_is K (sq_th P l) (at' (sq_th P l) + 1) = sx_is K (sq_th P l) (at' (sq_th P l)) := sx_is_n (by rw [ha, kl.2.1]; exact k)
  -- everything kept ahead of l has happened
  have clo : ∀ a, sq_pp P G str a l → a ∈ h := by
    rintro a ⟨q1, q2, q3⟩
    have an : a < n := by omega
    have pa := sq_ps_lt (G := G) ok q1 hl q2
    by_cases ka : sq_kd P a = 0
    · have lt : sx_is K (sq_th P a) (sq_ps P G a) < sx_is K (sq_th P a) (sq_ps P G l) := sx_is_lt (sq_stK lk an ka) pa
      have fin : sx_is K (sq_th P l) (at' (sq_th P l)) ≤ dn (sq_th P l) → a ∈ h := by
        intro c
        rw [i5 a an ka, q2]
        rw [q2] at lt
        rw [ha] at c
        omega
      by_cases k1 : sq_kd P l = 1
      · by_cases s : str
        · exact fin (Nat.le_of_eq (hs s).symm)
        · have : ∃ i, a ≤ i ∧ i < l ∧ (G i = true ∨ sq_kd P i = 2) := Classical.byContradiction fun c => q3 ⟨ka, k1, s, c⟩
          obtain ⟨i, r1, r2, r3⟩ := this
          have ei : sq_th P i = sq_th P l := sq_sqz ok r1 (by omega) hl q2
          rcases r3 with g | g
          · have e1 : sq_th P (i + 1) = sq_th P l := sq_sqz ok (a := a) (by omega) (by omega) hl q2
            have := sq_ps_g ok r2 hl ei g
            exact i6 i (by omega) (e1.trans ei.symm) g (by rw [ei, ha]; exact this) a r1 (q2.trans ei.symm) ka
          · have pi := sq_ps_lt (G := G) ok r2 hl ei
            have ih : i ∈ h := (i4 i (by omega) (by omega)).mpr (by rw [ei, ha]; exact pi)
            have ne : a ≠ i := fun c => by subst c; omega
            exact i8 a i ih ⟨by omega, q2.trans ei.symm, fun c => by omega⟩
      · exact fin (hf k1)
    · exact (i4 a an ka).mpr (by rw [q2, ha]; exact pa)
  refine ⟨lh, List.nodup_cons.mpr ⟨lh, i1⟩, ?_, ?_, ?_, ?_, ?_, ?_, ?_⟩
  · intro j hj
    rcases List.mem_cons.mp hj with r | r
    · subst r; exact hl
    · exact i2 j r
  · intro t ht
    by_cases c : t = sq_th P l
    · subst c
      rw [ats, nst]
      have := kl.1
      exact ⟨by omega, (i3 _ ht).2⟩
    · rw [atn t c]; exact i3 t ht
  · intro j hj kj
    by_cases c : sq_th P j = sq_th P l
    · rw [c, ats, List.mem_cons, i4 j hj kj, c, ha]
      constructor
      · rintro (r | r)
        · subst r; omega
        · omega
      · intro r
        by_cases e : sq_ps P G j = sq_ps P G l
        · exact Or.inl (sq_ps_inj ok hj hl c e)
        · exact Or.inr (by omega)
    · rw [atn _ c, List.mem_cons, i4 j hj kj]
      exact ⟨fun r => r.elim (fun r => absurd (by rw [r]) c) id, Or.inr⟩
  · intro j hj kj
    rw [List.mem_cons, i5 j hj kj]
    exact ⟨fun r => r.elim (fun r => by subst r; exact absurd kj k) id, Or.inr⟩
  · intro j hj e g lt s hs1 hs2 hs3
    refine List.mem_cons_of_mem _ (i6 j hj e g ?_ s hs1 hs2 hs3)
    by_cases c : sq_th P j = sq_th P l
    · rw [c, ats] at lt
      rw [c]
      have := sq_ps_nf ok hj hl e c.symm g
      omega
    · rw [atn _ c] at lt; exact lt
  · rw [List.pairwise_cons]
    exact ⟨fun a ha' q => lh (i8 l a ha' q), i7⟩
  · intro a b hb q
    rcases List.mem_cons.mp hb with r | r
    · subst r; exact List.mem_cons_of_mem _ (clo a q)
    · exact List.mem_cons_of_mem _ (i8 a b r q)
/-- a step that is no event: over a fence put in, or a store into the queue -/
theorem sq_inv_mv (ok : sq_ok P n) (lk : sq_lk P n G len K X V N) {h : List Nat} {at' dn : Nat → Nat} (I : sq_inv P n G len K str h at' dn) {t : Nat} (t4 : t < 4) (hlt : at' t < len t)
    (hn : ∀ j, j < n → sq_th P j = t → sq_ps P G j = at' t → sq_kd P j = 0)
    (hg : ∀ j, j + 1 < n → sq_th P j = t → sq_th P (j + 1) = t → G j = true → at' t = sq_ps P G j + 1 → sx_is K t (at' t) ≤ dn t) :
    sq_inv P n G len K str h (sq_up at' t (at' t + 1)) dn := by
  obtain ⟨i1, i2, i3, i4, i5, i6, i7, i8⟩ := I
  have atn : ∀ u, u ≠ t → sq_up at' t (at' t + 1) u = at' u := fun u hu => sq_up_n _ _ hu
  have ats := sq_up_s at' t (at' t + 1)
  refine ⟨i1, i2, ?_, ?_, i5, ?_, i7, i8⟩
  · intro u hu
    by_cases c : u = t
    · subst c
      rw [ats]
      have := sx_is_mono (K := K) (t := u) (a := at' u) (b := at' u + 1) (by omega)
      have := (i3 u hu).2
      exact ⟨by omega, by omega⟩
    · rw [atn u c]; exact i3 u hu
  · intro j hj kj
    by_cases c : sq_th P j = t
    · rw [c, ats, i4 j hj kj, c]
      have : sq_ps P G j ≠ at' t := fun e => kj (hn j hj c e)
      omega
    · rw [atn _ c]; exact i4 j hj kj
  · intro j hj e g lt s hs1 hs2 hs3
    by_cases c : sq_th P j = t
    · rw [c, ats] at lt
      by_cases d : sq_ps P G j + 1 < at' t
      · exact i6 j hj e g (by rw [c]; exact d) s hs1 hs2 hs3
      · have d' : at' t = sq_ps P G j + 1 := by omega
        have := hg j hj c (e.trans c) g d'
        have sn : s < n := by omega
        rw [i5 s sn hs3, hs2, c]
        have ps : sq_ps P G s ≤ sq_ps P G j := by
          by_cases q : s = j
          · subst q; exact Nat.le_refl _
          · exact Nat.le_of_lt (sq_ps_lt (G := G) ok (by omega) (by omega) hs2)
        have kk := sq_stK lk sn hs3
        rw [hs2, c] at kk
        have := sx_is_lt (b := at' t) kk (by omega)
        omega
    · rw [atn _ c] at lt
      exact i6 j hj e g lt s hs1 hs2 hs3
/-- the first store of a queue reaches the memory -/
theorem sq_inv_re (ok : sq_ok P n) (lk : sq_lk P n G len K X V N) {h : List Nat} {at' dn : Nat → Nat} (I : sq_inv P n G len K str h at' dn) {e : Nat} (he : e < n) (k : sq_kd P e = 0)
    (hd : sx_is K (sq_th P e) (sq_ps P G e) = dn (sq_th P e)) (hw : dn (sq_th P e) < sx_is K (sq_th P e) (at' (sq_th P e))) :
    e ∉ h ∧ sq_inv P n G len K str (e :: h) at' (sq_up dn (sq_th P e) (dn (sq_th P e) + 1)) := by
  obtain ⟨i1, i2, i3, i4, i5, i6, i7, i8⟩ := I
  have eh : e ∉ h := fun c => by have := (i5 e he k).mp c; omega
  have dnn : ∀ t, t ≠ sq_th P e → sq_up dn (sq_th P e) (dn (sq_th P e) + 1) t = dn t := fun t ht => sq_up_n _ _ ht
  have dns := sq_up_s dn (sq_th P e) (dn (sq_th P e) + 1)
  have pe : sq_ps P G e < at' (sq_th P e) := by
    apply Classical.byContradiction
    intro c
    have := sx_is_mono (K := K) (t := sq_th P e) (a := at' (sq_th P e)) (b := sq_ps P G e) (by omega)
    omega
  refine ⟨eh, List.nodup_cons.mpr ⟨eh, i1⟩, ?_, ?_, ?_, ?_, ?_, ?_, ?_⟩
  · intro j hj
    rcases List.mem_cons.mp hj with r | r
    · subst r; exact he
    · exact i2 j r
  · intro t ht
    by_cases c : t = sq_th P e
    · subst c
      rw [dns]
      exact ⟨(i3 _ ht).1, by omega⟩
    · rw [dnn t c]; exact i3 t ht
  · intro j hj kj
    rw [List.mem_cons, i4 j hj kj]
    exact ⟨fun r => r.elim (fun r => by subst r; exact absurd k kj) id, Or.inr⟩
  · intro j hj kj
    by_cases c : sq_th P j = sq_th P e
    · rw [c, dns, List.mem_cons, i5 j hj kj, c]
      constructor
      · rintro (r | r)
        · subst r; omega
        · omega
      · intro r
        by_cases q : sx_is K (sq_th P e) (sq_ps P G j) = dn (sq_th P e)
        · refine Or.inl (sq_ps_inj (G := G) ok hj he c ?_)
          have kk := sq_stK lk hj kj
          rw [c] at kk
          exact sx_is_inj kk (sq_stK lk he k) (by rw [q, hd])
        · exact Or.inr (by omega)
    · rw [dnn _ c, List.mem_cons, i5 j hj kj]
      exact ⟨fun r => r.elim (fun r => absurd (by rw [r]) c) id, Or.inr⟩
  · intro j hj q g lt s hs1 hs2 hs3
    exact List.mem_cons_of_mem _ (i6 j hj q g lt s hs1 hs2 hs3)
  · rw [List.pairwise_cons]
    exact ⟨fun a ha' q => eh (i8 e a ha' q), i7⟩
  · intro a b hb q
    rcases List.mem_cons.mp hb with r | r
    · subst r
      obtain ⟨q1, q2, q3⟩ := q
      have an : a < n := by omega
      have pa := sq_ps_lt (G := G) ok q1 he q2
      refine List.mem_cons_of_mem _ ?_
      by_cases ka : sq_kd P a = 0
      · rw [i5 a an ka, q2]
        have kk := sq_stK lk an ka
        rw [q2] at kk
        have := sx_is_lt (b := sq_ps P G b) kk pa
        omega
      · rw [i4 a an ka, q2]; omega
    · exact List.mem_cons_of_mem _ (i8 a b r q)
end
end
section
/-! codes of states; the machine's steps on codes -/
def sx_at (p t : Nat) : Nat := p / 128 ^ t % 16
def sx_dn (p t : Nat) : Nat := p / (128 ^ t * 16) % 8
def sx_md (m i : Nat) : Nat := m / 4 ^ i % 4
def sx_pc (a d : Nat → Nat) : Nat := (a 0 + 16 * d 0) + (a 1 + 16 * d 1) * 128 + (a 2 + 16 * d 2) * 16384 + (a 3 + 16 * d 3) * 2097152
def sx_en : Nat → (Nat → Nat) → Nat
  | 0, _ => 0
  | i + 1, g => sx_en i g + g i * 4 ^ i
theorem sx_c4 {t : Nat} (h : t < 4) : t = 0 ∨ t = 1 ∨ t = 2 ∨ t = 3 := by omega
theorem sx_at_pc {a d : Nat → Nat} (ha : ∀ t, t < 4 → a t < 16) (hd : ∀ t, t < 4 → d t < 8) {t : Nat} (h : t < 4) : sx_at (sx_pc a d) t = a t := by
  have a0 := ha 0 (by omega); have a1 := ha 1 (by omega); have a2 := ha 2 (by omega); have a3 := ha 3 (by omega)
  have d0 := hd 0 (by omega); have d1 := hd 1 (by omega); have d2 := hd 2 (by omega); have d3 := hd 3 (by omega)
  rcases sx_c4 h with r | r | r | r <;> subst r <;> unfold sx_at sx_pc
  · show _ / 1 % 16 = _; omega
  · show _ / 128 % 16 = _; omega
  · show _ / 16384 % 16 = _; omega
  · show _ / 2097152 % 16 = _; omega
theorem sx_dn_pc {a d : Nat → Nat} (ha : ∀ t, t < 4 → a t < 16) (hd : ∀ t, t < 4 → d t < 8) {t : Nat} (h : t < 4) : sx_dn (sx_pc a d) t = d t := by
  have a0 := ha 0 (by omega); have a1 := ha 1 (by omega); have a2 := ha 2 (by omega); have a3 := ha 3 (by omega)
  have d0 := hd 0 (by omega); have d1 := hd 1 (by omega); have d2 := hd 2 (by omega); have d3 := hd 3 (by omega)
  rcases sx_c4 h with r | r | r | r <;> subst r <;> unfold sx_dn sx_pc
  · show _ / 16 % 8 = _; omega
  · show _ / 2048 % 8 = _; omega
  · show _ / 262144 % 8 = _; omega
  · show _ / 33554432 % 8 = _; omega
theorem sx_pc_lt {a d : Nat → Nat} (ha : ∀ t, t < 4 → a t < 16) (hd : ∀ t, t < 4 → d t < 8) : sx_pc a d < 268435456 := by
  have a0 := ha 0 (by omega); have a1 := ha 1 (by omega); have a2 := ha 2 (by omega); have a3 := ha 3 (by omega)
  have d0 := hd 0 (by omega); have d1 := hd 1 (by omega); have d2 := hd 2 (by omega); have d3 := hd 3 (by omega)
  unfold sx_pc; omega
theorem sx_pc_cg {a d a' d' : Nat → Nat} (ha : ∀ t, t < 4 → a t = a' t) (hd : ∀ t, t < 4 → d t = d' t) : sx_pc a d = sx_pc a' d' := by
  unfold sx_pc
  rw [ha 0 (by omega), ha 1 (by omega), ha 2 (by omega), ha 3 (by omega), hd 0 (by omega), hd 1 (by omega), hd 2 (by omega), hd 3 (by omega)]
theorem sx_en_cg {g g' : Nat → Nat} : ∀ {k : Nat}, (∀ i, i < k → g i = g' i) → sx_en k g = sx_en k g' := by
  intro k
  induction k with
  | zero => intro _; rfl
  | succ k ih =>
    intro h
    show sx_en k g + g k * 4 ^ k = sx_en k g' + g' k * 4 ^ k
    rw [ih (fun i hi => h i (by omega)), h k (by omega)]
theorem sx_en_lt {g : Nat → Nat} : ∀ {k : Nat}, (∀ i, i < k → g i < 4) → sx_en k g < 4 ^ k := by
  intro k
  induction k with
  | zero => intro _; exact Nat.one_pos
  | succ k ih =>
    intro h
    have h1 := ih (fun i hi => h i (by omega))
    have h2 := h k (by omega)
    have h3 : g k * 4 ^ k ≤ 3 * 4 ^ k := Nat.mul_le_mul_right _ (by omega)
    show sx_en k g + g k * 4 ^ k < 4 ^ (k + 1)
    rw [Nat.pow_succ]; omega
theorem sx_md_en {g : Nat → Nat} : ∀ {k : Nat}, (∀ i, i < k → g i < 4) → ∀ i, i < k → sx_md (sx_en k g) i = g i := by
  intro k
  induction k with
  | zero => intro _ i hi; omega
  | succ k ih =>
    intro h i hi
    have h1 := sx_en_lt (k := k) (g := g) (fun i hi => h i (by omega))
    have h2 := h k (by omega)
    show (sx_en k g + g k * 4 ^ k) / 4 ^ i % 4 = g i
    by_cases c : i = k
    · subst c
      rw [Nat.add_mul_div_right _ _ (Nat.pow_pos (by omega)), Nat.div_eq_of_lt h1]
      omega
    · obtain ⟨d, rfl⟩ : ∃ d, k = i + 1 + d := ⟨k - i - 1, by omega⟩
      have e : g (i + 1 + d) * 4 ^ (i + 1 + d) = (g (i + 1 + d) * 4 ^ d * 4) * 4 ^ i := by
        rw [Nat.pow_add, Nat.pow_succ, Nat.mul_assoc, Nat.mul_assoc, Nat.mul_assoc]
        congr 1
        rw [Nat.mul_comm (4 ^ i) (4 * 4 ^ d), Nat.mul_comm 4 (4 ^ d), Nat.mul_assoc]
      rw [e, Nat.add_mul_div_right _ _ (Nat.pow_pos (by omega)), Nat.add_mul_mod_self_right]
      exact ih (fun i hi => h i (by omega)) i (by omega)
theorem sx_en_md (m : Nat) : ∀ k, sx_en k (sx_md m) = m % 4 ^ k := by
  intro k
  induction k with
  | zero => rw [Nat.pow_zero, Nat.mod_one]; rfl
  | succ k ih =>
    show sx_en k (sx_md m) + (m / 4 ^ k % 4) * 4 ^ k = _
    rw [ih, Nat.mod_pow_succ, Nat.mul_comm]
/-- what a load finds: the last store to x among the places below a that wait, else v0 -/
def sx_fd (K X V : Nat → Nat) (t x d v0 : Nat) : Nat → Nat
  | 0 => v0
  | a + 1 => if K (12 * t + a) = 0 ∧ d ≤ sx_is K t a ∧ X (12 * t + a) = x then V (12 * t + a) else sx_fd K X V t x d v0 a
theorem sx_fd_c {K X V : Nat → Nat} {t x d v0 : Nat} : ∀ a, (sx_fd K X V t x d v0 a = v0 ∧ ∀ i, i < a → ¬ (K (12 * t + i) = 0 ∧ d ≤ sx_is K t i ∧ X (12 * t + i) = x)) ∨
    ∃ i, i < a ∧ K (12 * t + i) = 0 ∧ d ≤ sx_is K t i ∧ X (12 * t + i) = x ∧ sx_fd K X V t x d v0 a = V (12 * t + i) ∧ ∀ i', i < i' → i' < a → ¬ (K (12 * t + i') = 0 ∧ d ≤ sx_is K t i' ∧ X (12 * t + i') = x) := by
  intro a
  induction a with
  | zero => exact Or.inl ⟨rfl, fun i hi => by omega⟩
  | succ a ih =>
    by_cases c : K (12 * t + a) = 0 ∧ d ≤ sx_is K t a ∧ X (12 * t + a) = x
    · refine Or.inr ⟨a, by omega, c.1, c.2.1, c.2.2, if_pos c, fun i' h1 h2 => by omega⟩
    · have e : sx_fd K X V t x d v0 (a + 1) = sx_fd K X V t x d v0 a := if_neg c
      rw [e]
      rcases ih with ⟨h1, h2⟩ | ⟨i, h1, h2, h3, h4, h5, h6⟩
      · refine Or.inl ⟨h1, fun i hi => ?_⟩
        by_cases q : i = a
        · subst q; exact c
        · exact h2 i (by omega)
      · refine Or.inr ⟨i, by omega, h2, h3, h4, h5, fun i' g1 g2 => ?_⟩
        by_cases q : i' = a
        · subst q; exact c
        · exact h6 i' g1 (by omega)
section
variable (len K X V N : Nat → Nat) (str : Prop)
def sx_n0 (t : Nat) (s : Nat × Nat) : Nat × Nat := (sx_pc (sq_up (sx_at s.1) t (sx_at s.1 t + 1)) (sx_dn s.1), s.2)
def sx_n1 (t : Nat) (s : Nat × Nat) : Nat × Nat :=
  (sx_pc (sq_up (sx_at s.1) t (sx_at s.1 t + 1)) (sx_dn s.1),
    sx_en 9 (sq_up (sx_md s.2) (N (12 * t + sx_at s.1 t)) (sx_md s.2 (N (12 * t + sx_at s.1 t)) |||
      sx_fd K X V t (X (12 * t + sx_at s.1 t)) (sx_dn s.1 t) (sx_md s.2 (6 + X (12 * t + sx_at s.1 t))) (sx_at s.1 t))))
def sx_n2 (t i : Nat) (s : Nat × Nat) : Nat × Nat :=
  (sx_pc (sq_up (sx_at s.1) t (sx_at s.1 t + 1)) (sq_up (sx_dn s.1) t (sx_dn s.1 t + 1)), sx_en 9 (sq_up (sx_md s.2) (6 + X (12 * t + i)) (V (12 * t + i))))
def sx_n3 (t i : Nat) (s : Nat × Nat) : Nat × Nat :=
  (sx_pc (sx_at s.1) (sq_up (sx_dn s.1) t (sx_dn s.1 t + 1)), sx_en 9 (sq_up (sx_md s.2) (6 + X (12 * t + i)) (V (12 * t + i))))
/-- thread t goes on -/
def sx_go (t : Nat) (s s' : Nat × Nat) : Prop :=
  sx_at s.1 t ≠ len t ∧ (K (12 * t + sx_at s.1 t) = 2 → sx_is K t (sx_at s.1 t) ≤ sx_dn s.1 t) ∧
  ((K (12 * t + sx_at s.1 t) = 1 ∧ s' = sx_n1 K X V N t s) ∨
   (K (12 * t + sx_at s.1 t) = 0 ∧ str ∧ ∃ i, i < sx_at s.1 t + 1 ∧ K (12 * t + i) = 0 ∧ sx_is K t i = sx_dn s.1 t ∧ s' = sx_n2 X V t i s) ∨
   (K (12 * t + sx_at s.1 t) ≠ 1 ∧ ¬ (K (12 * t + sx_at s.1 t) = 0 ∧ str) ∧ s' = sx_n0 t s))
/-- the first store of thread t's queue reaches the memory -/
def sx_re (t : Nat) (s s' : Nat × Nat) : Prop :=
  sx_dn s.1 t < sx_is K t (sx_at s.1 t) ∧ ∃ i, i < sx_at s.1 t ∧ K (12 * t + i) = 0 ∧ sx_is K t i = sx_dn s.1 t ∧ s' = sx_n3 X V t i s
def sx_st (s s' : Nat × Nat) : Prop := ∃ t, t < 4 ∧ (sx_go len K X V N str t s s' ∨ sx_re K X V t s s')
def sx_R (s : Nat × Nat) : Prop := ∀ S : Nat × Nat → Prop, S (0, 0) → (∀ a b, S a → sx_st len K X V N str a b → S b) → S s
def sx_end (s : Nat × Nat) : Prop := ∀ t, t < 4 → sx_at s.1 t = len t ∧ sx_is K t (sx_at s.1 t) ≤ sx_dn s.1 t
end
theorem sx_R0 {len K X V N : Nat → Nat} {str : Prop} : sx_R len K X V N str (0, 0) := fun _ h0 _ => h0
theorem sx_Rs {len K X V N : Nat → Nat} {str : Prop} {a b : Nat × Nat} (h : sx_R len K X V N str a) (s : sx_st len K X V N str a b) : sx_R len K X V N str b :=
  fun S h0 hs => hs a b (h S h0 hs) s
end
section
/-! reachable codes are histories -/
theorem sq_dg_le {P : sq_PG} {n : Nat} (ok : sq_ok P n) : ∀ {h : List Nat}, (∀ e, e ∈ h → e < n) → ∀ i, sq_dg P h i ≤ 3 := by
  intro h
  induction h with
  | nil => intro _ i; exact Nat.zero_le _
  | cons e h ih =>
    intro hb i
    have ih' := ih (fun a ha => hb a (List.mem_cons_of_mem _ ha))
    have en := hb e List.mem_cons_self
    rw [sq_dg_cons]
    by_cases k0 : sq_kd P e = 0
    · rw [if_pos k0]
      by_cases c : i = 6 + sq_vr P e
      · subst c; rw [sq_up_s]; exact (ok.2.1 e en).2.2.2
      · rw [sq_up_n _ _ c]; exact ih' i
    · rw [if_neg k0]
      by_cases k1 : sq_kd P e = 1
      · rw [if_pos k1]
        by_cases c : i = sq_ln P e
        · subst c
          rw [sq_up_s]
          unfold sq_rd
          cases ho : sq_own P (sq_th P e) (sq_vr P e) e with
          | none => exact ih' _
          | some o =>
            show (if o ∈ h then _ else _) ≤ _
            by_cases d : o ∈ h
            · rw [if_pos d]; exact ih' _
            · rw [if_neg d]
              have := (sq_own_some ho).1
              exact (ok.2.1 o (by omega)).2.2.2
        · rw [sq_up_n _ _ c]; exact ih' i
      · rw [if_neg k1]; exact ih' i
section
variable {P : sq_PG} {n : Nat} {G : Nat → Bool} {len K X V N : Nat → Nat} {str : Prop}
theorem sq_inv_cg (ok : sq_ok P n) {h : List Nat} {a d a' d' : Nat → Nat} (ha : ∀ t, t < 4 → a' t = a t) (hd : ∀ t, t < 4 → d' t = d t) (I : sq_inv P n G len K str h a d) : sq_inv P n G len K str h a' d' := by
  obtain ⟨i1, i2, i3, i4, i5, i6, i7, i8⟩ := I
  refine ⟨i1, i2, fun t ht => ?_, fun j hj k => ?_, fun j hj k => ?_, fun j hj e g lt => ?_, i7, i8⟩
  · rw [ha t ht, hd t ht]; exact i3 t ht
  · rw [ha _ (ok.2.1 j hj).1]; exact i4 j hj k
  · rw [hd _ (ok.2.1 j hj).1]; exact i5 j hj k
  · rw [ha _ (ok.2.1 j (by omega)).1] at lt; exact i6 j hj e g lt
theorem sx_isps (ok : sq_ok P n) (lk : sq_lk P n G len K X V N) : ∀ j, j < n → sx_is K (sq_th P j) (sq_ps P G j) ≤ j := by
  intro j
  induction j with
  | zero => intro _; exact Nat.le_refl _
  | succ j ih =>
    intro hj
    have ih' := ih (by omega)
    by_cases c : sq_th P (j + 1) = sq_th P j
    · rw [sq_ps_s c, c]
      have h1 : sx_is K (sq_th P j) (sq_ps P G j + 1) ≤ sx_is K (sq_th P j) (sq_ps P G j) + 1 := by
        by_cases k : K (12 * sq_th P j + sq_ps P G j) = 0
        · rw [sx_is_s k]; exact Nat.le_refl _
        · rw [sx_is_n k]; omega
      by_cases g : G j = true
      · rw [if_pos g]
        have l1 := (lk.1 (j + 1) hj).1
        rw [sq_ps_s c, if_pos g, c] at l1
        have k2 : K (12 * sq_th P j + (sq_ps P G j + 1)) = 2 := by
          rcases lk.2.1 (sq_th P j) (sq_ps P G j + 1) (ok.2.1 j (by omega)).1 (by omega) with ⟨b, b1, b2, b3⟩ | r
          · exact absurd b3 (sq_ps_nf ok hj b1 c b2 g)
          · exact r.1
        rw [sx_is_n (a := sq_ps P G j + 1) (by rw [k2]; omega)]
        omega
      · rw [if_neg g]; show sx_is K _ (sq_ps P G j + 1) ≤ _; omega
    · have : sq_ps P G (j + 1) = 0 := by
        show (if sq_th P (j + 1) = sq_th P j then _ else _) = _
        rw [if_neg c]
      rw [this]; exact Nat.zero_le _
theorem sx_is6 (ok : sq_ok P n) (lk : sq_lk P n G len K X V N) {t a : Nat} (t4 : t < 4) (h : a ≤ len t) : sx_is K t a ≤ 6 := by
  apply Classical.byContradiction
  intro c
  obtain ⟨i, h1, h2, h3⟩ := sx_is_ivt (K := K) (t := t) (d := 6) (a := a) (by omega)
  rcases lk.2.1 t i t4 (by omega) with ⟨j, j1, j2, j3⟩ | ⟨r, _⟩
  · have := sx_isps ok lk j j1
    rw [j2, j3] at this
    have := ok.1
    omega
  · omega
/-- a load finds what the history says -/
theorem sq_fd_rd (ok : sq_ok P n) (lk : sq_lk P n G len K X V N) {h : List Nat} {at' dn : Nat → Nat} (I : sq_inv P n G len K str h at' dn) {l : Nat} (hl : l < n) (g : Nat → Nat) :
    sx_fd K X V (sq_th P l) (sq_vr P l) (dn (sq_th P l)) (g (6 + sq_vr P l)) (sq_ps P G l) = sq_rd P h g l := by
  obtain ⟨i1, i2, i3, i4, i5, i6, i7, i8⟩ := I
  have t4 := (ok.2.1 l hl).1
  have pl := (lk.1 l hl).1
  have ins : ∀ j, j < n → sq_th P j = sq_th P l → sq_kd P j = 0 → K (12 * sq_th P l + sq_ps P G j) = 0 ∧ X (12 * sq_th P l + sq_ps P G j) = sq_vr P j ∧ V (12 * sq_th P l + sq_ps P G j) = sq_vl P j := by
    intro j hj e k
    have := lk.1 j hj
    rw [e] at this
    exact ⟨by rw [this.2.1, k], this.2.2.1, this.2.2.2.1⟩
  rcases sx_fd_c (K := K) (X := X) (V := V) (t := sq_th P l) (x := sq_vr P l) (d := dn (sq_th P l)) (v0 := g (6 + sq_vr P l)) (sq_ps P G l) with ⟨h1, h2⟩ | ⟨i, h1, h2, h3, h4, h5, h6⟩
  · rw [h1]
    unfold sq_rd
    cases ho : sq_own P (sq_th P l) (sq_vr P l) l with
    | none => rfl
    | some o =>
      obtain ⟨o1, o2, o3, o4, o5⟩ := sq_own_some ho
      show _ = if o ∈ h then _ else _
      rw [if_pos]
      rw [i5 o (by omega) o3, o2]
      obtain ⟨k1, k2, k3⟩ := ins o (by omega) o2 o3
      have := h2 (sq_ps P G o) (sq_ps_lt (G := G) ok o1 hl o2)
      apply Classical.byContradiction
      intro c
      exact this ⟨k1, by omega, by rw [k2, o4]⟩
  · rw [h5]
    rcases lk.2.1 (sq_th P l) i t4 (by omega) with ⟨j, j1, j2, j3⟩ | ⟨r, _⟩
    · subst j3
      have kj := (lk.1 j j1).2.1
      rw [j2] at kj
      have kj0 : sq_kd P j = 0 := by omega
      obtain ⟨_, k2, k3⟩ := ins j j1 j2 kj0
      have jl := sq_ps_ord ok j1 hl j2 h1
      unfold sq_rd
      cases ho : sq_own P (sq_th P l) (sq_vr P l) l with
      | none => exact absurd ⟨j2, kj0, by rw [← k2, h4]⟩ (sq_own_none ho j jl)
      | some o =>
        obtain ⟨o1, o2, o3, o4, o5⟩ := sq_own_some ho
        have jo := o5 j jl j2 kj0 (by rw [← k2, h4])
        have e : j = o := by
          apply Classical.byContradiction
          intro c
          obtain ⟨q1, q2, q3⟩ := ins o (by omega) o2 o3
          have lt := sq_ps_lt (G := G) ok (a := j) (b := o) (by omega) (by omega) (by rw [j2, o2])
          refine h6 (sq_ps P G o) lt (sq_ps_lt (G := G) ok o1 hl o2) ⟨q1, ?_, by rw [q2, o4]⟩
          have := sx_is_mono (K := K) (t := sq_th P l) (Nat.le_of_lt lt)
          omega
        subst e
        show _ = if j ∈ h then _ else _
        rw [if_neg, k3]
        rw [i5 j j1 kj0, j2]
        omega
    · omega
/-- a code with its history -/
def sq_IH (P : sq_PG) (n : Nat) (G : Nat → Bool) (len K : Nat → Nat) (str : Prop) (h : List Nat) (s : Nat × Nat) : Prop :=
  sq_inv P n G len K str h (sx_at s.1) (sx_dn s.1) ∧ s.2 = sx_en 9 (sq_dg P h) ∧ s.1 = sx_pc (sx_at s.1) (sx_dn s.1) ∧ (str → ∀ t, t < 4 → sx_dn s.1 t = sx_is K t (sx_at s.1 t))
theorem sx_en0 : ∀ k, sx_en k (fun _ => 0) = 0 := by
  intro k
  induction k with
  | zero => rfl
  | succ k ih => show sx_en k (fun _ => 0) + 0 * 4 ^ k = 0; rw [ih, Nat.zero_mul]
theorem sq_IH0 : sq_IH P n G len K str [] (0, 0) := by
  have za : ∀ t, sx_at 0 t = 0 := fun t => by unfold sx_at; rw [Nat.zero_div]
  have zd : ∀ t, sx_dn 0 t = 0 := fun t => by unfold sx_dn; rw [Nat.zero_div]
  have ea : sx_at 0 = fun _ => 0 := funext za
  have ed : sx_dn 0 = fun _ => 0 := funext zd
  refine ⟨?_, (sx_en0 9).symm, ?_, ?_⟩
  · show sq_inv P n G len K str [] (sx_at 0) (sx_dn 0)
    rw [ea, ed]; exact sq_inv0
  · show 0 = sx_pc (sx_at 0) (sx_dn 0)
    rw [ea, ed]; rfl
  · intro _ t _
    show sx_dn 0 t = sx_is K t (sx_at 0 t)
    rw [za, zd]; rfl
theorem sq_IHb (ok : sq_ok P n) (lk : sq_lk P n G len K X V N) {h : List Nat} {a d : Nat → Nat} (I : sq_inv P n G len K str h a d) : (∀ t, t < 4 → a t < 16) ∧ (∀ t, t < 4 → d t < 8) := by
  refine ⟨fun t ht => ?_, fun t ht => ?_⟩
  · have := (I.2.2.1 t ht).1
    have := lk.2.2 t ht
    omega
  · have := (I.2.2.1 t ht).2
    have := sx_is6 ok lk ht (I.2.2.1 t ht).1
    omega
/-- a code made of an invariant -/
theorem sq_IHm (ok : sq_ok P n) (lk : sq_lk P n G len K X V N) {h : List Nat} {a d : Nat → Nat} {m : Nat} (I : sq_inv P n G len K str h a d) (em : m = sx_en 9 (sq_dg P h)) (hs : str → ∀ t, t < 4 → d t = sx_is K t (a t)) :
    sq_IH P n G len K str h (sx_pc a d, m) ∧ (∀ t, t < 4 → sx_at (sx_pc a d) t = a t) ∧ ∀ t, t < 4 → sx_dn (sx_pc a d) t = d t := by
  obtain ⟨ba, bd⟩ := sq_IHb ok lk I
  have ea : ∀ t, t < 4 → sx_at (sx_pc a d) t = a t := fun t ht => sx_at_pc ba bd ht
  have ed : ∀ t, t < 4 → sx_dn (sx_pc a d) t = d t := fun t ht => sx_dn_pc ba bd ht
  refine ⟨⟨sq_inv_cg ok ea ed I, em, (sx_pc_cg ea ed).symm, fun st t ht => ?_⟩, ea, ed⟩
  show sx_dn (sx_pc a d) t = sx_is K t (sx_at (sx_pc a d) t)
  rw [ea t ht, ed t ht]; exact hs st t ht
theorem sq_md (ok : sq_ok P n) {h : List Nat} (hb : ∀ e, e ∈ h → e < n) {i : Nat} (hi : i < 9) : sx_md (sx_en 9 (sq_dg P h)) i = sq_dg P h i :=
  sx_md_en (fun i _ => by have := sq_dg_le ok hb i; omega) i hi
/-- a load -/
theorem sq_n1 (ok : sq_ok P n) (lk : sq_lk P n G len K X V N) {h : List Nat} {s : Nat × Nat} (I : sq_IH P n G len K str h s) {l : Nat} (hl : l < n) (k : sq_kd P l = 1) (ha : sx_at s.1 (sq_th P l) = sq_ps P G l) :
    sx_go len K X V N str (sq_th P l) s (sx_n1 K X V N (sq_th P l) s) ∧ sq_IH P n G len K str (l :: h) (sx_n1 K X V N (sq_th P l) s) ∧
    (∀ t, t < 4 → sx_at (sx_n1 K X V N (sq_th P l) s).1 t = sq_up (sx_at s.1) (sq_th P l) (sx_at s.1 (sq_th P l) + 1) t) := by
  obtain ⟨J, e2, e1, hs⟩ := I
  have t4 := (ok.2.1 l hl).1
  have kl := lk.1 l hl
  obtain ⟨lh, J'⟩ := sq_inv_ev ok lk J hl (by omega) ha (fun c => hs c _ t4) (fun c => absurd k c)
  have hb := J.2.1
  have l6 : sq_ln P l < 6 := by have := sq_ln_le P l; have := ok.1; omega
  have em : (sx_n1 K X V N (sq_th P l) s).2 = sx_en 9 (sq_dg P (l :: h)) := by
    unfold sx_n1
    show sx_en 9 _ = _
    rw [sq_dg_cons]
    rw [ha, kl.2.2.1, kl.2.2.2.2 k, e2, if_neg (by omega), if_pos k]
    apply sx_en_cg
    intro i hi
    have z : sx_md (sx_en 9 (sq_dg P h)) (sq_ln P l) = 0 := by
      rw [sq_md ok hb (by omega)]
      exact sq_dg_zero l6 (fun e he k1 q => lh ((sq_ln_inj P k1 k q) ▸ he))
    have vx := (ok.2.1 l hl).2.2.1
    rw [z, sq_md ok hb (i := 6 + sq_vr P l) (by omega), sq_fd_rd ok lk J hl, Nat.zero_or]
    by_cases c : i = sq_ln P l
    · subst c; rw [sq_up_s, sq_up_s]
    · rw [sq_up_n _ _ c, sq_up_n _ _ c, sq_md ok hb hi]
  have nst : sx_is K (sq_th P l) (sx_at s.1 (sq_th P l) + 1) = sx_is K (sq_th P l) (sx_at s.1 (sq_th P l)) := sx_is_n (by rw [ha, kl.2.1]; omega)
  obtain ⟨r1, r2, r3⟩ := sq_IHm (m := (sx_n1 K X V N (sq_th P l) s).2) ok lk J' em (fun c t ht => by
    by_cases d : t = sq_th P l
    · subst d; rw [sq_up_s, nst]; exact hs c _ ht
    · rw [sq_up_n _ _ d]; exact hs c t ht)
  refine ⟨⟨by rw [ha]; have := kl.1; omega, fun c => by rw [ha, kl.2.1] at c; omega, Or.inl ⟨by rw [ha, kl.2.1, k], rfl⟩⟩, r1, r2⟩
/-- a move that is no load and no strict store -/
theorem sq_n0 (ok : sq_ok P n) (lk : sq_lk P n G len K X V N) {h h' : List Nat} {s : Nat × Nat} (I : sq_IH P n G len K str h s) {t : Nat} (t4 : t < 4) (hlt : sx_at s.1 t < len t)
    (k1 : K (12 * t + sx_at s.1 t) ≠ 1) (ks : ¬ (K (12 * t + sx_at s.1 t) = 0 ∧ str)) (kf : K (12 * t + sx_at s.1 t) = 2 → sx_is K t (sx_at s.1 t) ≤ sx_dn s.1 t)
    (J' : sq_inv P n G len K str h' (sq_up (sx_at s.1) t (sx_at s.1 t + 1)) (sx_dn s.1)) (ed : sq_dg P h' = sq_dg P h) :
    sx_go len K X V N str t s (sx_n0 t s) ∧ sq_IH P n G len K str h' (sx_n0 t s) ∧
    (∀ u, u < 4 → sx_at (sx_n0 t s).1 u = sq_up (sx_at s.1) t (sx_at s.1 t + 1) u) ∧ (∀ u, u < 4 → sx_dn (sx_n0 t s).1 u = sx_dn s.1 u) := by
  obtain ⟨J, e2, e1, hs⟩ := I
  obtain ⟨r1, r2, r3⟩ := sq_IHm (m := s.2) ok lk J' (by rw [ed]; exact e2) (fun c u hu => by
    by_cases d : u = t
    · subst d
      have : K (12 * u + sx_at s.1 u) ≠ 0 := fun z => ks ⟨z, c⟩
      rw [sq_up_s, sx_is_n this]; exact hs c _ hu
    · rw [sq_up_n _ _ d]; exact hs c u hu)
  exact ⟨⟨by omega, kf, Or.inr (Or.inr ⟨k1, ks, rfl⟩)⟩, r1, r2, r3⟩
theorem sq_dg_st {h : List Nat} (ok : sq_ok P n) (hb : ∀ e, e ∈ h → e < n) {e : Nat} (k : sq_kd P e = 0) : sx_en 9 (sq_up (sx_md (sx_en 9 (sq_dg P h))) (6 + sq_vr P e) (sq_vl P e)) = sx_en 9 (sq_dg P (e :: h)) := by
  rw [sq_dg_cons]
  rw [if_pos k]
  apply sx_en_cg
  intro i hi
  by_cases c : i = 6 + sq_vr P e
  · subst c; rw [sq_up_s, sq_up_s]
  · rw [sq_up_n _ _ c, sq_up_n _ _ c, sq_md ok hb hi]
/-- a store reaches the memory -/
theorem sq_n3 (ok : sq_ok P n) (lk : sq_lk P n G len K X V N) (ns : ¬ str) {h : List Nat} {s : Nat × Nat} (I : sq_IH P n G len K str h s) {e : Nat} (he : e < n) (k : sq_kd P e = 0)
    (hd : sx_is K (sq_th P e) (sq_ps P G e) = sx_dn s.1 (sq_th P e)) (hw : sx_dn s.1 (sq_th P e) < sx_is K (sq_th P e) (sx_at s.1 (sq_th P e))) :
    sx_re K X V (sq_th P e) s (sx_n3 X V (sq_th P e) (sq_ps P G e) s) ∧ sq_IH P n G len K str (e :: h) (sx_n3 X V (sq_th P e) (sq_ps P G e) s) ∧
    (∀ t, t < 4 → sx_at (sx_n3 X V (sq_th P e) (sq_ps P G e) s).1 t = sx_at s.1 t) := by
  obtain ⟨J, e2, e1, hs⟩ := I
  have ke := lk.1 e he
  obtain ⟨eh, J'⟩ := sq_inv_re ok lk J he k hd hw
  have em : (sx_n3 X V (sq_th P e) (sq_ps P G e) s).2 = sx_en 9 (sq_dg P (e :: h)) := by
    unfold sx_n3
    show sx_en 9 _ = _
    rw [ke.2.2.1, ke.2.2.2.1, e2]
    exact sq_dg_st ok J.2.1 k
  obtain ⟨r1, r2, r3⟩ := sq_IHm (m := (sx_n3 X V (sq_th P e) (sq_ps P G e) s).2) ok lk J' em (fun c => absurd c ns)
  have pe : sq_ps P G e < sx_at s.1 (sq_th P e) := by
    apply Classical.byContradiction
    intro c
    have := sx_is_mono (K := K) (t := sq_th P e) (a := sx_at s.1 (sq_th P e)) (b := sq_ps P G e) (by omega)
    omega
  exact ⟨⟨hw, sq_ps P G e, pe, sq_stK lk he k, hd, rfl⟩, r1, r2⟩
/-- a strict store -/
theorem sq_n2 (ok : sq_ok P n) (lk : sq_lk P n G len K X V N) (st : str) {h : List Nat} {s : Nat × Nat} (I : sq_IH P n G len K str h s) {e : Nat} (he : e < n) (k : sq_kd P e = 0)
    (ha : sx_at s.1 (sq_th P e) = sq_ps P G e) :
    sx_go len K X V N str (sq_th P e) s (sx_n2 X V (sq_th P e) (sq_ps P G e) s) ∧ sq_IH P n G len K str (e :: h) (sx_n2 X V (sq_th P e) (sq_ps P G e) s) ∧
    (∀ t, t < 4 → sx_at (sx_n2 X V (sq_th P e) (sq_ps P G e) s).1 t = sq_up (sx_at s.1) (sq_th P e) (sx_at s.1 (sq_th P e) + 1) t) := by
  obtain ⟨J, e2, e1, hs⟩ := I
  have ke := lk.1 e he
  have t4 := (ok.2.1 e he).1
  have dd := hs st _ t4
  have kk := sq_stK lk he k
  have J1 := sq_inv_mv ok lk J (t := sq_th P e) t4 (by rw [ha]; exact ke.1) (fun j hj c d => by
      have := sq_ps_inj ok hj he c (d.trans ha)
      rw [this]; exact k) (fun j hj c c2 g d => by
      exact absurd (ha.symm.trans d) (sq_ps_nf ok hj he (c2.trans c.symm) c.symm g))
  have is1 : sx_is K (sq_th P e) (sx_at s.1 (sq_th P e) + 1) = sx_is K (sq_th P e) (sx_at s.1 (sq_th P e)) + 1 := sx_is_s (by rw [ha]; exact kk)
  obtain ⟨eh, J'⟩ := sq_inv_re ok lk J1 he k (by rw [← ha]; exact dd.symm) (by rw [sq_up_s, is1]; omega)
  have em : (sx_n2 X V (sq_th P e) (sq_ps P G e) s).2 = sx_en 9 (sq_dg P (e :: h)) := by
    unfold sx_n2
    show sx_en 9 _ = _
    rw [ke.2.2.1, ke.2.2.2.1, e2]
    exact sq_dg_st ok J.2.1 k
  obtain ⟨r1, r2, r3⟩ := sq_IHm (m := (sx_n2 X V (sq_th P e) (sq_ps P G e) s).2) ok lk J' em (fun c t ht => by
    by_cases d : t = sq_th P e
    · subst d; rw [sq_up_s, sq_up_s, is1, dd]
    · rw [sq_up_n _ _ d, sq_up_n _ _ d]; exact hs c t ht)
  refine ⟨⟨by rw [ha]; have := ke.1; omega, fun c => by rw [ha, ke.2.1] at c; omega, Or.inr (Or.inl ⟨by rw [ha]; exact kk, st, sq_ps P G e, by rw [ha]; omega, kk, by rw [← ha]; exact dd.symm, rfl⟩)⟩, r1, r2⟩
end
end
section
/-! the machine's ends are the full histories -/
section
variable {P : sq_PG} {n : Nat} {G : Nat → Bool} {len K X V N : Nat → Nat} {str : Prop}
theorem sq_dg_fe {e : Nat} {h : List Nat} (k : sq_kd P e = 2) : sq_dg P (e :: h) = sq_dg P h := by
  rw [sq_dg_cons]
  rw [if_neg (by omega), if_neg (by omega)]
theorem sq_RI (ok : sq_ok P n) (lk : sq_lk P n G len K X V N) {s : Nat × Nat} (r : sx_R len K X V N str s) : ∃ h, sq_IH P n G len K str h s := by
  refine r (fun s => ∃ h, sq_IH P n G len K str h s) ⟨[], sq_IH0⟩ ?_
  rintro a b ⟨h, I⟩ ⟨t, t4, st⟩
  have J := I.1
  have hs := I.2.2.2
  have alen := (J.2.2.1 t t4).1
  rcases st with ⟨g1, g2, g3⟩ | ⟨g1, i, g2, g3, g4, g5⟩
  · have hlt : sx_at a.1 t < len t := by omega
    rcases g3 with ⟨c1, c2⟩ | ⟨c1, c2, i, c3, c4, c5, c6⟩ | ⟨c1, c2, c3⟩
    · rcases lk.2.1 t _ t4 hlt with ⟨j, j1, j2, j3⟩ | ⟨q, _⟩
      · subst j2
        have kj := (lk.1 j j1).2.1
        rw [j3, c1] at kj
        have := sq_n1 (str := str) ok lk I j1 kj.symm j3.symm
        rw [c2]
        exact ⟨_, this.2.1⟩
      · omega
    · have ei : i = sx_at a.1 t := sx_is_inj c4 c1 (by rw [c5]; exact hs c2 t t4)
      subst ei
      rcases lk.2.1 t _ t4 hlt with ⟨j, j1, j2, j3⟩ | ⟨q, _⟩
      · subst j2
        have kj := (lk.1 j j1).2.1
        rw [j3, c1] at kj
        have := sq_n2 ok lk c2 I j1 kj.symm j3.symm
        rw [c6, ← j3]
        exact ⟨_, this.2.1⟩
      · omega
    · rw [c3]
      rcases lk.2.1 t _ t4 hlt with ⟨j, j1, j2, j3⟩ | ⟨q, j, j1, j2, j3, j4, j5⟩
      · subst j2
        have kj := (lk.1 j j1).2.1
        rw [j3] at kj
        by_cases k0 : sq_kd P j = 0
        · refine ⟨h, (sq_n0 (h' := h) ok lk I t4 hlt c1 c2 g2 ?_ rfl).2.1⟩
          refine sq_inv_mv ok lk J t4 hlt (fun j' hj' d1 d2 => ?_) (fun j' hj' d1 d2 g d3 => ?_)
          · have := sq_ps_inj ok hj' j1 d1 (d2.trans j3.symm)
            rw [this]; exact k0
          · exact absurd (j3.trans d3) (sq_ps_nf ok hj' j1 (d2.trans d1.symm) d1.symm g)
        · have k2 : sq_kd P j = 2 := by
            have := (ok.2.1 j j1).2.1
            omega
          obtain ⟨_, J'⟩ := sq_inv_ev ok lk J j1 k0 j3.symm (fun c => hs c _ t4) (fun _ => g2 (by omega))
          exact ⟨j :: h, (sq_n0 (h' := j :: h) ok lk I t4 hlt c1 c2 g2 J' (sq_dg_fe k2)).2.1⟩
      · refine ⟨h, (sq_n0 (h' := h) ok lk I t4 hlt c1 c2 g2 ?_ rfl).2.1⟩
        refine sq_inv_mv ok lk J t4 hlt (fun j' hj' d1 d2 => ?_) (fun j' hj' d1 d2 g d3 => ?_)
        · exact absurd (d2.trans j5) (sq_ps_nf ok j1 hj' (j3.trans j2.symm) (d1.trans j2.symm) j4)
        · exact g2 q
  · rcases lk.2.1 t i t4 (by omega) with ⟨j, j1, j2, j3⟩ | ⟨q, _⟩
    · subst j2
      have kj := (lk.1 j j1).2.1
      rw [j3, g3] at kj
      have ns : ¬ str := fun c => by have := hs c _ t4; omega
      have := sq_n3 ok lk ns I j1 kj.symm (by rw [j3]; exact g4) g1
      rw [g5, ← j3]
      exact ⟨_, this.2.1⟩
    · omega
theorem sq_XtoM (ok : sq_ok P n) (lk : sq_lk P n G len K X V N) {s : Nat × Nat} (r : sx_R len K X V N str s) (e : sx_end len K s) : ∃ h, sq_full n (sq_pp P G str) h ∧ s.2 = sx_en 9 (sq_dg P h) := by
  obtain ⟨h, J, e2, _, _⟩ := sq_RI ok lk r
  obtain ⟨i1, i2, i3, i4, i5, i6, i7, i8⟩ := J
  refine ⟨h, ⟨i1, fun j => ⟨i2 j, fun hj => ?_⟩, i7⟩, e2⟩
  have t4 := (ok.2.1 j hj).1
  obtain ⟨e3, e4⟩ := e _ t4
  have pj := (lk.1 j hj).1
  by_cases k : sq_kd P j = 0
  · rw [i5 j hj k]
    have := sx_is_lt (b := len (sq_th P j)) (sq_stK lk hj k) pj
    rw [e3] at e4
    omega
  · rw [i4 j hj k, e3]; exact pj
theorem sq_old_app : ∀ {h1 : List Nat} {e : Nat} {h : List Nat}, e ∉ h1 → sq_old (h1 ++ e :: h) e = h := by
  intro h1
  induction h1 with
  | nil => intro e h _; exact sq_old_h
  | cons a h1 ih =>
    intro e h c
    rw [List.cons_append, sq_old_t (fun (d : a = e) => c (by rw [d]; exact List.mem_cons_self))]
    exact ih (fun d => c (List.mem_cons_of_mem _ d))
/-- what has not happened ahead of e, in e's thread -/
theorem sq_adv (ok : sq_ok P n) (lk : sq_lk P n G len K X V N) {h : List Nat} {e : Nat} (he : e < n) (F : ∀ a, sq_pp P G str a e → a ∈ h) :
    ∀ (d : Nat) (s : Nat × Nat), sx_R len K X V N str s → sq_IH P n G len K str h s → sx_at s.1 (sq_th P e) + d = sq_ps P G e →
      ∃ s', sx_R len K X V N str s' ∧ sq_IH P n G len K str h s' ∧ sx_at s'.1 (sq_th P e) = sq_ps P G e := by
  intro d
  induction d with
  | zero => intro s r I q; exact ⟨s, r, I, q⟩
  | succ d ih =>
    intro s r I q
    have J := I.1
    have hs := I.2.2.2
    have t4 := (ok.2.1 e he).1
    have pe := (lk.1 e he).1
    have hlt : sx_at s.1 (sq_th P e) < len (sq_th P e) := by omega
    obtain ⟨i1, i2, i3, i4, i5, i6, i7, i8⟩ := J
    -- an instruction at the place has not happened, so it is a store in a run that isn't strict
    have fa : ∀ j, j < n → sq_th P j = sq_th P e → sq_ps P G j = sx_at s.1 (sq_th P e) → sq_kd P j = 0 ∧ ¬ str := by
      intro j hj d1 d2
      have jh : j ∉ h := by
        intro c
        by_cases k : sq_kd P j = 0
        · have c' := (i5 j hj k).mp c
          rw [d1, d2] at c'
          have := (i3 _ t4).2
          omega
        · have c' := (i4 j hj k).mp c
          rw [d1, d2] at c'
          omega
      have je : j < e := sq_ps_ord (G := G) ok hj he d1 (by omega)
      refine ⟨?_, ?_⟩
      · apply Classical.byContradiction
        intro k
        exact jh (F j ⟨je, d1, fun c => k c.1⟩)
      · intro c
        exact jh (F j ⟨je, d1, fun c' => c'.2.2.1 c⟩)
    have fb : ∀ j, j + 1 < n → sq_th P j = sq_th P e → sq_th P (j + 1) = sq_th P e → G j = true → sx_at s.1 (sq_th P e) = sq_ps P G j + 1 → sx_is K (sq_th P e) (sx_at s.1 (sq_th P e)) ≤ sx_dn s.1 (sq_th P e) := by
      intro j hj d1 d2 g d3
      apply Classical.byContradiction
      intro c
      obtain ⟨i, h1, h2, h3⟩ := sx_is_ivt (K := K) (t := sq_th P e) (d := sx_dn s.1 (sq_th P e)) (a := sx_at s.1 (sq_th P e)) (by omega)
      rcases lk.2.1 (sq_th P e) i t4 (by omega) with ⟨b, b1, b2, b3⟩ | ⟨q', _⟩
      · have kb := (lk.1 b b1).2.1
        rw [b2, b3, h2] at kb
        have bh : b ∉ h := by
          intro c'
          have := (i5 b b1 kb.symm).mp c'
          rw [b2, b3] at this
          omega
        have be : b < e := sq_ps_ord (G := G) ok b1 he b2 (by omega)
        have je : j < e := sq_ps_ord (G := G) ok (by omega) he d1 (by omega)
        have bj : b ≤ j := by
          apply Classical.byContradiction
          intro c'
          have := sq_ps_lt (G := G) ok (a := j) (b := b) (by omega) b1 (d1.trans b2.symm)
          omega
        exact bh (F b ⟨be, b2, fun c' => c'.2.2.2 ⟨j, bj, je, Or.inl g⟩⟩)
      · omega
    have J' : sq_inv P n G len K str h (sq_up (sx_at s.1) (sq_th P e) (sx_at s.1 (sq_th P e) + 1)) (sx_dn s.1) :=
      sq_inv_mv ok lk ⟨i1, i2, i3, i4, i5, i6, i7, i8⟩ t4 hlt (fun j hj d1 d2 => (fa j hj d1 d2).1) fb
    have key : K (12 * sq_th P e + sx_at s.1 (sq_th P e)) ≠ 1 ∧ ¬ (K (12 * sq_th P e + sx_at s.1 (sq_th P e)) = 0 ∧ str) ∧ (K (12 * sq_th P e + sx_at s.1 (sq_th P e)) = 2 → sx_is K (sq_th P e) (sx_at s.1 (sq_th P e)) ≤ sx_dn s.1 (sq_th P e)) := by
      rcases lk.2.1 _ _ t4 hlt with ⟨j, j1, j2, j3⟩ | ⟨q', j, j1, j2, j3, j4, j5⟩
      · have kj := (lk.1 j j1).2.1
        obtain ⟨f1, f2⟩ := fa j j1 j2 j3
        rw [j2, j3, f1] at kj
        rw [kj]
        exact ⟨by omega, fun c => f2 c.2, fun c => by omega⟩
      · rw [q']
        exact ⟨by omega, fun c => by omega, fun _ => fb j j1 j2 j3 j4 j5⟩
    obtain ⟨g1, g2, g3, g4⟩ := sq_n0 (h' := h) ok lk I t4 hlt key.1 key.2.1 key.2.2 J' rfl
    refine ih (sx_n0 (sq_th P e) s) (sx_Rs r ⟨_, t4, Or.inl g1⟩) g2 ?_
    rw [g3 _ t4, sq_up_s]; omega
theorem sq_evt (ok : sq_ok P n) (lk : sq_lk P n G len K X V N) {h : List Nat} {e : Nat} (he : e < n) (eh : e ∉ h) (F : ∀ a, sq_pp P G str a e → a ∈ h) {s : Nat × Nat} (r : sx_R len K X V N str s) (I : sq_IH P n G len K str h s) :
    ∃ s', sx_R len K X V N str s' ∧ sq_IH P n G len K str (e :: h) s' := by
  have t4 := (ok.2.1 e he).1
  -- no store ahead of e waits, unless e is a load
  have fs : ∀ s, sq_IH P n G len K str h s → sq_kd P e ≠ 1 → sx_dn s.1 (sq_th P e) < sx_is K (sq_th P e) (sq_ps P G e) → False := by
    intro s I k c
    obtain ⟨i1, i2, i3, i4, i5, i6, i7, i8⟩ := I.1
    have pe := (lk.1 e he).1
    obtain ⟨i, h1, h2, h3⟩ := sx_is_ivt c
    rcases lk.2.1 (sq_th P e) i t4 (by omega) with ⟨b, b1, b2, b3⟩ | ⟨q', _⟩
    · have kb := (lk.1 b b1).2.1
      rw [b2, b3, h2] at kb
      have be : b < e := sq_ps_ord (G := G) ok b1 he b2 (by omega)
      have bh := F b ⟨be, b2, fun c' => k c'.2.1⟩
      have := (i5 b b1 kb.symm).mp bh
      rw [b2, b3] at this
      omega
    · omega
  -- the store e is the first that waits
  have fd : ∀ s, sq_IH P n G len K str h s → sq_kd P e = 0 → sx_is K (sq_th P e) (sq_ps P G e) = sx_dn s.1 (sq_th P e) := by
    intro s I k
    have h1 : ¬ sx_dn s.1 (sq_th P e) < sx_is K (sq_th P e) (sq_ps P G e) := fs s I (by omega)
    have h2 : ¬ sx_is K (sq_th P e) (sq_ps P G e) < sx_dn s.1 (sq_th P e) := fun c => eh ((I.1.2.2.2.2.1 e he k).mpr c)
    omega
  by_cases c : sq_ps P G e < sx_at s.1 (sq_th P e)
  · have k : sq_kd P e = 0 := by
      apply Classical.byContradiction
      intro k
      exact eh ((I.1.2.2.2.1 e he k).mpr c)
    have hd := fd s I k
    have lt := sx_is_lt (sq_stK lk he k) c
    have ns : ¬ str := fun st => by have := I.2.2.2 st _ t4; omega
    obtain ⟨g1, g2, _⟩ := sq_n3 ok lk ns I he k hd (by omega)
    exact ⟨_, sx_Rs r ⟨_, t4, Or.inr g1⟩, g2⟩
  · obtain ⟨s1, r1, I1, a1⟩ := sq_adv ok lk he F (sq_ps P G e - sx_at s.1 (sq_th P e)) s r I (by omega)
    have ke := lk.1 e he
    have J1 := I1.1
    have hlt : sx_at s1.1 (sq_th P e) < len (sq_th P e) := by rw [a1]; exact ke.1
    have k3 := (ok.2.1 e he).2.1
    by_cases k1 : sq_kd P e = 1
    · obtain ⟨g1, g2, _⟩ := sq_n1 (str := str) ok lk I1 he k1 a1
      exact ⟨_, sx_Rs r1 ⟨_, t4, Or.inl g1⟩, g2⟩
    · by_cases k0 : sq_kd P e = 0
      · by_cases st : str
        · obtain ⟨g1, g2, _⟩ := sq_n2 ok lk st I1 he k0 a1
          exact ⟨_, sx_Rs r1 ⟨_, t4, Or.inl g1⟩, g2⟩
        · have J' := sq_inv_mv ok lk J1 t4 hlt (fun j hj d1 d2 => by
            have := sq_ps_inj ok hj he d1 (d2.trans a1)
            rw [this]; exact k0) (fun j hj d1 d2 g d3 => absurd (a1.symm.trans d3) (sq_ps_nf ok hj he (d2.trans d1.symm) d1.symm g))
          have kk : K (12 * sq_th P e + sx_at s1.1 (sq_th P e)) = 0 := by rw [a1]; exact sq_stK lk he k0
          obtain ⟨g1, g2, g3, g4⟩ := sq_n0 (h' := h) ok lk I1 t4 hlt (by omega) (fun c => st c.2) (fun c => by omega) J' rfl
          have r2 := sx_Rs r1 ⟨_, t4, Or.inl g1⟩
          have hd := fd _ g2 k0
          have lt := sx_is_lt (b := sq_ps P G e + 1) (sq_stK lk he k0) (by omega)
          obtain ⟨q1, q2, _⟩ := sq_n3 ok lk st g2 he k0 hd (by rw [g3 _ t4, sq_up_s, a1]; omega)
          exact ⟨_, sx_Rs r2 ⟨_, t4, Or.inr q1⟩, q2⟩
      · have k2 : sq_kd P e = 2 := by omega
        have le : sx_is K (sq_th P e) (sx_at s1.1 (sq_th P e)) ≤ sx_dn s1.1 (sq_th P e) := by
          have : ¬ sx_dn s1.1 (sq_th P e) < sx_is K (sq_th P e) (sq_ps P G e) := fs s1 I1 k1
          rw [a1]; omega
        obtain ⟨_, J'⟩ := sq_inv_ev ok lk J1 he k0 a1 (fun c => I1.2.2.2 c _ t4) (fun _ => le)
        have kk : K (12 * sq_th P e + sx_at s1.1 (sq_th P e)) = 2 := by rw [a1, ke.2.1, k2]
        obtain ⟨g1, g2, _, _⟩ := sq_n0 (h' := e :: h) ok lk I1 t4 hlt (by omega) (fun c => by omega) (fun _ => le) J' (sq_dg_fe k2)
        exact ⟨_, sx_Rs r1 ⟨_, t4, Or.inl g1⟩, g2⟩
theorem sq_MtoX (ok : sq_ok P n) (lk : sq_lk P n G len K X V N) {H : List Nat} (f : sq_full n (sq_pp P G str) H) : ∃ s, sx_R len K X V N str s ∧ sx_end len K s ∧ s.2 = sx_en 9 (sq_dg P H) := by
  obtain ⟨nd, mn, pw⟩ := f
  have main : ∀ (h h1 : List Nat), H = h1 ++ h → ∃ s, sx_R len K X V N str s ∧ sq_IH P n G len K str h s := by
    intro h
    induction h with
    | nil => intro _ _; exact ⟨(0, 0), sx_R0, sq_IH0⟩
    | cons e h ih =>
      intro h1 q
      obtain ⟨s, r, I⟩ := ih (h1 ++ [e]) (by rw [q, List.append_assoc]; rfl)
      have eH : e ∈ H := by rw [q]; exact List.mem_append_right _ List.mem_cons_self
      have he := (mn e).mp eH
      have nd' := nd
      rw [q, List.nodup_append] at nd'
      have eh1 : e ∉ h1 := fun c => nd'.2.2 e c e List.mem_cons_self rfl
      have eh : e ∉ h := (List.nodup_cons.mp nd'.2.1).1
      refine sq_evt ok lk he eh (fun a pa => ?_) r I
      have aH : a ∈ H := (mn a).mpr (by have := pa.1; omega)
      have := sq_ord_old pw aH eH (by have := pa.1; omega) pa
      rw [q, sq_old_app eh1] at this
      exact this
  obtain ⟨s, r, I⟩ := main H [] rfl
  refine ⟨s, r, ?_, I.2.1⟩
  obtain ⟨i1, i2, i3, i4, i5, i6, i7, i8⟩ := I.1
  -- every instruction is behind its thread's place
  have beh : ∀ j, j < n → sq_ps P G j < sx_at s.1 (sq_th P j) := by
    intro j hj
    by_cases k : sq_kd P j = 0
    · have h1 := (i5 j hj k).mp ((mn j).mpr hj)
      have h2 := (i3 _ (ok.2.1 j hj).1).2
      apply Classical.byContradiction
      intro c
      have := sx_is_mono (K := K) (t := sq_th P j) (a := sx_at s.1 (sq_th P j)) (b := sq_ps P G j) (by omega)
      omega
    · exact (i4 j hj k).mp ((mn j).mpr hj)
  intro t t4
  have hl := (i3 t t4).1
  have ea : sx_at s.1 t = len t := by
    apply Classical.byContradiction
    intro c
    rcases lk.2.1 t (sx_at s.1 t) t4 (by omega) with ⟨j, j1, j2, j3⟩ | ⟨_, j, j1, j2, j3, j4, j5⟩
    · have := beh j j1
      rw [j2] at this
      omega
    · have := beh (j + 1) j1
      have q := sq_ps_s (G := G) (j3.trans j2.symm)
      rw [j3] at this
      rw [if_pos j4] at q
      omega
  refine ⟨ea, ?_⟩
  apply Classical.byContradiction
  intro c
  obtain ⟨i, h1, h2, h3⟩ := sx_is_ivt (K := K) (t := t) (d := sx_dn s.1 t) (a := sx_at s.1 t) (by omega)
  rcases lk.2.1 t i t4 (by omega) with ⟨b, b1, b2, b3⟩ | ⟨q', _⟩
  · have kb := (lk.1 b b1).2.1
    rw [b2, b3, h2] at kb
    have := (i5 b b1 kb.symm).mp ((mn b).mpr b1)
    rw [b2, b3] at this
    omega
  · omega
end
end
section
/-! counting: contents -/
def ct_S : Nat → (Nat → Nat) → Nat
  | 0, _ => 0
  | k + 1, f => ct_S k f + f k
theorem ct_S_le {f g : Nat → Nat} : ∀ {k : Nat}, (∀ i, i < k → f i ≤ g i) → ct_S k f ≤ ct_S k g := by
  intro k
  induction k with
  | zero => intro _; exact Nat.le_refl _
  | succ k ih => intro h; exact Nat.add_le_add (ih (fun i hi => h i (by omega))) (h k (by omega))
theorem ct_S_one {u : Nat → Nat} {c : Nat} : ∀ {k : Nat}, ct_S k (fun i => (if c = i then 1 else 0) + u i) = ct_S k u + (if c < k then 1 else 0) := by
  intro k
  induction k with
  | zero => rfl
  | succ k ih =>
    show ct_S k (fun i => (if c = i then 1 else 0) + u i) + ((if c = k then 1 else 0) + u k) = ct_S k u + u k + _
    rw [ih]
    by_cases a : c = k
    · subst a
      rw [if_pos rfl, if_neg (Nat.lt_irrefl _), if_pos (Nat.lt_succ_self _)]; omega
    · rw [if_neg a]
      by_cases b : c < k
      · rw [if_pos b, if_pos (by omega)]; omega
      · rw [if_neg b, if_neg (by omega)]; omega
theorem ct_split (f : Nat → Nat) (k : Nat) : ∀ L : List Nat, (∀ a, a ∈ L → f a < k) → L.length = ct_S k (fun i => (L.filter (fun a => decide (f a = i))).length) := by
  intro L
  induction L with
  | nil =>
    intro _
    have : ∀ k, ct_S k (fun i => (([] : List Nat).filter (fun a => decide (f a = i))).length) = 0 := by
      intro k
      induction k with
      | zero => rfl
      | succ k ih => show ct_S k _ + 0 = 0; rw [ih]
    exact (this k).symm
  | cons a L ih =>
    intro h
    have e : (fun i => ((a :: L).filter (fun a => decide (f a = i))).length) = fun i => (if f a = i then 1 else 0) + (L.filter (fun a => decide (f a = i))).length := by
      funext i
      by_cases c : f a = i
      · rw [if_pos c, List.filter_cons_of_pos (by simpa using c), List.length_cons]; omega
      · rw [if_neg c, List.filter_cons_of_neg (by simpa using c)]; omega
    rw [e, ct_S_one, if_pos (h a List.mem_cons_self), List.length_cons, ih (fun b hb => h b (List.mem_cons_of_mem _ hb))]
def ct_pr (ch : Nat → List Nat) : Nat → List Nat
  | 0 => [0]
  | i + 1 => (ct_pr ch i).flatMap (fun m => (ch i).map (fun c => m + c * 4 ^ i))
theorem ct_pr_mem {ch : Nat → List Nat} {g : Nat → Nat} : ∀ {k : Nat}, (∀ i, i < k → g i ∈ ch i) → sx_en k g ∈ ct_pr ch k := by
  intro k
  induction k with
  | zero => intro _; exact List.mem_cons_self
  | succ k ih =>
    intro h
    show sx_en k g + g k * 4 ^ k ∈ (ct_pr ch k).flatMap _
    rw [List.mem_flatMap]
    exact ⟨sx_en k g, ih (fun i hi => h i (by omega)), List.mem_map.mpr ⟨g k, h k (by omega), rfl⟩⟩
theorem ct_fm_len {α β : Type} {f : α → List β} {c : Nat} : ∀ {L : List α}, (∀ a, a ∈ L → (f a).length ≤ c) → (L.flatMap f).length ≤ L.length * c := by
  intro L
  induction L with
  | nil => intro _; rw [List.flatMap_nil]; exact Nat.zero_le _
  | cons a L ih =>
    intro h
    rw [List.flatMap_cons, List.length_append, List.length_cons, Nat.succ_mul]
    have := h a List.mem_cons_self
    have := ih (fun b hb => h b (List.mem_cons_of_mem _ hb))
    omega
theorem ct_pr_len (ch : Nat → List Nat) (k : Nat) : (ct_pr ch (k + 1)).length ≤ (ct_pr ch k).length * (ch k).length :=
  ct_fm_len (fun a _ => by rw [List.length_map]; exact Nat.le_refl _)
def ct_DS (P : sq_PG) (n : Nat) (χ : Nat → Bool) : List Nat := (List.range n).filter (fun j => decide (sq_kd P j = 0) && χ j)
def ct_EL (P : sq_PG) (n : Nat) (χ : Nat → Bool) : List Nat := (List.range n).filter (fun j => decide (sq_kd P j = 1) && χ j)
theorem ct_DS_mem {P : sq_PG} {n : Nat} {χ : Nat → Bool} {j : Nat} : j ∈ ct_DS P n χ ↔ j < n ∧ sq_kd P j = 0 ∧ χ j = true := by
  unfold ct_DS; rw [List.mem_filter, List.mem_range]; simp
theorem ct_EL_mem {P : sq_PG} {n : Nat} {χ : Nat → Bool} {j : Nat} : j ∈ ct_EL P n χ ↔ j < n ∧ sq_kd P j = 1 ∧ χ j = true := by
  unfold ct_EL; rw [List.mem_filter, List.mem_range]; simp
def ct_or0 : List Nat → List Nat
  | [] => [0]
  | a :: r => a :: r
def ct_lc (P : sq_PG) (D : List Nat) : List Nat → List Nat
  | [] => [0]
  | l :: _ => sq_vo P (sq_own P (sq_th P l) (sq_vr P l) l) :: D.map (sq_vl P)
def ct_ch (P : sq_PG) (n : Nat) (χ : Nat → Bool) (i : Nat) : List Nat :=
  if i < 6 then ct_lc P (ct_DS P n χ) ((ct_EL P n χ).filter (fun l => decide (sq_ln P l = i)))
  else ct_or0 (((ct_DS P n χ).filter (fun j => decide (sq_vr P j = i - 6))).map (sq_vl P))
theorem ct_mem {P : sq_PG} {n : Nat} {χ : Nat → Bool} (n6 : n ≤ 6) {h : List Nat} (nd : h.Nodup) (hb : ∀ j, j ∈ h → j < n) (hχ : ∀ j, j < n → (χ j = true ↔ j ∈ h)) : sx_en 9 (sq_dg P h) ∈ ct_pr (ct_ch P n χ) 9 := by
  have h6 : ∀ e, e ∈ h → e < 6 := fun e he => by have := hb e he; omega
  have inD : ∀ m, m ∈ h → sq_kd P m = 0 → m ∈ ct_DS P n χ := fun m hm k => ct_DS_mem.mpr ⟨hb m hm, k, (hχ m (hb m hm)).mpr hm⟩
  apply ct_pr_mem
  intro i hi
  unfold ct_ch
  by_cases i6 : i < 6
  · rw [if_pos i6]
    cases e : (ct_EL P n χ).filter (fun l => decide (sq_ln P l = i)) with
    | nil =>
      have : sq_dg P h i = 0 := by
        apply sq_dg_zero i6
        intro l hl k c
        have : l ∈ (ct_EL P n χ).filter (fun l => decide (sq_ln P l = i)) := by
          rw [List.mem_filter]
          exact ⟨ct_EL_mem.mpr ⟨hb l hl, k, (hχ l (hb l hl)).mpr hl⟩, by simpa using c⟩
        rw [e] at this
        cases this
      rw [this]; exact List.mem_cons_self
    | cons l r =>
      have hl : l ∈ (ct_EL P n χ).filter (fun l => decide (sq_ln P l = i)) := by rw [e]; exact List.mem_cons_self
      rw [List.mem_filter] at hl
      obtain ⟨l1, l2, l3⟩ := ct_EL_mem.mp hl.1
      have l4 : sq_ln P l = i := by simpa using hl.2
      have lh := (hχ l l1).mp l3
      subst l4
      rw [sq_dg_load l2 (by omega) nd lh]
      have o6 : ∀ e, e ∈ sq_old h l → e < 6 := fun e he => h6 e (sq_old_sub he)
      have om : ∀ x m, sq_ls P x (sq_old h l) = some m → sq_vl P m ∈ (ct_DS P n χ).map (sq_vl P) := by
        intro x m c
        obtain ⟨q1, q2, _, _⟩ := sq_ls_some (sq_old_nd nd) c
        exact List.mem_map.mpr ⟨m, inD m (sq_old_sub q1) q2, rfl⟩
      show _ ∈ sq_vo P (sq_own P (sq_th P l) (sq_vr P l) l) :: _
      unfold sq_rd
      cases ho : sq_own P (sq_th P l) (sq_vr P l) l with
      | none =>
        show sq_dg P (sq_old h l) (6 + sq_vr P l) ∈ _
        rw [sq_dg_mem o6]
        cases c : sq_ls P (sq_vr P l) (sq_old h l) with
        | none => exact List.mem_cons_self
        | some m => exact List.mem_cons_of_mem _ (om _ m c)
      | some o =>
        show (if o ∈ sq_old h l then _ else _) ∈ _
        by_cases d : o ∈ sq_old h l
        · rw [if_pos d, sq_dg_mem o6]
          cases c : sq_ls P (sq_vr P l) (sq_old h l) with
          | none =>
            obtain ⟨_, _, o3, o4, _⟩ := sq_own_some ho
            exact absurd ⟨o3, o4⟩ (sq_ls_none c o d)
          | some m => exact List.mem_cons_of_mem _ (om _ m c)
        · rw [if_neg d]; exact List.mem_cons_self
  · rw [if_neg i6]
    obtain ⟨x, rfl⟩ : ∃ x, i = 6 + x := ⟨i - 6, by omega⟩
    rw [sq_dg_mem h6, show 6 + x - 6 = x by omega]
    cases c : sq_ls P x h with
    | none =>
      have : (ct_DS P n χ).filter (fun j => decide (sq_vr P j = x)) = [] := by
        rw [List.filter_eq_nil_iff]
        intro j hj d
        obtain ⟨j1, j2, j3⟩ := ct_DS_mem.mp hj
        exact sq_ls_none c j ((hχ j j1).mp j3) ⟨j2, by simpa using d⟩
      rw [this]; exact List.mem_cons_self
    | some m =>
      obtain ⟨q1, q2, q3, _⟩ := sq_ls_some nd c
      have : sq_vl P m ∈ ((ct_DS P n χ).filter (fun j => decide (sq_vr P j = x))).map (sq_vl P) :=
        List.mem_map.mpr ⟨m, List.mem_filter.mpr ⟨inD m q1 q2, by simpa using q3⟩, rfl⟩
      show sq_vl P m ∈ _
      revert this
      cases ((ct_DS P n χ).filter (fun j => decide (sq_vr P j = x))).map (sq_vl P) with
      | nil => intro q; cases q
      | cons a r => exact id
def ct_mx (a : Nat) : Nat := if a = 0 then 1 else a
def ct_Mt : Nat → Nat
  | 0 => 1
  | 1 => 1
  | 2 => 2
  | 3 => 3
  | 4 => 4
  | 5 => 6
  | _ => 9
def ct_w (D E : Nat) : Nat := (1 + D) ^ E * ct_Mt D
theorem ct_mx3 : ∀ a, a < 7 → ∀ b, b < 7 → ∀ c, c < 7 → a + b + c ≤ 6 → ct_mx a * ct_mx b * ct_mx c ≤ ct_Mt (a + b + c) := by decide +kernel
theorem ct_or0_len (L : List Nat) : (ct_or0 L).length = ct_mx L.length := by
  cases L with
  | nil => rfl
  | cons a r => unfold ct_mx; rw [if_neg (by simp)]; rfl
theorem ct_lc_len (P : sq_PG) (D L : List Nat) : (ct_lc P D L).length ≤ (1 + D.length) ^ L.length := by
  cases L with
  | nil => exact Nat.le_refl _
  | cons a r =>
    show (_ :: D.map (sq_vl P)).length ≤ _
    rw [List.length_cons, List.length_map, List.length_cons, Nat.pow_succ, Nat.add_comm]
    exact Nat.le_mul_of_pos_left _ (Nat.pow_pos (by omega))
theorem ct_len {P : sq_PG} {n : Nat} {χ : Nat → Bool} (ok : sq_ok P n) : (ct_pr (ct_ch P n χ) 9).length ≤ ct_w (ct_DS P n χ).length (ct_EL P n χ).length := by
  have hE := ct_split (sq_ln P) 6 (ct_EL P n χ) (fun l hl => by
    have := (ct_EL_mem.mp hl).1
    have := sq_ln_le P l
    have := ok.1
    omega)
  have hD := ct_split (sq_vr P) 3 (ct_DS P n χ) (fun j hj => by
    have := (ok.2.1 j (ct_DS_mem.mp hj).1).2.2.1
    omega)
  have hD6 : (ct_DS P n χ).length ≤ 6 := by
    have : (ct_DS P n χ).length ≤ (List.range n).length := List.length_filter_le _ _
    rw [List.length_range] at this
    have := ok.1
    omega
  have lo : ∀ i, i < 6 → (ct_ch P n χ i).length ≤ (1 + (ct_DS P n χ).length) ^ ((ct_EL P n χ).filter (fun l => decide (sq_ln P l = i))).length := by
    intro i hi
    unfold ct_ch; rw [if_pos hi]; exact ct_lc_len _ _ _
  have hi : ∀ x, (ct_ch P n χ (6 + x)).length = ct_mx ((ct_DS P n χ).filter (fun j => decide (sq_vr P j = x))).length := by
    intro x
    unfold ct_ch; rw [if_neg (by omega), ct_or0_len, List.length_map, show 6 + x - 6 = x by omega]
  generalize (ct_DS P n χ).length = D at hD hD6 lo ⊢
  -- six loads
  have low : ∀ k, k ≤ 6 → (ct_pr (ct_ch P n χ) k).length ≤ (1 + D) ^ (ct_S k (fun i => ((ct_EL P n χ).filter (fun l => decide (sq_ln P l = i))).length)) := by
    intro k
    induction k with
    | zero => intro _; exact Nat.le_refl _
    | succ k ih =>
      intro hk
      refine Nat.le_trans (ct_pr_len _ _) ?_
      show _ ≤ (1 + D) ^ (ct_S k _ + _)
      rw [Nat.pow_add]
      exact Nat.mul_le_mul (ih (by omega)) (lo k (by omega))
  have l6 := low 6 (Nat.le_refl _)
  rw [← hE] at l6
  have l7 := ct_pr_len (ct_ch P n χ) 6
  have l8 := ct_pr_len (ct_ch P n χ) 7
  have l9 := ct_pr_len (ct_ch P n χ) 8
  have e6 := hi 0
  have e7 := hi 1
  have e8 := hi 2
  rw [show 6 + 0 = 6 by omega] at e6
  rw [show 6 + 1 = 7 by omega] at e7
  rw [show 6 + 2 = 8 by omega] at e8
  have hD' : D = ((ct_DS P n χ).filter (fun j => decide (sq_vr P j = 0))).length + ((ct_DS P n χ).filter (fun j => decide (sq_vr P j = 1))).length + ((ct_DS P n χ).filter (fun j => decide (sq_vr P j = 2))).length := by
    rw [hD]
    simp only [ct_S, Nat.zero_add]
  rw [e6] at l7
  rw [e7] at l8
  rw [e8] at l9
  generalize ((ct_DS P n χ).filter (fun j => decide (sq_vr P j = 0))).length = x0 at l7 hD'
  generalize ((ct_DS P n χ).filter (fun j => decide (sq_vr P j = 1))).length = x1 at l8 hD'
  generalize ((ct_DS P n χ).filter (fun j => decide (sq_vr P j = 2))).length = x2 at l9 hD'
  have m3 := ct_mx3 x0 (by omega) x1 (by omega) x2 (by omega) (by omega)
  rw [← hD'] at m3
  unfold ct_w
  refine Nat.le_trans l9 ?_
  refine Nat.le_trans (Nat.mul_le_mul_right _ (Nat.le_trans l8 (Nat.mul_le_mul_right _ l7))) ?_
  rw [Nat.mul_assoc, Nat.mul_assoc]
  refine Nat.mul_le_mul l6 ?_
  rw [← Nat.mul_assoc]
  exact m3
theorem ct_w192 : ∀ D, D < 7 → ∀ E, E < 7 → D + E ≤ 6 → ct_w D E ≤ 192 := by decide +kernel
/-- at most 192 outcomes -/
theorem ct_outs {P : sq_PG} {n : Nat} (ok : sq_ok P n) {L : List Nat} (nd : L.Nodup) (h : ∀ m, m ∈ L → ∃ H : List Nat, H.Nodup ∧ (∀ j, j ∈ H ↔ j < n) ∧ m = sx_en 9 (sq_dg P H)) : L.length ≤ 192 := by
  have sub : ∀ m, m ∈ L → m ∈ ct_pr (ct_ch P n (fun _ => true)) 9 := by
    intro m hm
    obtain ⟨H, h1, h2, h3⟩ := h m hm
    rw [h3]
    exact ct_mem ok.1 h1 (fun j hj => (h2 j).mp hj) (fun j hj => ⟨fun _ => (h2 j).mpr hj, fun _ => rfl⟩)
  have h1 := tl_nd_len nd sub
  have h2 := ct_len (χ := fun _ => true) ok
  have h3 : (ct_DS P n (fun _ => true)).length + (ct_EL P n (fun _ => true)).length ≤ n := by
    have key : ∀ l : List Nat, (l.filter (fun j => decide (sq_kd P j = 0) && true)).length + (l.filter (fun j => decide (sq_kd P j = 1) && true)).length ≤ l.length := by
      intro l
      induction l with
      | nil => exact Nat.le_refl _
      | cons a l ih =>
        rw [List.filter_cons, List.filter_cons, List.length_cons]
        by_cases k0 : sq_kd P a = 0
        · simp only [k0]; simp; simp at ih; omega
        · by_cases k1 : sq_kd P a = 1
          · simp only [k1]; simp; simp at ih; omega
          · simp only [k0, k1]; simp; simp at ih; omega
    have := key (List.range n)
    rw [List.length_range] at this
    exact this
  have := ok.1
  exact Nat.le_trans h1 (Nat.le_trans h2 (ct_w192 _ (by omega) _ (by omega) (by omega)))
end
section
/-! counting: at most 4096 states -/
def ct_ex (K : Nat → Nat) (t : Nat) : Nat → Nat
  | 0 => 0
  | a + 1 => ct_ex K t a + (if K (12 * t + a) = 1 then 1 else 0)
def ct_Z (φ : Nat → Nat → Nat) (i e : Nat) : Nat := ct_S (i + 1) (fun d => φ d e)
def ct_th (K : Nat → Nat) (t L : Nat) (φ : Nat → Nat → Nat) : Nat := ct_S (L + 1) (fun a => ct_Z φ (sx_is K t a) (ct_ex K t a))
def ct_tl {α : Type} (K : Nat → Nat) (t L : Nat) (F : Nat → Nat → List α) : List α := (List.range (L + 1)).flatMap (fun a => (List.range (sx_is K t a + 1)).flatMap (fun d => F a d))
theorem ct_tl_mem {α : Type} {K : Nat → Nat} {t L : Nat} {F : Nat → Nat → List α} {a d : Nat} {x : α} (ha : a ≤ L) (hd : d ≤ sx_is K t a) (hx : x ∈ F a d) : x ∈ ct_tl K t L F := by
  unfold ct_tl
  rw [List.mem_flatMap]
  refine ⟨a, List.mem_range.mpr (by omega), ?_⟩
  rw [List.mem_flatMap]
  exact ⟨d, List.mem_range.mpr (by omega), hx⟩
theorem ct_fm_S {α : Type} {f : Nat → List α} {g : Nat → Nat} : ∀ {k : Nat}, (∀ i, i < k → (f i).length ≤ g i) → ((List.range k).flatMap f).length ≤ ct_S k g := by
  intro k
  induction k with
  | zero => intro _; exact Nat.le_refl _
  | succ k ih =>
    intro h
    rw [List.range_succ, List.flatMap_append, List.length_append]
    refine Nat.add_le_add (ih (fun i hi => h i (by omega))) ?_
    rw [List.flatMap_cons, List.flatMap_nil, List.append_nil]
    exact h k (by omega)
theorem ct_tl_len {α : Type} {K : Nat → Nat} {t L : Nat} {F : Nat → Nat → List α} {φ : Nat → Nat → Nat} (h : ∀ a, a ≤ L → ∀ d, d ≤ sx_is K t a → (F a d).length ≤ φ d (ct_ex K t a)) : (ct_tl K t L F).length ≤ ct_th K t L φ :=
  ct_fm_S (fun a ha => ct_fm_S (fun d hd => h a (by omega) d (by omega)))
theorem ct_Z_le {φ φ' : Nat → Nat → Nat} {i e e' : Nat} (h : ∀ d, φ d e ≤ φ' d e') : ct_Z φ i e ≤ ct_Z φ' i e' := ct_S_le (fun d _ => h d)
theorem ct_th_le {K : Nat → Nat} {t L : Nat} {φ φ' : Nat → Nat → Nat} (h : ∀ d e, φ d e ≤ φ' d e) : ct_th K t L φ ≤ ct_th K t L φ' := ct_S_le (fun _ _ => ct_Z_le (fun d => h d _))
def ct_B (φ : Nat → Nat → Nat) : List Bool → Nat → Nat → Nat
  | [], i, e => ct_Z φ i e
  | b :: bs, i, e => 2 * ct_Z φ i e + ct_B φ bs (if b = true then i + 1 else i) (if b = true then e else e + 1)
def ct_A (φ : Nat → Nat → Nat) : List Bool → Nat
  | [] => ct_Z φ 0 0
  | b :: bs => ct_Z φ 0 0 + ct_B φ bs (if b = true then 1 else 0) (if b = true then 0 else 1)
theorem ct_B_le {φ φ' : Nat → Nat → Nat} (h : ∀ d e, φ d e ≤ φ' d e) : ∀ (bs : List Bool) (i e : Nat), ct_B φ bs i e ≤ ct_B φ' bs i e := by
  intro bs
  induction bs with
  | nil => intro i e; exact ct_Z_le (fun d => h d e)
  | cons b bs ih =>
    intro i e
    exact Nat.add_le_add (Nat.mul_le_mul_left 2 (ct_Z_le (fun d => h d e))) (ih _ _)
theorem ct_A_le {φ φ' : Nat → Nat → Nat} (h : ∀ d e, φ d e ≤ φ' d e) : ∀ (bs : List Bool), ct_A φ bs ≤ ct_A φ' bs := by
  intro bs
  cases bs with
  | nil => exact ct_Z_le (fun d => h d 0)
  | cons b bs => exact Nat.add_le_add (ct_Z_le (fun d => h d 0)) (ct_B_le h _ _ _)
theorem ct_S_hd {f : Nat → Nat} : ∀ {k : Nat}, ct_S (k + 1) f = f 0 + ct_S k (fun i => f (i + 1)) := by
  intro k
  induction k with
  | zero => show 0 + f 0 = f 0 + 0; omega
  | succ k ih =>
    show ct_S (k + 1) f + f (k + 1) = f 0 + (ct_S k (fun i => f (i + 1)) + f (k + 1))
    rw [ih]; omega
/-- the sum from place a on -/
def ct_T (f : Nat → Nat) (L a : Nat) : Nat := ct_S (L + 1 - a) (fun i => f (a + i))
theorem ct_T_s {f : Nat → Nat} {L a : Nat} (h : a ≤ L) : ct_T f L a = f a + ct_T f L (a + 1) := by
  unfold ct_T
  rw [show L + 1 - a = (L + 1 - (a + 1)) + 1 by omega, ct_S_hd]
  have : (fun i => f (a + (i + 1))) = fun i => f (a + 1 + i) := funext fun i => congrArg f (by omega)
  rw [this]; rfl
theorem ct_T_e {f : Nat → Nat} {L : Nat} : ct_T f L L = f L := by
  rw [ct_T_s (Nat.le_refl _)]
  unfold ct_T
  rw [show L + 1 - (L + 1) = 0 by omega]; rfl
def ct_bl (P : sq_PG) : Nat → Nat → List Bool
  | 0, _ => []
  | m + 1, j => decide (sq_kd P j = 0) :: ct_bl P m (j + 1)
theorem ct_bl_len (P : sq_PG) : ∀ m j, (ct_bl P m j).length = m := by
  intro m
  induction m with
  | zero => intro _; rfl
  | succ m ih => intro j; show (ct_bl P m (j + 1)).length + 1 = _; rw [ih]
section
variable {P : sq_PG} {n : Nat} {G : Nat → Bool} {len K X V N : Nat → Nat} {str : Prop}
theorem ct_thr (ok : sq_ok P n) (lk : sq_lk P n G len K X V N) {t o k : Nat} (t4 : t < 4) (ho : ∀ j, (j < n ∧ sq_th P j = t) ↔ (o ≤ j ∧ j < o + k)) {φ : Nat → Nat → Nat} (hφ : ∀ d e e', e ≤ e' → φ d e ≤ φ d e') :
    ct_th K t (len t) φ ≤ ct_A φ (ct_bl P k o) := by
  have exs : ∀ a, K (12 * t + a) = 1 → ct_ex K t (a + 1) = ct_ex K t a + 1 := fun a h => by
    show ct_ex K t a + (if K (12 * t + a) = 1 then 1 else 0) = _
    rw [if_pos h]
  have exn : ∀ a, ¬ K (12 * t + a) = 1 → ct_ex K t (a + 1) = ct_ex K t a := fun a h => by
    show ct_ex K t a + (if K (12 * t + a) = 1 then 1 else 0) = _
    rw [if_neg h]; rfl
  have key : ∀ r j, j < n → sq_th P j = t → j + r + 1 = o + k → ∀ e', ct_ex K t (sq_ps P G j + 1) ≤ e' →
      ct_T (fun a => ct_Z φ (sx_is K t a) (ct_ex K t a)) (len t) (sq_ps P G j + 1) ≤ ct_B φ (ct_bl P r (j + 1)) (sx_is K t (sq_ps P G j + 1)) e' := by
    intro r
    induction r with
    | zero =>
      intro j hj tj hr e' he
      have pj := (lk.1 j hj).1
      rw [tj] at pj
      have el : len t = sq_ps P G j + 1 := by
        apply Classical.byContradiction
        intro c
        rcases lk.2.1 t (sq_ps P G j + 1) t4 (by omega) with ⟨b, b1, b2, b3⟩ | ⟨_, b, b1, b2, b3, b4, b5⟩
        · have := sq_ps_ord (G := G) ok hj b1 (tj.trans b2.symm) (by omega)
          have := (ho b).mp ⟨b1, b2⟩
          omega
        · have h1 := (ho (b + 1)).mp ⟨b1, b3⟩
          have h2 := sq_ps_inj (G := G) ok hj (by omega) (tj.trans b2.symm) (by omega)
          omega
      rw [← el, ct_T_e]
      rw [← el] at he
      exact ct_Z_le (fun d => hφ d _ _ he)
    | succ r ih =>
      intro j hj tj hr e' he
      obtain ⟨h1, h2⟩ := (ho (j + 1)).mpr ⟨by have := (ho j).mp ⟨hj, tj⟩; omega, by omega⟩
      have ps := sq_ps_s (G := G) (h2.trans tj.symm)
      have l1 := lk.1 (j + 1) h1
      rw [h2] at l1
      -- the next instruction's step
      have nx : ∀ e1, ct_ex K t (sq_ps P G (j + 1)) ≤ e1 → ct_T (fun a => ct_Z φ (sx_is K t a) (ct_ex K t a)) (len t) (sq_ps P G (j + 1) + 1) ≤
          ct_B φ (ct_bl P r (j + 1 + 1)) (if decide (sq_kd P (j + 1) = 0) = true then sx_is K t (sq_ps P G (j + 1)) + 1 else sx_is K t (sq_ps P G (j + 1))) (if decide (sq_kd P (j + 1) = 0) = true then e1 else e1 + 1) := by
        intro e1 he1
        by_cases k0 : sq_kd P (j + 1) = 0
        · have kk : K (12 * t + sq_ps P G (j + 1)) = 0 := by rw [l1.2.1, k0]
          rw [if_pos (by simpa using k0), if_pos (by simpa using k0), ← sx_is_s kk]
          exact ih (j + 1) h1 h2 (by omega) e1 (by rw [exn _ (by omega)]; exact he1)
        · have kk : ¬ K (12 * t + sq_ps P G (j + 1)) = 0 := by rw [l1.2.1]; exact k0
          rw [if_neg (by simpa using k0), if_neg (by simpa using k0), ← sx_is_n kk]
          refine ih (j + 1) h1 h2 (by omega) (e1 + 1) ?_
          by_cases k1 : K (12 * t + sq_ps P G (j + 1)) = 1
          · rw [exs _ k1]; omega
          · rw [exn _ k1]; omega
      show _ ≤ 2 * ct_Z φ (sx_is K t (sq_ps P G j + 1)) e' + _
      by_cases g : G j = true
      · rw [if_pos g] at ps
        have k2 : K (12 * t + (sq_ps P G j + 1)) = 2 := by
          rcases lk.2.1 t (sq_ps P G j + 1) t4 (by omega) with ⟨b, b1, b2, b3⟩ | q
          · exact absurd b3 (sq_ps_nf ok h1 b1 (h2.trans tj.symm) (b2.trans tj.symm) g)
          · exact q.1
        have i2 : sx_is K t (sq_ps P G (j + 1)) = sx_is K t (sq_ps P G j + 1) := by
          rw [ps]; exact sx_is_n (by omega)
        have e2 : ct_ex K t (sq_ps P G (j + 1)) = ct_ex K t (sq_ps P G j + 1) := by
          rw [ps]; exact exn _ (by omega)
        have t1 : ct_T (fun a => ct_Z φ (sx_is K t a) (ct_ex K t a)) (len t) (sq_ps P G j + 1) = ct_Z φ (sx_is K t (sq_ps P G j + 1)) (ct_ex K t (sq_ps P G j + 1)) +
            ct_T (fun a => ct_Z φ (sx_is K t a) (ct_ex K t a)) (len t) (sq_ps P G (j + 1)) := by
          rw [ct_T_s (by omega), ps]
        have t2 : ct_T (fun a => ct_Z φ (sx_is K t a) (ct_ex K t a)) (len t) (sq_ps P G (j + 1)) = ct_Z φ (sx_is K t (sq_ps P G j + 1)) (ct_ex K t (sq_ps P G j + 1)) +
            ct_T (fun a => ct_Z φ (sx_is K t a) (ct_ex K t a)) (len t) (sq_ps P G (j + 1) + 1) := by
          rw [ct_T_s (by omega), i2, e2]
        have t3 := nx e' (by rw [e2]; exact he)
        rw [i2] at t3
        have z : ct_Z φ (sx_is K t (sq_ps P G j + 1)) (ct_ex K t (sq_ps P G j + 1)) ≤ ct_Z φ (sx_is K t (sq_ps P G j + 1)) e' := ct_Z_le (fun d => hφ d _ _ he)
        rw [t1, t2]
        omega
      · rw [if_neg g, Nat.add_zero] at ps
        rw [← ps] at he ⊢
        rw [ct_T_s (by omega)]
        have t3 := nx e' he
        have z : ct_Z φ (sx_is K t (sq_ps P G (j + 1))) (ct_ex K t (sq_ps P G (j + 1))) ≤ ct_Z φ (sx_is K t (sq_ps P G (j + 1))) e' := ct_Z_le (fun d => hφ d _ _ he)
        omega
  have e0 : ct_th K t (len t) φ = ct_T (fun a => ct_Z φ (sx_is K t a) (ct_ex K t a)) (len t) 0 := by
    unfold ct_th ct_T
    rw [Nat.sub_zero]
    congr 1
    funext i
    rw [Nat.zero_add]
  rw [e0]
  cases k with
  | zero =>
    have : len t = 0 := by
      apply Classical.byContradiction
      intro c
      rcases lk.2.1 t 0 t4 (by omega) with ⟨b, b1, b2, b3⟩ | ⟨_, b, b1, b2, b3, b4, b5⟩
      · have := (ho b).mp ⟨b1, b2⟩; omega
      · have := (ho (b + 1)).mp ⟨b1, b3⟩; omega
    rw [this, ct_T_e]
    exact Nat.le_refl _
  | succ k =>
    obtain ⟨h1, h2⟩ := (ho o).mpr ⟨Nat.le_refl _, by omega⟩
    have p0 : sq_ps P G o = 0 := by
      cases o with
      | zero => rfl
      | succ o =>
        show (if sq_th P (o + 1) = sq_th P o then _ else _) = _
        rw [if_neg]
        intro c
        have := (ho o).mp ⟨by omega, c.symm.trans h2⟩
        omega
    have l1 := lk.1 o h1
    rw [h2, p0] at l1
    rw [ct_T_s (by omega)]
    show ct_Z φ 0 0 + _ ≤ ct_Z φ 0 0 + ct_B φ (ct_bl P k (o + 1)) (if decide (sq_kd P o = 0) = true then 1 else 0) (if decide (sq_kd P o = 0) = true then 0 else 1)
    apply Nat.add_le_add_left
    have q := key k o h1 h2 (by omega)
    rw [p0] at q
    by_cases k0 : sq_kd P o = 0
    · rw [if_pos (by simpa using k0), if_pos (by simpa using k0)]
      have kk : K (12 * t + 0) = 0 := by rw [l1.2.1, k0]
      have := q 0 (by rw [exn _ (by omega)]; exact Nat.le_refl _)
      rw [sx_is_s kk] at this
      exact this
    · rw [if_neg (by simpa using k0), if_neg (by simpa using k0)]
      have kk : ¬ K (12 * t + 0) = 0 := by rw [l1.2.1]; exact k0
      have := q 1 (by
        by_cases k1 : K (12 * t + 0) = 1
        · rw [exs _ k1]; exact Nat.le_refl _
        · rw [exn _ k1]; exact Nat.zero_le _)
      rw [sx_is_n kk] at this
      exact this
end
theorem ct_Mt_s : ∀ D, ct_Mt D ≤ ct_Mt (D + 1) := by
  intro D
  match D with
  | 0 => decide
  | 1 => decide
  | 2 => decide
  | 3 => decide
  | 4 => decide
  | 5 => decide
  | D + 6 => exact Nat.le_refl _
theorem ct_Mt_le {D : Nat} : ∀ {D' : Nat}, D ≤ D' → ct_Mt D ≤ ct_Mt D' := by
  intro D'
  induction D' with
  | zero => intro h; have : D = 0 := by omega
            subst this; exact Nat.le_refl _
  | succ D' ih =>
    intro h
    by_cases c : D = D' + 1
    · subst c; exact Nat.le_refl _
    · exact Nat.le_trans (ih (by omega)) (ct_Mt_s D')
theorem ct_w_le {D D' E E' : Nat} (hD : D ≤ D') (hE : E ≤ E') : ct_w D E ≤ ct_w D' E' := by
  unfold ct_w
  refine Nat.mul_le_mul ?_ (ct_Mt_le hD)
  exact Nat.le_trans (Nat.pow_le_pow_left (by omega) E) (Nat.pow_le_pow_right (by omega) hE)
def ct_W4 (l0 l1 l2 l3 : List Bool) : Nat :=
  ct_A (fun d0 e0 => ct_A (fun d1 e1 => ct_A (fun d2 e2 => ct_A (fun d3 e3 => ct_w (d0 + d1 + d2 + d3) (e0 + e1 + e2 + e3)) l3) l2) l1) l0
def ct_ll : Nat → List (List Bool)
  | 0 => [[]]
  | k + 1 => (ct_ll k).map (fun l => true :: l) ++ (ct_ll k).map (fun l => false :: l)
theorem ct_ll_mem : ∀ l : List Bool, l ∈ ct_ll l.length := by
  intro l
  induction l with
  | nil => exact List.mem_cons_self
  | cons b l ih =>
    show _ ∈ (ct_ll l.length).map _ ++ (ct_ll l.length).map _
    rw [List.mem_append, List.mem_map, List.mem_map]
    cases b with
    | true => exact Or.inl ⟨l, ih, rfl⟩
    | false => exact Or.inr ⟨l, ih, rfl⟩
def ct_chk (a b c d : Nat) : Bool := (ct_ll a).all fun l0 => (ct_ll b).all fun l1 => (ct_ll c).all fun l2 => (ct_ll d).all fun l3 => Nat.ble (ct_W4 l0 l1 l2 l3) 4096
end
section
/-! the kernel counts all shapes of at most six -/
theorem ct_all : ∀ a, a < 7 → ∀ b, b < 7 → ∀ c, c < 7 → ∀ d, d < 7 → a + b + c + d ≤ 6 → ct_chk a b c d = true := by decide +kernel
theorem ct_W4_le {l0 l1 l2 l3 : List Bool} (h : l0.length + l1.length + l2.length + l3.length ≤ 6) : ct_W4 l0 l1 l2 l3 ≤ 4096 := by
  have := ct_all l0.length (by omega) l1.length (by omega) l2.length (by omega) l3.length (by omega) h
  unfold ct_chk at this
  rw [List.all_eq_true] at this
  have h0 := this l0 (ct_ll_mem l0)
  rw [List.all_eq_true] at h0
  have h1 := h0 l1 (ct_ll_mem l1)
  rw [List.all_eq_true] at h1
  have h2 := h1 l2 (ct_ll_mem l2)
  rw [List.all_eq_true] at h2
  exact Nat.le_of_ble_eq_true (h2 l3 (ct_ll_mem l3))
theorem tl_nd_map {α β : Type} {f : α → β} : ∀ {L : List α}, L.Nodup → (∀ a b, a ∈ L → b ∈ L → f a = f b → a = b) → (L.map f).Nodup := by
  intro L
  induction L with
  | nil => intro _ _; exact List.nodup_nil
  | cons a L ih =>
    intro nd h
    rw [List.nodup_cons] at nd
    rw [List.map_cons, List.nodup_cons]
    refine ⟨fun c => ?_, ih nd.2 (fun x y hx hy => h x y (List.mem_cons_of_mem _ hx) (List.mem_cons_of_mem _ hy))⟩
    obtain ⟨b, hb, e⟩ := List.mem_map.mp c
    have := h b a (List.mem_cons_of_mem _ hb) List.mem_cons_self e
    exact nd.1 (this ▸ hb)
theorem ct_ex_len (K : Nat → Nat) (t : Nat) : ∀ a, ((List.range a).filter (fun i => decide (K (12 * t + i) = 1))).length = ct_ex K t a := by
  intro a
  induction a with
  | zero => rfl
  | succ a ih =>
    rw [List.range_succ, List.filter_append, List.length_append, ih]
    show _ = ct_ex K t a + (if K (12 * t + a) = 1 then 1 else 0)
    by_cases c : K (12 * t + a) = 1
    · rw [if_pos c, List.filter_cons_of_pos (by simpa using c)]; rfl
    · rw [if_neg c, List.filter_cons_of_neg (by simpa using c)]; rfl
def ct_f4 (a0 a1 a2 a3 t : Nat) : Nat := if t = 0 then a0 else if t = 1 then a1 else if t = 2 then a2 else a3
def ct_xi (P : sq_PG) (G : Nat → Bool) (K : Nat → Nat) (p j : Nat) : Bool :=
  if sq_kd P j = 0 then decide (sx_is K (sq_th P j) (sq_ps P G j) < sx_dn p (sq_th P j)) else decide (sq_ps P G j < sx_at p (sq_th P j))
def ct_sz (P : sq_PG) (n : Nat) (o k : Nat → Nat) : Prop := (∀ t, t < 4 → ∀ j, (j < n ∧ sq_th P j = t) ↔ (o t ≤ j ∧ j < o t + k t)) ∧ k 0 + k 1 + k 2 + k 3 ≤ 6
section
variable {P : sq_PG} {n : Nat} {G : Nat → Bool} {len K X V N : Nat → Nat} {str : Prop}
/-- the contents of one place vector -/
theorem ct_one (ok : sq_ok P n) (lk : sq_lk P n G len K X V N) {a d : Nat → Nat} (ha : ∀ t, t < 4 → a t ≤ len t) (hd : ∀ t, t < 4 → d t ≤ sx_is K t (a t)) :
    (ct_pr (ct_ch P n (ct_xi P G K (sx_pc a d))) 9).length ≤ ct_w (d 0 + d 1 + d 2 + d 3) (ct_ex K 0 (a 0) + ct_ex K 1 (a 1) + ct_ex K 2 (a 2) + ct_ex K 3 (a 3)) := by
  have ba : ∀ t, t < 4 → a t < 16 := fun t ht => by have := ha t ht; have := lk.2.2 t ht; omega
  have bd : ∀ t, t < 4 → d t < 8 := fun t ht => by have := hd t ht; have := sx_is6 ok lk ht (ha t ht); omega
  have ea : ∀ t, t < 4 → sx_at (sx_pc a d) t = a t := fun t ht => sx_at_pc ba bd ht
  have ed : ∀ t, t < 4 → sx_dn (sx_pc a d) t = d t := fun t ht => sx_dn_pc ba bd ht
  generalize sx_pc a d = p at ea ed ⊢
  refine Nat.le_trans (ct_len ok) (ct_w_le ?_ ?_)
  · rw [ct_split (sq_th P) 4 (ct_DS P n (ct_xi P G K p)) (fun j hj => (ok.2.1 j (ct_DS_mem.mp hj).1).1)]
    have one : ∀ t, t < 4 → ((ct_DS P n (ct_xi P G K p)).filter (fun j => decide (sq_th P j = t))).length ≤ d t := by
      intro t t4
      have mem : ∀ j, j ∈ (ct_DS P n (ct_xi P G K p)).filter (fun j => decide (sq_th P j = t)) → j < n ∧ sq_kd P j = 0 ∧ sq_th P j = t ∧ sx_is K t (sq_ps P G j) < d t := by
        intro j hj
        rw [List.mem_filter] at hj
        obtain ⟨j1, j2, j3⟩ := ct_DS_mem.mp hj.1
        have j4 : sq_th P j = t := by simpa using hj.2
        unfold ct_xi at j3
        rw [if_pos j2, j4, ed t t4] at j3
        exact ⟨j1, j2, j4, by simpa using j3⟩
      have nd : ((ct_DS P n (ct_xi P G K p)).filter (fun j => decide (sq_th P j = t))).Nodup := List.Pairwise.filter _ (List.Pairwise.filter _ List.nodup_range)
      have := tl_nd_len (B := List.range (d t)) (tl_nd_map (f := fun j => sx_is K t (sq_ps P G j)) nd (fun x y hx hy e => by
          obtain ⟨x1, x2, x3, _⟩ := mem x hx
          obtain ⟨y1, y2, y3, _⟩ := mem y hy
          have kx := sq_stK lk x1 x2
          have ky := sq_stK lk y1 y2
          rw [x3] at kx
          rw [y3] at ky
          exact sq_ps_inj (G := G) ok x1 y1 (x3.trans y3.symm) (sx_is_inj kx ky e))) (fun i hi => by
          obtain ⟨j, hj, e⟩ := List.mem_map.mp hi
          rw [← e, List.mem_range]
          exact (mem j hj).2.2.2)
      rw [List.length_map, List.length_range] at this
      exact this
    have z0 := one 0 (by omega)
    have z1 := one 1 (by omega)
    have z2 := one 2 (by omega)
    have z3 := one 3 (by omega)
    simp only [ct_S, Nat.zero_add]
    omega
  · rw [ct_split (sq_th P) 4 (ct_EL P n (ct_xi P G K p)) (fun j hj => (ok.2.1 j (ct_EL_mem.mp hj).1).1)]
    have one : ∀ t, t < 4 → ((ct_EL P n (ct_xi P G K p)).filter (fun j => decide (sq_th P j = t))).length ≤ ct_ex K t (a t) := by
      intro t t4
      have mem : ∀ j, j ∈ (ct_EL P n (ct_xi P G K p)).filter (fun j => decide (sq_th P j = t)) → j < n ∧ sq_kd P j = 1 ∧ sq_th P j = t ∧ sq_ps P G j < a t := by
        intro j hj
        rw [List.mem_filter] at hj
        obtain ⟨j1, j2, j3⟩ := ct_EL_mem.mp hj.1
        have j4 : sq_th P j = t := by simpa using hj.2
        unfold ct_xi at j3
        rw [if_neg (by omega), j4, ea t t4] at j3
        exact ⟨j1, j2, j4, by simpa using j3⟩
      have nd : ((ct_EL P n (ct_xi P G K p)).filter (fun j => decide (sq_th P j = t))).Nodup := List.Pairwise.filter _ (List.Pairwise.filter _ List.nodup_range)
      have := tl_nd_len (B := (List.range (a t)).filter (fun i => decide (K (12 * t + i) = 1))) (tl_nd_map (f := fun j => sq_ps P G j) nd (fun x y hx hy e => by
          obtain ⟨x1, x2, x3, _⟩ := mem x hx
          obtain ⟨y1, y2, y3, _⟩ := mem y hy
          exact sq_ps_inj (G := G) ok x1 y1 (x3.trans y3.symm) e)) (fun i hi => by
          obtain ⟨j, hj, e⟩ := List.mem_map.mp hi
          obtain ⟨j1, j2, j3, j4⟩ := mem j hj
          rw [← e, List.mem_filter, List.mem_range]
          have := (lk.1 j j1).2.1
          rw [j3, j2] at this
          exact ⟨j4, by simpa using this⟩)
      rw [List.length_map, ct_ex_len] at this
      exact this
    have z0 := one 0 (by omega)
    have z1 := one 1 (by omega)
    have z2 := one 2 (by omega)
    have z3 := one 3 (by omega)
    simp only [ct_S, Nat.zero_add]
    omega
def ct_U (P : sq_PG) (n : Nat) (G : Nat → Bool) (len K : Nat → Nat) : List (Nat × Nat) :=
  ct_tl K 0 (len 0) fun a0 d0 => ct_tl K 1 (len 1) fun a1 d1 => ct_tl K 2 (len 2) fun a2 d2 => ct_tl K 3 (len 3) fun a3 d3 =>
    (ct_pr (ct_ch P n (ct_xi P G K (sx_pc (ct_f4 a0 a1 a2 a3) (ct_f4 d0 d1 d2 d3)))) 9).map (fun m => (sx_pc (ct_f4 a0 a1 a2 a3) (ct_f4 d0 d1 d2 d3), m))
theorem ct_U_len (ok : sq_ok P n) (lk : sq_lk P n G len K X V N) {o k : Nat → Nat} (sz : ct_sz P n o k) : (ct_U P n G len K).length ≤ 4096 := by
  have s1 : (ct_U P n G len K).length ≤ ct_th K 0 (len 0) fun d0 e0 => ct_th K 1 (len 1) fun d1 e1 => ct_th K 2 (len 2) fun d2 e2 => ct_th K 3 (len 3) fun d3 e3 => ct_w (d0 + d1 + d2 + d3) (e0 + e1 + e2 + e3) := by
    refine ct_tl_len (fun a0 ha0 d0 hd0 => ?_)
    refine ct_tl_len (fun a1 ha1 d1 hd1 => ?_)
    refine ct_tl_len (fun a2 ha2 d2 hd2 => ?_)
    refine ct_tl_len (fun a3 ha3 d3 hd3 => ?_)
    rw [List.length_map]
    exact ct_one (a := ct_f4 a0 a1 a2 a3) (d := ct_f4 d0 d1 d2 d3) ok lk
      (fun t ht => by rcases sx_c4 ht with r | r | r | r <;> subst r <;> assumption)
      (fun t ht => by rcases sx_c4 ht with r | r | r | r <;> subst r <;> assumption)
  have s2 : (ct_th K 0 (len 0) fun d0 e0 => ct_th K 1 (len 1) fun d1 e1 => ct_th K 2 (len 2) fun d2 e2 => ct_th K 3 (len 3) fun d3 e3 => ct_w (d0 + d1 + d2 + d3) (e0 + e1 + e2 + e3)) ≤
      ct_W4 (ct_bl P (k 0) (o 0)) (ct_bl P (k 1) (o 1)) (ct_bl P (k 2) (o 2)) (ct_bl P (k 3) (o 3)) := by
    have q3 : ∀ d0 e0 d1 e1 d2 e2, (ct_th K 3 (len 3) fun d3 e3 => ct_w (d0 + d1 + d2 + d3) (e0 + e1 + e2 + e3)) ≤ ct_A (fun d3 e3 => ct_w (d0 + d1 + d2 + d3) (e0 + e1 + e2 + e3)) (ct_bl P (k 3) (o 3)) :=
      fun d0 e0 d1 e1 d2 e2 => ct_thr ok lk (by omega) (sz.1 3 (by omega)) (fun d e e' h => ct_w_le (Nat.le_refl _) (by omega))
    have q2 : ∀ d0 e0 d1 e1, (ct_th K 2 (len 2) fun d2 e2 => ct_A (fun d3 e3 => ct_w (d0 + d1 + d2 + d3) (e0 + e1 + e2 + e3)) (ct_bl P (k 3) (o 3))) ≤
        ct_A (fun d2 e2 => ct_A (fun d3 e3 => ct_w (d0 + d1 + d2 + d3) (e0 + e1 + e2 + e3)) (ct_bl P (k 3) (o 3))) (ct_bl P (k 2) (o 2)) :=
      fun d0 e0 d1 e1 => ct_thr ok lk (by omega) (sz.1 2 (by omega)) (fun d e e' h => ct_A_le (fun _ _ => ct_w_le (Nat.le_refl _) (by omega)) _)
    have q1 : ∀ d0 e0, (ct_th K 1 (len 1) fun d1 e1 => ct_A (fun d2 e2 => ct_A (fun d3 e3 => ct_w (d0 + d1 + d2 + d3) (e0 + e1 + e2 + e3)) (ct_bl P (k 3) (o 3))) (ct_bl P (k 2) (o 2))) ≤
        ct_A (fun d1 e1 => ct_A (fun d2 e2 => ct_A (fun d3 e3 => ct_w (d0 + d1 + d2 + d3) (e0 + e1 + e2 + e3)) (ct_bl P (k 3) (o 3))) (ct_bl P (k 2) (o 2))) (ct_bl P (k 1) (o 1)) :=
      fun d0 e0 => ct_thr ok lk (by omega) (sz.1 1 (by omega)) (fun d e e' h => ct_A_le (fun _ _ => ct_A_le (fun _ _ => ct_w_le (Nat.le_refl _) (by omega)) _) _)
    have q0 : (ct_th K 0 (len 0) fun d0 e0 => ct_A (fun d1 e1 => ct_A (fun d2 e2 => ct_A (fun d3 e3 => ct_w (d0 + d1 + d2 + d3) (e0 + e1 + e2 + e3)) (ct_bl P (k 3) (o 3))) (ct_bl P (k 2) (o 2))) (ct_bl P (k 1) (o 1))) ≤
        ct_W4 (ct_bl P (k 0) (o 0)) (ct_bl P (k 1) (o 1)) (ct_bl P (k 2) (o 2)) (ct_bl P (k 3) (o 3)) :=
      ct_thr ok lk (by omega) (sz.1 0 (by omega)) (fun d e e' h => ct_A_le (fun _ _ => ct_A_le (fun _ _ => ct_A_le (fun _ _ => ct_w_le (Nat.le_refl _) (by omega)) _) _) _)
    refine Nat.le_trans ?_ q0
    refine ct_th_le fun d0 e0 => Nat.le_trans ?_ (q1 d0 e0)
    refine ct_th_le fun d1 e1 => Nat.le_trans ?_ (q2 d0 e0 d1 e1)
    exact ct_th_le fun d2 e2 => q3 d0 e0 d1 e1 d2 e2
  refine Nat.le_trans s1 (Nat.le_trans s2 (ct_W4_le ?_))
  rw [ct_bl_len, ct_bl_len, ct_bl_len, ct_bl_len]
  exact sz.2
/-- no list of different reachable states is longer than 4096 -/
theorem ct_states (ok : sq_ok P n) (lk : sq_lk P n G len K X V N) {o k : Nat → Nat} (sz : ct_sz P n o k) {L : List (Nat × Nat)} (nd : L.Nodup) (h : ∀ s, s ∈ L → sx_R len K X V N str s) : L.length ≤ 4096 := by
  refine Nat.le_trans (tl_nd_len nd (fun s hs => ?_)) (ct_U_len ok lk sz)
  obtain ⟨H, I, e2, e1, _⟩ := sq_RI ok lk (h s hs)
  have i3 := I.2.2.1
  have e1' : sx_pc (ct_f4 (sx_at s.1 0) (sx_at s.1 1) (sx_at s.1 2) (sx_at s.1 3)) (ct_f4 (sx_dn s.1 0) (sx_dn s.1 1) (sx_dn s.1 2) (sx_dn s.1 3)) = s.1 := e1.symm
  unfold ct_U
  refine ct_tl_mem (i3 0 (by omega)).1 (i3 0 (by omega)).2 (ct_tl_mem (i3 1 (by omega)).1 (i3 1 (by omega)).2 (ct_tl_mem (i3 2 (by omega)).1 (i3 2 (by omega)).2 (ct_tl_mem (i3 3 (by omega)).1 (i3 3 (by omega)).2 ?_)))
  rw [e1', List.mem_map]
  refine ⟨s.2, ?_, rfl⟩
  rw [e2]
  refine ct_mem ok.1 I.1 I.2.1 (fun j hj => ?_)
  unfold ct_xi
  by_cases k0 : sq_kd P j = 0
  · rw [if_pos k0, I.2.2.2.2.1 j hj k0]; simp
  · rw [if_neg k0, I.2.2.2.1 j hj k0]; simp
end
end
section
/-! bits of the machine's codes -/
theorem bx_or (a b : Nat) : nI a ||| nI b = nI (a ||| b) := by
  apply b_ext
  intro i hi
  rw [b_or]
  show ((BitVec.ofNat 32 a).getLsbD i || (BitVec.ofNat 32 b).getLsbD i) = (BitVec.ofNat 32 (a ||| b)).getLsbD i
  rw [BitVec.getLsbD_ofNat, BitVec.getLsbD_ofNat, BitVec.getLsbD_ofNat, Nat.testBit_or]
  simp [hi]
theorem bx_nI (n : Nat) {i : Nat} (hi : i < 32) : bt (nI n) i = n.testBit i := by
  show (BitVec.ofNat 32 n).getLsbD i = _
  rw [BitVec.getLsbD_ofNat]; simp [hi]
theorem bx_tb (n i b : Nat) (hb : b < 2) : n.testBit (2 * i + b) = (sx_md n i).testBit b := by
  unfold sx_md
  rw [show (4 : Nat) = 2 ^ 2 from rfl, Nat.testBit_mod_two_pow, show (2 ^ 2) ^ i = 2 ^ (2 * i) from (Nat.pow_mul 2 2 i).symm, Nat.testBit_div_two_pow]
  simp [hb, Nat.add_comm]
theorem bx_s12 : ∀ x, x < 3 → (((12 + (2 * nI x)) &&& 31).toBitVec.smod 32).toNat = 12 + 2 * x := by decide +kernel
theorem bx_s2 : ∀ x, x < 6 → (((2 * nI x) &&& 31).toBitVec.smod 32).toNat = 2 * x := by decide +kernel
theorem bx_s7 : ∀ x, x < 4 → (((7 * nI x) &&& 31).toBitVec.smod 32).toNat = 7 * x := by decide +kernel
theorem bx_s74 : ∀ x, x < 4 → ((((7 * nI x) + 4) &&& 31).toBitVec.smod 32).toNat = 7 * x + 4 := by decide +kernel
theorem bx_in {m x : Nat} (hm : m < 2 ^ 31) (hx : x < 3) : (nI m >>> ((12 + (2 * nI x)) &&& 31)) &&& 3 = nI (sx_md m (6 + x)) := by
  rw [pk_shrN hm _ _ (bx_s12 x hx), pk_andN (Nat.lt_of_le_of_lt (Nat.div_le_self _ _) (by omega)) 2 (by decide)]
  unfold sx_md
  rw [show (4 : Nat) ^ (6 + x) = 2 ^ (12 + 2 * x) by rw [show (4 : Nat) = 2 ^ 2 from rfl, ← Nat.pow_mul]; congr 1; omega]
theorem bx_in2 {m x : Nat} (hm : m < 2 ^ 31) (hx : x < 6) : (nI m >>> ((2 * nI x) &&& 31)) &&& 3 = nI (sx_md m x) := by
  rw [pk_shrN hm _ _ (bx_s2 x hx), pk_andN (Nat.lt_of_le_of_lt (Nat.div_le_self _ _) (by omega)) 2 (by decide)]
  unfold sx_md
  rw [show (4 : Nat) ^ x = 2 ^ (2 * x) by rw [show (4 : Nat) = 2 ^ 2 from rfl, ← Nat.pow_mul]]
theorem bx_at {p t : Nat} (hp : p < 2 ^ 31) (ht : t < 4) : (nI p >>> ((7 * nI t) &&& 31)) &&& 15 = nI (sx_at p t) := by
  rw [pk_shrN hp _ _ (bx_s7 t ht), pk_andN (Nat.lt_of_le_of_lt (Nat.div_le_self _ _) (by omega)) 4 (by decide)]
  unfold sx_at
  rw [show (128 : Nat) ^ t = 2 ^ (7 * t) by rw [show (128 : Nat) = 2 ^ 7 from rfl, ← Nat.pow_mul]]
theorem bx_dn {p t : Nat} (hp : p < 2 ^ 31) (ht : t < 4) : (nI p >>> (((7 * nI t) + 4) &&& 31)) &&& 7 = nI (sx_dn p t) := by
  rw [pk_shrN hp _ _ (bx_s74 t ht), pk_andN (Nat.lt_of_le_of_lt (Nat.div_le_self _ _) (by omega)) 3 (by decide)]
  unfold sx_dn
  rw [show (128 : Nat) ^ t * 16 = 2 ^ (7 * t + 4) by rw [show (128 : Nat) = 2 ^ 7 from rfl, ← Nat.pow_mul, Nat.pow_add]]
theorem bx_md_lt (m i : Nat) : sx_md m i < 4 := Nat.mod_lt _ (by omega)
theorem bx_md_0 {m i : Nat} (hm : m < 4 ^ 9) (hi : 9 ≤ i) : sx_md m i = 0 := by
  unfold sx_md
  rw [Nat.div_eq_of_lt (Nat.lt_of_lt_of_le hm (Nat.pow_le_pow_right (by omega) hi))]
/-- equal digits, equal ints -/
theorem bx_dig {x : Int32} {g : Nat → Nat} (hg : ∀ i, i < 9 → g i < 4) (h : ∀ i b, b < 2 → 2 * i + b < 32 → bt x (2 * i + b) = (if i < 9 then (g i).testBit b else false)) : x = nI (sx_en 9 g) := by
  apply b_ext
  intro k hk
  have e : k = 2 * (k / 2) + k % 2 := by omega
  rw [bx_nI _ hk, e, h (k / 2) (k % 2) (by omega) (by omega), bx_tb _ _ _ (by omega)]
  by_cases c : k / 2 < 9
  · rw [if_pos c, sx_md_en hg _ c]
  · rw [if_neg c, bx_md_0 (sx_en_lt hg) (by omega), Nat.zero_testBit]
theorem bx_v {v : Nat} (hv : v < 4) {k b : Nat} (hb : b < 2) : v.testBit (2 * k + b) = if k = 0 then v.testBit b else false := by
  rw [bx_tb _ _ _ hb]
  by_cases c : k = 0
  · subst c
    rw [if_pos rfl]
    unfold sx_md
    rw [Nat.pow_zero, Nat.div_one, Nat.mod_eq_of_lt hv]
  · rw [if_neg c]
    unfold sx_md
    rw [Nat.div_eq_of_lt (Nat.lt_of_lt_of_le hv (by
      obtain ⟨d, rfl⟩ : ∃ d, k = d + 1 := ⟨k - 1, by omega⟩
      rw [Nat.pow_succ]
      exact Nat.le_mul_of_pos_left _ (Nat.pow_pos (by omega)))), Nat.zero_mod, Nat.zero_testBit]
theorem bx_wr {m x v : Nat} (hm : m < 4 ^ 9) (hx : x < 3) (hv : v < 4) :
    (nI m &&& (((3 : Int32) <<< ((12 + (2 * nI x)) &&& 31)) ^^^ (-1))) ||| (nI v <<< ((12 + (2 * nI x)) &&& 31)) = nI (sx_en 9 (sq_up (sx_md m) (6 + x) v)) := by
  have es : (12 : Int32) + 2 * nI x = nI (12 + 2 * x) := by
    rw [show (12 : Int32) = nI 12 from rfl, show (2 : Int32) = nI 2 from rfl, pk_mul, nI_add]
  apply bx_dig
  · intro i _
    by_cases c : i = 6 + x
    · subst c; rw [sq_up_s]; exact hv
    · rw [sq_up_n _ _ c]; exact bx_md_lt m i
  · intro i b hb hi
    rw [es, b_or, b_and, b_xor, b_shl (12 + 2 * x) (by omega) _ hi, b_shl (12 + 2 * x) (by omega) _ hi, b_m1 _ hi, bx_nI _ hi, show (3 : Int32) = nI 3 from rfl, bx_nI _ (by omega), bx_nI _ (by omega), bx_tb _ _ _ hb]
    by_cases c : 6 + x ≤ i
    · obtain ⟨k, rfl⟩ : ∃ k, i = 6 + x + k := ⟨i - (6 + x), by omega⟩
      rw [show 2 * (6 + x + k) + b - (12 + 2 * x) = 2 * k + b by omega, bx_v (by omega) hb, bx_v hv hb]
      have d1 : decide (12 + 2 * x ≤ 2 * (6 + x + k) + b) = true := by simp; omega
      rw [d1]
      by_cases z : k = 0
      · subst z
        rw [if_pos rfl, if_pos rfl, Nat.add_zero, sq_up_s, if_pos (by omega)]
        have : (3 : Nat).testBit b = true := by
          rcases (by omega : b = 0 ∨ b = 1) with r | r <;> subst r <;> rfl
        rw [this]; simp
      · rw [if_neg z, if_neg z, sq_up_n _ _ (by omega)]
        by_cases q : 6 + x + k < 9
        · rw [if_pos q]; simp
        · rw [if_neg q, bx_md_0 hm (by omega), Nat.zero_testBit]; simp
    · have d1 : decide (12 + 2 * x ≤ 2 * i + b) = false := by simp; omega
      rw [d1, if_pos (by omega), sq_up_n _ _ (by omega)]; simp
theorem bx_ld {m k v : Nat} (hm : m < 4 ^ 9) (hk : k < 6) (hv : v < 4) :
    nI m ||| (nI v <<< ((2 * nI k) &&& 31)) = nI (sx_en 9 (sq_up (sx_md m) k (sx_md m k ||| v))) := by
  have es : 2 * nI k = nI (2 * k) := by
    rw [show (2 : Int32) = nI 2 from rfl, pk_mul]
  apply bx_dig
  · intro i _
    by_cases c : i = k
    · subst c; rw [sq_up_s]; exact Nat.or_lt_two_pow (n := 2) (bx_md_lt m i) hv
    · rw [sq_up_n _ _ c]; exact bx_md_lt m i
  · intro i b hb hi
    rw [es, b_or, b_shl (2 * k) (by omega) _ hi, bx_nI _ hi, bx_nI _ (by omega), bx_tb _ _ _ hb]
    by_cases c : k ≤ i
    · obtain ⟨d, rfl⟩ : ∃ d, i = k + d := ⟨i - k, by omega⟩
      rw [show 2 * (k + d) + b - 2 * k = 2 * d + b by omega, bx_v hv hb]
      have d1 : decide (2 * k ≤ 2 * (k + d) + b) = true := by simp; omega
      rw [d1]
      by_cases z : d = 0
      · subst z
        rw [if_pos rfl, Nat.add_zero, sq_up_s, if_pos (by omega), Nat.testBit_or]; simp
      · rw [if_neg z, sq_up_n _ _ (by omega)]
        by_cases q : k + d < 9
        · rw [if_pos q]; simp
        · rw [if_neg q, bx_md_0 hm (by omega), Nat.zero_testBit]; simp
    · have d1 : decide (2 * k ≤ 2 * i + b) = false := by simp; omega
      rw [d1, if_pos (by omega), sq_up_n _ _ (by omega)]; simp
/-- the code of the places, thread by thread -/
def bx_pk (a d : Nat → Nat) : Nat → Nat
  | 0 => 0
  | t + 1 => bx_pk a d t + (a t + 16 * d t) * 128 ^ t
theorem bx_pk4 (a d : Nat → Nat) : bx_pk a d 4 = sx_pc a d := by
  unfold sx_pc
  show 0 + (a 0 + 16 * d 0) * 1 + (a 1 + 16 * d 1) * 128 + (a 2 + 16 * d 2) * 16384 + (a 3 + 16 * d 3) * 2097152 = _
  omega
theorem bx_pk_lt {a d : Nat → Nat} (ha : ∀ t, t < 4 → a t < 16) (hd : ∀ t, t < 4 → d t < 8) : ∀ {t : Nat}, t ≤ 4 → bx_pk a d t < 128 ^ t := by
  intro t
  induction t with
  | zero => intro _; exact Nat.one_pos
  | succ t ih =>
    intro h
    have h1 := ih (by omega)
    have h2 := ha t (by omega)
    have h3 := hd t (by omega)
    have h4 : (a t + 16 * d t) * 128 ^ t ≤ 127 * 128 ^ t := Nat.mul_le_mul_right _ (by omega)
    show bx_pk a d t + _ < _
    rw [Nat.pow_succ]; omega
theorem bx_ent {a d : Nat → Nat} (ha : ∀ t, t < 4 → a t < 16) (hd : ∀ t, t < 4 → d t < 8) {t : Nat} (h : t < 4) :
    nI (bx_pk a d t) ||| ((nI (a t) ||| (nI (d t) <<< ((4 : Int32) &&& 31))) <<< ((7 * nI t) &&& 31)) = nI (bx_pk a d (t + 1)) := by
  have h2 := ha t h
  have h3 := hd t h
  have h1 := bx_pk_lt ha hd (Nat.le_of_lt h)
  have pw : (2 : Nat) ^ (7 * t) = 128 ^ t := by rw [show (128 : Nat) = 2 ^ 7 from rfl, ← Nat.pow_mul]
  have p3 : (128 : Nat) ^ t ≤ 128 ^ 3 := Nat.pow_le_pow_right (by omega) (by omega)
  have e1 : nI (a t) ||| (nI (d t) <<< ((4 : Int32) &&& 31)) = nI (a t + 16 * d t) := by
    rw [pk_shlN _ 4 (by decide) (by omega), bx_or]
    congr 1
    rw [Nat.or_comm, Nat.mul_comm, ← Nat.two_pow_add_eq_or_of_lt (i := 4) h2]
    omega
  rw [e1, pk_shlN _ _ (bx_s7 t h) (by
    rw [pw]
    exact Nat.lt_of_le_of_lt (Nat.mul_le_mul (by omega : a t + 16 * d t ≤ 127) p3) (by decide)), bx_or, pw]
  show _ = nI (bx_pk a d t + _)
  congr 1
  rw [Nat.or_comm, Nat.mul_comm, ← pw, ← Nat.two_pow_add_eq_or_of_lt (by rw [pw]; exact h1)]
  omega
end
section
/-! X: the program under trial in the arrays; counts, the queue, the memory -/
def xw_T (len K X V N : Nat → Nat) (a_length a_tryKind a_tryVariable a_tryValue a_loadNumber : Nat → Int32) : Prop :=
  (∀ t, t < 4 → a_length t = nI (len t) ∧ len t ≤ 11) ∧ ∀ t i, t < 4 → i < len t → a_tryKind (12 * t + i) = nI (K (12 * t + i)) ∧ a_tryVariable (12 * t + i) = nI (X (12 * t + i)) ∧
    a_tryValue (12 * t + i) = nI (V (12 * t + i)) ∧ K (12 * t + i) ≤ 2 ∧ X (12 * t + i) ≤ 2 ∧ V (12 * t + i) ≤ 3 ∧ (K (12 * t + i) = 1 → a_loadNumber (12 * t + i) = nI (N (12 * t + i)) ∧ N (12 * t + i) < 6)
theorem xw_ix (t i : Nat) : nI t * 12 + nI i = nI (12 * t + i) := by
  rw [show (12 : Int32) = nI 12 from rfl, pk_mul, nI_add, Nat.mul_comm]
theorem xw_k0 {k : Nat} (h : k ≤ 2) : nI k = 0 ↔ k = 0 := by
  rw [show (0 : Int32) = nI 0 from rfl]; exact nI_eq (by omega) (by omega)
theorem xw_k1 {k : Nat} (h : k ≤ 2) : nI k = 1 ↔ k = 1 := by
  rw [show (1 : Int32) = nI 1 from rfl]; exact nI_eq (by omega) (by omega)
theorem xw_k2 {k : Nat} (h : k ≤ 2) : nI k = 2 ↔ k = 2 := by
  rw [show (2 : Int32) = nI 2 from rfl]; exact nI_eq (by omega) (by omega)
theorem xw_r {f : Nat → Int32} {x : Int32} (k : Nat) {v : Int32} (h : k < 2 ^ 31) (ex : x = nI k) (e : f k = v) : f x.toNatClampNeg = v := by
  rw [ex, nI_clamp h, e]
section
variable {f_total f_loads f_states f_memory f_known f_many f_strictMany : Int32} {a_size a_kind a_variable a_value a_length a_tryKind a_tryVariable a_tryValue a_loadNumber a_position a_content a_table a_at a_done a_list a_strictList : Nat → Int32}
variable {len K X V N : Nat → Nat}
theorem xw_iss4 (T : xw_T len K X V N a_length a_tryKind a_tryVariable a_tryValue a_loadNumber) {t a : Nat} (t4 : t < 4) (ha : a ≤ len t) (hat : a_at t = nI a) {post : Int32 → Prop} (hp : post (nI (sx_is K t a))) :
    ∀ d i n, i + d = a → d < n → wX_issued_4 post (nI t) f_total f_loads f_states f_memory f_known f_many f_strictMany a_size a_kind a_variable a_value a_length a_tryKind a_tryVariable a_tryValue a_loadNumber a_position a_content a_table a_at a_done a_list a_strictList n (nI (sx_is K t i)) (nI i) := by
  have l11 := (T.1 t t4).2
  have ca : a_at (nI t).toNatClampNeg = nI a := by rw [nI_clamp (by omega)]; exact hat
  intro d
  induction d with
  | zero =>
    intro i n e hn
    obtain ⟨n, rfl⟩ : ∃ m, n = m + 1 := ⟨n - 1, by omega⟩
    obtain rfl : i = a := by omega
    exact And.intro (vp_in_nI t4 (by omega)) (br_t (by rw [ca]; exact nI_le (by omega) (by omega)) hp)
  | succ d ih =>
    intro i n e hn
    obtain ⟨n, rfl⟩ : ∃ m, n = m + 1 := ⟨n - 1, by omega⟩
    have r := T.2 t i t4 (by omega)
    have ck : a_tryKind ((nI t * 12) + nI i).toNatClampNeg = nI (K (12 * t + i)) := xw_r (12 * t + i) (by omega) (xw_ix t i) r.1
    refine And.intro (vp_in_nI t4 (by omega)) (br_f (by rw [ca]; exact nI_ge (by omega) (by omega)) (And.intro (by rw [xw_ix]; exact vp_in_nI (by omega) (by omega)) ?_))
    rw [ck]
    by_cases k : K (12 * t + i) = 0
    · refine br_t ((xw_k0 r.2.2.2.1).mpr k) ?_
      have := ih (i + 1) n (by omega) (by omega)
      rw [sx_is_s k] at this
      exact nm_r (nI_1 _) (nm_r (nI_1 _) this)
    · refine br_f (fun c => k ((xw_k0 r.2.2.2.1).mp c)) ?_
      have := ih (i + 1) n (by omega) (by omega)
      rw [sx_is_n k] at this
      exact nm_r (nI_1 _) this
theorem xw_issued (T : xw_T len K X V N a_length a_tryKind a_tryVariable a_tryValue a_loadNumber) {t a : Nat} (t4 : t < 4) (ha : a ≤ len t) (hat : a_at t = nI a) {post : Int32 → Prop} (hp : post (nI (sx_is K t a))) :
    wpX_issued post (f_total, f_loads, f_states, f_memory, f_known, f_many, f_strictMany, a_size, a_kind, a_variable, a_value, a_length, a_tryKind, a_tryVariable, a_tryValue, a_loadNumber, a_position, a_content, a_table, a_at, a_done, a_list, a_strictList) (nI t) :=
  ⟨a + 1, xw_iss4 T t4 ha hat hp a 0 (a + 1) (by omega) (by omega)⟩
theorem xw_sa5 (T : xw_T len K X V N a_length a_tryKind a_tryVariable a_tryValue a_loadNumber) {t i0 : Nat} (t4 : t < 4) (hi : i0 < len t) (hk : K (12 * t + i0) = 0) {post : Int32 → Prop} (hp : post (nI (12 * t + i0))) :
    ∀ d i n, i + d = i0 → d < n → wX_storeAt_5 post (nI t) f_total f_loads f_states f_memory f_known f_many f_strictMany a_size a_kind a_variable a_value a_length a_tryKind a_tryVariable a_tryValue a_loadNumber a_position a_content a_table a_at a_done a_list a_strictList n (nI (sx_is K t i0 - sx_is K t i)) (nI i) := by
  have l11 := T.1 t t4
  have cl : a_length (nI t).toNatClampNeg = nI (len t) := by rw [nI_clamp (by omega)]; exact l11.1
  intro d
  induction d with
  | zero =>
    intro i n e hn
    obtain ⟨n, rfl⟩ : ∃ m, n = m + 1 := ⟨n - 1, by omega⟩
    obtain rfl : i = i0 := by omega
    have r := T.2 t i t4 (by omega)
    have ck : a_tryKind ((nI t * 12) + nI i).toNatClampNeg = nI (K (12 * t + i)) := xw_r (12 * t + i) (by omega) (xw_ix t i) r.1
    refine And.intro (vp_in_nI t4 (by omega)) (br_f (by rw [cl]; exact nI_ge (by omega) (by omega)) (And.intro (by rw [xw_ix]; exact vp_in_nI (by omega) (by omega)) ?_))
    rw [ck]
    refine br_t ((xw_k0 r.2.2.2.1).mpr hk) (br_t ?_ ?_)
    · rw [Nat.sub_self]; exact nI_0
    · rw [xw_ix]; exact hp
  | succ d ih =>
    intro i n e hn
    obtain ⟨n, rfl⟩ : ∃ m, n = m + 1 := ⟨n - 1, by omega⟩
    have r := T.2 t i t4 (by omega)
    have ck : a_tryKind ((nI t * 12) + nI i).toNatClampNeg = nI (K (12 * t + i)) := xw_r (12 * t + i) (by omega) (xw_ix t i) r.1
    refine And.intro (vp_in_nI t4 (by omega)) (br_f (by rw [cl]; exact nI_ge (by omega) (by omega)) (And.intro (by rw [xw_ix]; exact vp_in_nI (by omega) (by omega)) ?_))
    rw [ck]
    have lei := sx_is_le (K := K) (t := t) i0
    by_cases k : K (12 * t + i) = 0
    · have lt := sx_is_lt (b := i0) k (by omega)
      refine br_t ((xw_k0 r.2.2.2.1).mpr k) (br_f (nI_ne0 (by omega) (by omega)) ?_)
      have := ih (i + 1) n (by omega) (by omega)
      rw [sx_is_s k] at this
      refine nm_r ?_ (nm_r (nI_1 _) this)
      rw [show sx_is K t i0 - sx_is K t i = (sx_is K t i0 - (sx_is K t i + 1)) + 1 by omega]
      exact pk_m1 _
    · refine br_f (fun c => k ((xw_k0 r.2.2.2.1).mp c)) ?_
      have := ih (i + 1) n (by omega) (by omega)
      rw [sx_is_n k] at this
      exact nm_r (nI_1 _) this
theorem xw_storeAt (T : xw_T len K X V N a_length a_tryKind a_tryVariable a_tryValue a_loadNumber) {t i0 k : Nat} (t4 : t < 4) (hi : i0 < len t) (hk : K (12 * t + i0) = 0) (e : sx_is K t i0 = k) {post : Int32 → Prop} (hp : post (nI (12 * t + i0))) :
    wpX_storeAt post (f_total, f_loads, f_states, f_memory, f_known, f_many, f_strictMany, a_size, a_kind, a_variable, a_value, a_length, a_tryKind, a_tryVariable, a_tryValue, a_loadNumber, a_position, a_content, a_table, a_at, a_done, a_list, a_strictList) (nI t) (nI k) := by
  have e0 : nI k = nI (sx_is K t i0 - sx_is K t 0) := by rw [show sx_is K t 0 = 0 from rfl, Nat.sub_zero, e]
  rw [e0]
  exact ⟨i0 + 1, xw_sa5 T t4 hi hk hp i0 0 (i0 + 1) (by omega) (by omega)⟩
theorem xw_inMemory {m x : Nat} (em : f_memory = nI m) (hm : m < 4 ^ 9) (hx : x < 3) {post : Int32 → Prop} (hp : post (nI (sx_md m (6 + x)))) : wpX_inMemory post (f_total, f_loads, f_states, f_memory, f_known, f_many, f_strictMany, a_size, a_kind, a_variable, a_value, a_length, a_tryKind, a_tryVariable, a_tryValue, a_loadNumber, a_position, a_content, a_table, a_at, a_done, a_list, a_strictList) (nI x) := by
  show post ((f_memory >>> ((12 + (2 * nI x)) &&& 31)) &&& 3)
  rw [em, bx_in (by omega) hx]; exact hp
theorem xw_writeMemory {m x v : Nat} (em : f_memory = nI m) (hm : m < 4 ^ 9) (hx : x < 3) (hv : v < 4) {post : SX → Prop} (hp : post (f_total, f_loads, f_states, nI (sx_en 9 (sq_up (sx_md m) (6 + x) v)), f_known, f_many, f_strictMany, a_size, a_kind, a_variable, a_value, a_length, a_tryKind, a_tryVariable, a_tryValue, a_loadNumber, a_position, a_content, a_table, a_at, a_done, a_list, a_strictList)) : wpX_writeMemory post (f_total, f_loads, f_states, f_memory, f_known, f_many, f_strictMany, a_size, a_kind, a_variable, a_value, a_length, a_tryKind, a_tryVariable, a_tryValue, a_loadNumber, a_position, a_content, a_table, a_at, a_done, a_list, a_strictList) (nI x) (nI v) := by
  refine nm_r (e' := nI (sx_en 9 (sq_up (sx_md m) (6 + x) v))) ?_ hp
  rw [em, bx_wr hm hx hv]
theorem xw_fd21 (T : xw_T len K X V N a_length a_tryKind a_tryVariable a_tryValue a_loadNumber) {t a d0 v0 x : Nat} (t4 : t < 4) (ha : a ≤ len t) (hx : x < 3) {post : Int32 → Prop} (hp : post (nI (sx_fd K X V t x d0 v0 a))) :
    ∀ d k n b, k + d = sx_is K t a → d < n → d0 ≤ k → b ≤ a → sx_is K t b = k → ∀ v, v = sx_fd K X V t x d0 v0 b → wX_found_21 post (nI t) (nI x) (nI (sx_is K t a)) f_total f_loads f_states f_memory f_known f_many f_strictMany a_size a_kind a_variable a_value a_length a_tryKind a_tryVariable a_tryValue a_loadNumber a_position a_content a_table a_at a_done a_list a_strictList n (nI v) (nI k) := by
  have l11 := T.1 t t4
  have lea := sx_is_le (K := K) (t := t) a
  -- no store between: the same found
  have same : ∀ b c, b ≤ c → sx_is K t b = sx_is K t c → sx_fd K X V t x d0 v0 c = sx_fd K X V t x d0 v0 b := by
    intro b c
    induction c with
    | zero => intro h _; have : b = 0 := by omega
              subst this; rfl
    | succ c ih =>
      intro h e
      by_cases q : b = c + 1
      · subst q; rfl
      · have m1 := sx_is_mono (K := K) (t := t) (a := b) (b := c) (by omega)
        have m2 := sx_is_mono (K := K) (t := t) (a := c) (b := c + 1) (by omega)
        have nk : ¬ K (12 * t + c) = 0 := fun z => by rw [sx_is_s z] at e; omega
        rw [← ih (by omega) (by omega)]
        exact if_neg (fun z => nk z.1)
  intro d
  induction d with
  | zero =>
    intro k n b e hn hk hb eb v ev
    subst ev
    obtain ⟨n, rfl⟩ : ∃ m, n = m + 1 := ⟨n - 1, by omega⟩
    refine br_t (nI_le (by omega) (by omega)) ?_
    rw [← same b a hb (by omega)]
    exact hp
  | succ d ih =>
    intro k n b e hn hk hb eb v ev
    subst ev
    obtain ⟨n, rfl⟩ : ∃ m, n = m + 1 := ⟨n - 1, by omega⟩
    refine br_f (nI_ge (by omega) (by omega)) ?_
    obtain ⟨i, i1, i2, i3⟩ := sx_is_ivt (K := K) (t := t) (d := k) (a := a) (by omega)
    have r := T.2 t i t4 (by omega)
    have bi : b ≤ i := by
      apply Classical.byContradiction
      intro c
      have := sx_is_lt (b := b) i2 (by omega)
      omega
    refine xw_storeAt T t4 (by omega) i2 i3 ?_
    have cx : a_tryVariable (nI (12 * t + i)).toNatClampNeg = nI (X (12 * t + i)) := xw_r _ (by omega) rfl r.2.1
    have cv : a_tryValue (nI (12 * t + i)).toNatClampNeg = nI (V (12 * t + i)) := xw_r _ (by omega) rfl r.2.2.1
    have vi : vp_in (nI (12 * t + i)) 48 := vp_in_nI (by omega) (by omega)
    refine And.intro vi ?_
    rw [cx, cv]
    have nx := ih (k + 1) n (i + 1) (by omega) (by omega) (by omega) (by omega) (by rw [sx_is_s i2, i3]) _ rfl
    have fs : sx_fd K X V t x d0 v0 (i + 1) = if K (12 * t + i) = 0 ∧ d0 ≤ sx_is K t i ∧ X (12 * t + i) = x then V (12 * t + i) else sx_fd K X V t x d0 v0 i := rfl
    by_cases c : X (12 * t + i) = x
    · rw [if_pos ⟨i2, by omega, c⟩] at fs
      rw [fs] at nx
      exact br_t (congrArg nI c) (And.intro vi (nm_e (nm_r (nI_1 _) nx)))
    · rw [if_neg (fun z => c z.2.2), same b i bi (by omega)] at fs
      rw [fs] at nx
      refine br_f (fun z => c ((nI_eq (by omega) (by omega)).mp z)) (nm_r (nI_1 _) nx)
theorem xw_found (T : xw_T len K X V N a_length a_tryKind a_tryVariable a_tryValue a_loadNumber) {t a d m x : Nat} (t4 : t < 4) (ha : a ≤ len t) (hx : x < 3) (hat : a_at t = nI a) (hdn : a_done t = nI d) (hd : d ≤ sx_is K t a)
    (em : f_memory = nI m) (hm : m < 4 ^ 9) {post : Int32 → Prop} (hp : post (nI (sx_fd K X V t x d (sx_md m (6 + x)) a))) :
    wpX_found post (f_total, f_loads, f_states, f_memory, f_known, f_many, f_strictMany, a_size, a_kind, a_variable, a_value, a_length, a_tryKind, a_tryVariable, a_tryValue, a_loadNumber, a_position, a_content, a_table, a_at, a_done, a_list, a_strictList) (nI t) (nI x) := by
  have l11 := T.1 t t4
  have lea := sx_is_le (K := K) (t := t) a
  unfold wpX_found
  refine xw_inMemory em hm hx (xw_issued T t4 ha hat ?_)
  refine And.intro (vp_in_nI t4 (by omega)) (nm_r (xw_r t (by omega) rfl hdn) ?_)
  -- no store ahead of the queue counts
  have low : ∀ b, sx_is K t b ≤ d → sx_fd K X V t x d (sx_md m (6 + x)) b = sx_md m (6 + x) := by
    intro b
    induction b with
    | zero => intro _; rfl
    | succ b ih =>
      intro h
      have m2 := sx_is_mono (K := K) (t := t) (a := b) (b := b + 1) (by omega)
      refine Eq.trans ?_ (ih (by omega))
      exact if_neg (fun (z : K (12 * t + b) = 0 ∧ d ≤ sx_is K t b ∧ X (12 * t + b) = x) => by have := sx_is_s z.1; omega)
  by_cases c : d = sx_is K t a
  · exact ⟨1, xw_fd21 T t4 ha hx hp 0 d 1 a (by omega) (by omega) (Nat.le_refl _) (Nat.le_refl _) c.symm _ (low a (by omega)).symm⟩
  · obtain ⟨i, i1, i2, i3⟩ := sx_is_ivt (K := K) (t := t) (d := d) (a := a) (by omega)
    exact ⟨sx_is K t a - d + 1, xw_fd21 T t4 ha hx hp (sx_is K t a - d) d (sx_is K t a - d + 1) i (by omega) (by omega) (Nat.le_refl _) (by omega) i3 _ (low i (by omega)).symm⟩
theorem xw_reach (T : xw_T len K X V N a_length a_tryKind a_tryVariable a_tryValue a_loadNumber) {t d m i : Nat} (t4 : t < 4) (hi : i < len t) (hk : K (12 * t + i) = 0) (e : sx_is K t i = d) (hdn : a_done t = nI d)
    (em : f_memory = nI m) (hm : m < 4 ^ 9) {post : SX → Prop} (hp : post (f_total, f_loads, f_states, nI (sx_en 9 (sq_up (sx_md m) (6 + X (12 * t + i)) (V (12 * t + i)))), f_known, f_many, f_strictMany, a_size, a_kind, a_variable, a_value, a_length, a_tryKind, a_tryVariable, a_tryValue, a_loadNumber, a_position, a_content, a_table, a_at, upd a_done t (nI (d + 1)), a_list, a_strictList)) :
    wpX_reach post (f_total, f_loads, f_states, f_memory, f_known, f_many, f_strictMany, a_size, a_kind, a_variable, a_value, a_length, a_tryKind, a_tryVariable, a_tryValue, a_loadNumber, a_position, a_content, a_table, a_at, a_done, a_list, a_strictList) (nI t) := by
  have l11 := T.1 t t4
  have r := T.2 t i t4 hi
  have vt : vp_in (nI t) 4 := vp_in_nI t4 (by omega)
  have vi : vp_in (nI (12 * t + i)) 48 := vp_in_nI (by omega) (by omega)
  have cd : a_done (nI t).toNatClampNeg = nI d := xw_r t (by omega) rfl hdn
  have cx : a_tryVariable (nI (12 * t + i)).toNatClampNeg = nI (X (12 * t + i)) := xw_r _ (by omega) rfl r.2.1
  have cv : a_tryValue (nI (12 * t + i)).toNatClampNeg = nI (V (12 * t + i)) := xw_r _ (by omega) rfl r.2.2.1
  unfold wpX_reach
  refine And.intro vt ?_
  rw [cd]
  refine xw_storeAt T t4 hi hk e (And.intro vi (And.intro vi ?_))
  rw [cx, cv]
  refine xw_writeMemory em hm (by omega) (by omega) (And.intro vt (And.intro vt ?_))
  refine nm_r (e' := upd a_done t (nI (d + 1))) ?_ hp
  rw [cd, nI_1, nI_clamp (by omega)]
end
end
section
/-! X: a thread goes on; a state is loaded -/
/-- the state at hand, in the arrays -/
def xw_H (at' dn : Nat → Nat) (m : Nat) (f_memory : Int32) (a_at a_done : Nat → Int32) : Prop :=
  (∀ t, t < 4 → a_at t = nI (at' t) ∧ a_done t = nI (dn t)) ∧ f_memory = nI m
theorem xw_H_at {at' dn : Nat → Nat} {m : Nat} {f_memory : Int32} {a_at a_done : Nat → Int32} (h : xw_H at' dn m f_memory a_at a_done) (t v : Nat) : xw_H (sq_up at' t v) dn m f_memory (upd a_at t (nI v)) a_done := by
  refine ⟨fun u hu => ⟨?_, (h.1 u hu).2⟩, h.2⟩
  by_cases c : u = t
  · subst c; rw [pk_us, sq_up_s]
  · rw [pk_un c, sq_up_n _ _ c]; exact (h.1 u hu).1
theorem xw_H_dn {at' dn : Nat → Nat} {m : Nat} {f_memory : Int32} {a_at a_done : Nat → Int32} (h : xw_H at' dn m f_memory a_at a_done) (t v : Nat) : xw_H at' (sq_up dn t v) m f_memory a_at (upd a_done t (nI v)) := by
  refine ⟨fun u hu => ⟨(h.1 u hu).1, ?_⟩, h.2⟩
  by_cases c : u = t
  · subst c; rw [pk_us, sq_up_s]
  · rw [pk_un c, sq_up_n _ _ c]; exact (h.1 u hu).2
theorem xw_H_m {at' dn : Nat → Nat} {m : Nat} {f_memory : Int32} {a_at a_done : Nat → Int32} (h : xw_H at' dn m f_memory a_at a_done) (m' : Nat) : xw_H at' dn m' (nI m') a_at a_done := ⟨h.1, rfl⟩
theorem xw_fd_lt {len K X V N : Nat → Nat} {a_length a_tryKind a_tryVariable a_tryValue a_loadNumber : Nat → Int32} (T : xw_T len K X V N a_length a_tryKind a_tryVariable a_tryValue a_loadNumber) {t x d v0 : Nat} (t4 : t < 4) (hv : v0 < 4) : ∀ {a : Nat}, a ≤ len t → sx_fd K X V t x d v0 a < 4 := by
  intro a
  induction a with
  | zero => intro _; exact hv
  | succ a ih =>
    intro h
    show (if _ then _ else _) < 4
    split
    · have := (T.2 t a t4 (by omega)).2.2.2.2.2.1; omega
    · exact ih (by omega)
section
variable {f_total f_loads f_states f_memory f_known f_many f_strictMany : Int32} {a_size a_kind a_variable a_value a_length a_tryKind a_tryVariable a_tryValue a_loadNumber a_position a_content a_table a_at a_done a_list a_strictList : Nat → Int32}
variable {len K X V N : Nat → Nat}
/-- the codes are sound enough to go on from -/
def xw_ok (len K at' dn : Nat → Nat) (m : Nat) : Prop := (∀ t, t < 4 → at' t ≤ len t ∧ dn t ≤ sx_is K t (at' t)) ∧ m < 4 ^ 9
theorem xw_sub0 {a b : Nat} (ha : a < 2 ^ 30) (hb : b < 2 ^ 30) : nI a - nI b ≤ 0 ↔ a ≤ b := by
  rw [Int32.le_iff_toInt_le, pk_sub_toInt ha hb]
  show (a : Int) - b ≤ 0 ↔ _
  omega
/-- the end of a step: the place moves, a strict store reaches -/
theorem xw_go103 (T : xw_T len K X V N a_length a_tryKind a_tryVariable a_tryValue a_loadNumber) {at' dn : Nat → Nat} {m t str : Nat} (t4 : t < 4) (hlt : at' t < len t) (hdn : dn t ≤ sx_is K t (at' t)) (hs : str < 2) (hm : m < 4 ^ 9)
    (H : xw_H at' dn m f_memory a_at a_done) {post : Int32 → SX → Prop}
    (h0 : ¬ (K (12 * t + at' t) = 0 ∧ str = 1) → post 1 (f_total, f_loads, f_states, f_memory, f_known, f_many, f_strictMany, a_size, a_kind, a_variable, a_value, a_length, a_tryKind, a_tryVariable, a_tryValue, a_loadNumber, a_position, a_content, a_table, upd a_at t (nI (at' t + 1)), a_done, a_list, a_strictList))
    (h1 : ∀ i, i < at' t + 1 → K (12 * t + i) = 0 → sx_is K t i = dn t → K (12 * t + at' t) = 0 → str = 1 →
      post 1 (f_total, f_loads, f_states, nI (sx_en 9 (sq_up (sx_md m) (6 + X (12 * t + i)) (V (12 * t + i)))), f_known, f_many, f_strictMany, a_size, a_kind, a_variable, a_value, a_length, a_tryKind, a_tryVariable, a_tryValue, a_loadNumber, a_position, a_content, a_table, upd a_at t (nI (at' t + 1)), upd a_done t (nI (dn t + 1)), a_list, a_strictList)) :
    wX_goOn_103 post (nI t) (nI str) (nI (12 * t + at' t)) f_total f_loads f_states f_memory f_known f_many f_strictMany a_size a_kind a_variable a_value a_length a_tryKind a_tryVariable a_tryValue a_loadNumber a_position a_content a_table a_at a_done a_list a_strictList := by
  have l11 := T.1 t t4
  have r := T.2 t (at' t) t4 hlt
  have vt : vp_in (nI t) 4 := vp_in_nI t4 (by omega)
  have vi : vp_in (nI (12 * t + at' t)) 48 := vp_in_nI (by omega) (by omega)
  have ck : a_tryKind (nI (12 * t + at' t)).toNatClampNeg = nI (K (12 * t + at' t)) := xw_r _ (by omega) rfl r.1
  have ea : upd a_at (nI t).toNatClampNeg (a_at (nI t).toNatClampNeg + 1) = upd a_at t (nI (at' t + 1)) := by
    rw [nI_clamp (by omega), (H.1 t t4).1, nI_1]
  refine And.intro vt (And.intro vt (nm_r ea (And.intro vi ?_)))
  rw [ck]
  by_cases k : K (12 * t + at' t) = 0
  · refine br_t ((xw_k0 r.2.2.2.1).mpr k) ?_
    by_cases s : str = 0
    · exact br_t (by rw [s]; exact nI_0) (h0 (fun c => by omega))
    · refine br_f (nI_ne0 (by omega) (by omega)) ?_
      obtain ⟨i, i1, i2, i3⟩ := sx_is_ivt (K := K) (t := t) (d := dn t) (a := at' t + 1) (by rw [sx_is_s k]; omega)
      exact xw_reach T t4 (by omega) i2 i3 (H.1 t t4).2 H.2 hm (h1 i i1 i2 i3 k (by omega))
  · exact br_f (fun c => k ((xw_k0 r.2.2.2.1).mp c)) (h0 (fun c => k c.1))
theorem xw_goOn (T : xw_T len K X V N a_length a_tryKind a_tryVariable a_tryValue a_loadNumber) {at' dn : Nat → Nat} {m t str : Nat} (t4 : t < 4) (O : xw_ok len K at' dn m) (hs : str < 2)
    (H : xw_H at' dn m f_memory a_at a_done) {post : Int32 → SX → Prop}
    (hn : at' t = len t ∨ (K (12 * t + at' t) = 2 ∧ dn t < sx_is K t (at' t)) → post 0 (f_total, f_loads, f_states, f_memory, f_known, f_many, f_strictMany, a_size, a_kind, a_variable, a_value, a_length, a_tryKind, a_tryVariable, a_tryValue, a_loadNumber, a_position, a_content, a_table, a_at, a_done, a_list, a_strictList))
    (h0 : at' t ≠ len t → (K (12 * t + at' t) = 2 → sx_is K t (at' t) ≤ dn t) → K (12 * t + at' t) ≠ 1 → ¬ (K (12 * t + at' t) = 0 ∧ str = 1) → post 1 (f_total, f_loads, f_states, f_memory, f_known, f_many, f_strictMany, a_size, a_kind, a_variable, a_value, a_length, a_tryKind, a_tryVariable, a_tryValue, a_loadNumber, a_position, a_content, a_table, upd a_at t (nI (at' t + 1)), a_done, a_list, a_strictList))
    (h1 : at' t ≠ len t → K (12 * t + at' t) = 1 → post 1 (f_total, f_loads, f_states, nI (sx_en 9 (sq_up (sx_md m) (N (12 * t + at' t)) (sx_md m (N (12 * t + at' t)) ||| sx_fd K X V t (X (12 * t + at' t)) (dn t) (sx_md m (6 + X (12 * t + at' t))) (at' t)))), f_known, f_many, f_strictMany, a_size, a_kind, a_variable, a_value, a_length, a_tryKind, a_tryVariable, a_tryValue, a_loadNumber, a_position, a_content, a_table, upd a_at t (nI (at' t + 1)), a_done, a_list, a_strictList))
    (h2 : at' t ≠ len t → ∀ i, i < at' t + 1 → K (12 * t + i) = 0 → sx_is K t i = dn t → K (12 * t + at' t) = 0 → str = 1 →
      post 1 (f_total, f_loads, f_states, nI (sx_en 9 (sq_up (sx_md m) (6 + X (12 * t + i)) (V (12 * t + i)))), f_known, f_many, f_strictMany, a_size, a_kind, a_variable, a_value, a_length, a_tryKind, a_tryVariable, a_tryValue, a_loadNumber, a_position, a_content, a_table, upd a_at t (nI (at' t + 1)), upd a_done t (nI (dn t + 1)), a_list, a_strictList)) :
    wpX_goOn post (f_total, f_loads, f_states, f_memory, f_known, f_many, f_strictMany, a_size, a_kind, a_variable, a_value, a_length, a_tryKind, a_tryVariable, a_tryValue, a_loadNumber, a_position, a_content, a_table, a_at, a_done, a_list, a_strictList) (nI t) (nI str) := by
  have l11 := T.1 t t4
  have o := O.1 t t4
  have vt : vp_in (nI t) 4 := vp_in_nI t4 (by omega)
  have ca : a_at (nI t).toNatClampNeg = nI (at' t) := xw_r t (by omega) rfl (H.1 t t4).1
  have cd : a_done (nI t).toNatClampNeg = nI (dn t) := xw_r t (by omega) rfl (H.1 t t4).2
  have cl : a_length (nI t).toNatClampNeg = nI (len t) := xw_r t (by omega) rfl l11.1
  unfold wpX_goOn
  refine And.intro vt (And.intro vt ?_)
  rw [ca, cl]
  by_cases c : at' t = len t
  · exact br_t (congrArg nI c) (hn (Or.inl c))
  · refine br_f (fun z => c ((nI_eq (by omega) (by omega)).mp z)) (And.intro vt (nm_r (xw_ix t (at' t)) ?_))
    have hlt : at' t < len t := by omega
    have r := T.2 t (at' t) t4 hlt
    have vi : vp_in (nI (12 * t + at' t)) 48 := vp_in_nI (by omega) (by omega)
    have ck : a_tryKind (nI (12 * t + at' t)).toNatClampNeg = nI (K (12 * t + at' t)) := xw_r _ (by omega) rfl r.1
    have cx : a_tryVariable (nI (12 * t + at' t)).toNatClampNeg = nI (X (12 * t + at' t)) := xw_r _ (by omega) rfl r.2.1
    have lea := sx_is_le (K := K) (t := t) (at' t)
    refine xw_issued T t4 o.1 (H.1 t t4).1 (And.intro vt (nm_e (And.intro vi ?_)))
    rw [ck, cd]
    have g60 : (K (12 * t + at' t) = 2 → sx_is K t (at' t) ≤ dn t) → wX_goOn_60 post (nI t) (nI str) (nI (12 * t + at' t)) f_total f_loads f_states f_memory f_known f_many f_strictMany a_size a_kind a_variable a_value a_length a_tryKind a_tryVariable a_tryValue a_loadNumber a_position a_content a_table a_at a_done a_list a_strictList := by
      intro kf
      refine And.intro vi ?_
      rw [ck]
      by_cases k1 : K (12 * t + at' t) = 1
      · refine br_t ((xw_k1 r.2.2.2.1).mpr k1) (And.intro vi ?_)
        rw [cx]
        refine xw_found T t4 o.1 (by omega) (H.1 t t4).1 (H.1 t t4).2 o.2 H.2 O.2 (And.intro vi ?_)
        obtain ⟨cn, n6⟩ := r.2.2.2.2.2.2 k1
        have hv := xw_fd_lt T (x := X (12 * t + at' t)) (d := dn t) t4 (bx_md_lt m (6 + X (12 * t + at' t))) o.1
        refine nm_r (e' := nI (sx_en 9 (sq_up (sx_md m) (N (12 * t + at' t)) (sx_md m (N (12 * t + at' t)) ||| sx_fd K X V t (X (12 * t + at' t)) (dn t) (sx_md m (6 + X (12 * t + at' t))) (at' t))))) ?_ ?_
        · rw [xw_r _ (by omega) rfl cn, H.2, bx_ld O.2 n6 hv]
        · refine xw_go103 (at' := at') (dn := dn) T t4 hlt o.2 hs (sx_en_lt (fun i _ => ?_)) (xw_H_m H _) (fun _ => h1 c k1) (fun i _ _ _ z _ => by omega)
          by_cases q : i = N (12 * t + at' t)
          · subst q; rw [sq_up_s]; exact Nat.or_lt_two_pow (n := 2) (bx_md_lt m _) hv
          · rw [sq_up_n _ _ q]; exact bx_md_lt m i
      · refine br_f (fun z => k1 ((xw_k1 r.2.2.2.1).mp z)) ?_
        exact xw_go103 T t4 hlt o.2 hs O.2 H (fun z => h0 c kf k1 z) (h2 c)
    by_cases k2 : K (12 * t + at' t) = 2
    · refine br_t ((xw_k2 r.2.2.2.1).mpr k2) ?_
      by_cases w : sx_is K t (at' t) ≤ dn t
      · exact br_t ((xw_sub0 (by omega) (by omega)).mpr w) (g60 (fun _ => w))
      · exact br_f (fun z => w ((xw_sub0 (by omega) (by omega)).mp z)) (hn (Or.inr ⟨k2, by omega⟩))
    · exact br_f (fun z => k2 ((xw_k2 r.2.2.2.1).mp z)) (g60 (fun z => absurd z k2))
theorem xw_ls2 {s p m : Nat} (hs : s < 4096) (ep : a_position s = nI p) (hp : p < 2 ^ 28) (em : a_content s = nI m) {post : SX → Prop}
    (h : ∀ a_at a_done, xw_H (sx_at p) (sx_dn p) m (nI m) a_at a_done → post (f_total, f_loads, f_states, nI m, f_known, f_many, f_strictMany, a_size, a_kind, a_variable, a_value, a_length, a_tryKind, a_tryVariable, a_tryValue, a_loadNumber, a_position, a_content, a_table, a_at, a_done, a_list, a_strictList)) :
    ∀ d t n a_at a_done, t + d = 4 → d < n → (∀ u, u < t → a_at u = nI (sx_at p u) ∧ a_done u = nI (sx_dn p u)) → wX_loadState_2 post (nI s) f_total f_loads f_states f_memory f_known f_many f_strictMany n (nI t) a_size a_kind a_variable a_value a_length a_tryKind a_tryVariable a_tryValue a_loadNumber a_position a_content a_table a_at a_done a_list a_strictList := by
  have vs : vp_in (nI s) 4096 := vp_in_nI hs (by omega)
  have cp : a_position (nI s).toNatClampNeg = nI p := xw_r s (by omega) rfl ep
  have cm : a_content (nI s).toNatClampNeg = nI m := xw_r s (by omega) rfl em
  intro d
  induction d with
  | zero =>
    intro t n a_at a_done e hn hu
    obtain ⟨n, rfl⟩ : ∃ m, n = m + 1 := ⟨n - 1, by omega⟩
    obtain rfl : t = 4 := by omega
    exact br_t (nI_le (a := 4) (b := 4) (by omega) (by omega)) (And.intro vs (nm_r cm (h a_at a_done ⟨hu, rfl⟩)))
  | succ d ih =>
    intro t n a_at a_done e hn hu
    obtain ⟨n, rfl⟩ : ∃ m, n = m + 1 := ⟨n - 1, by omega⟩
    have vt : vp_in (nI t) 4 := vp_in_nI (by omega) (by omega)
    refine br_f (nI_ge (b := 4) (by omega) (by omega)) (And.intro vs (And.intro vt ?_))
    rw [cp, nI_clamp (n := t) (by omega)]
    refine nm_r (congrArg (upd a_at t) (bx_at (by omega) (by omega))) (And.intro vs (And.intro vt ?_))
    refine nm_r (congrArg (upd a_done t) (bx_dn (by omega) (by omega))) (nm_r (nI_1 _) ?_)
    refine ih (t + 1) n _ _ (by omega) (by omega) (fun u h => ?_)
    by_cases c : u = t
    · subst c; exact ⟨pk_us, pk_us⟩
    · rw [pk_un c, pk_un c]; exact hu u (by omega)
theorem xw_loadState {s p m : Nat} (hs : s < 4096) (ep : a_position s = nI p) (hp : p < 2 ^ 28) (em : a_content s = nI m) {post : SX → Prop}
    (h : ∀ a_at a_done, xw_H (sx_at p) (sx_dn p) m (nI m) a_at a_done → post (f_total, f_loads, f_states, nI m, f_known, f_many, f_strictMany, a_size, a_kind, a_variable, a_value, a_length, a_tryKind, a_tryVariable, a_tryValue, a_loadNumber, a_position, a_content, a_table, a_at, a_done, a_list, a_strictList)) : wpX_loadState post (f_total, f_loads, f_states, f_memory, f_known, f_many, f_strictMany, a_size, a_kind, a_variable, a_value, a_length, a_tryKind, a_tryVariable, a_tryValue, a_loadNumber, a_position, a_content, a_table, a_at, a_done, a_list, a_strictList) (nI s) :=
  ⟨5, xw_ls2 hs ep hp em h 4 0 5 a_at a_done (by omega) (by omega) (fun u hu => by omega)⟩
end
end
section
/-! X: entering a state (hash table, probing) -/
def xw_hs (p m : Nat) : Nat := ((((nI p * 31) + (nI m * 17)) ^^^ (((nI p).toUInt32 >>> ((11 : Int32).toUInt32 &&& Int32.toUInt32 31)).toInt32)) &&& 8191).toNatClampNeg
theorem xw_hs_e (p m : Nat) : ((((nI p * 31) + (nI m * 17)) ^^^ (((nI p).toUInt32 >>> ((11 : Int32).toUInt32 &&& Int32.toUInt32 31)).toInt32)) &&& 8191) = nI (xw_hs p m) ∧ xw_hs p m < 8192 := by
  obtain ⟨j, h1, h2⟩ := pk_andE (((nI p * 31) + (nI m * 17)) ^^^ (((nI p).toUInt32 >>> ((11 : Int32).toUInt32 &&& Int32.toUInt32 31)).toInt32)) (m := 8191) 13 (by decide)
  have e : xw_hs p m = j := by unfold xw_hs; rw [h2, nI_clamp (by omega)]
  rw [e]; exact ⟨h2, h1⟩
def xw_ins (L : List (Nat × Nat)) (s : Nat × Nat) : List (Nat × Nat) := if s ∈ L then L else L ++ [s]
/-- the list of states in the arrays; every state is found from its hash on -/
def xw_L (L : List (Nat × Nat)) (f_states : Int32) (a_position a_content a_table : Nat → Int32) : Prop :=
  f_states = nI L.length ∧ L.length ≤ 4096 ∧ L.Nodup ∧ (∀ i, i < L.length → a_position i = nI (L.getD i (0, 0)).1 ∧ a_content i = nI (L.getD i (0, 0)).2) ∧
  (∀ s, s ∈ L → s.1 < 2 ^ 28 ∧ s.2 < 4 ^ 9) ∧
  (∀ h, h < 8192 → a_table h = -1 ∨ ∃ i, i < L.length ∧ a_table h = nI i) ∧
  (∀ h h' i, h < 8192 → h' < 8192 → i < L.length → a_table h = nI i → a_table h' = nI i → h = h') ∧
  (∀ i, i < L.length → ∃ k, k < 8192 ∧ a_table ((xw_hs (L.getD i (0, 0)).1 (L.getD i (0, 0)).2 + k) % 8192) = nI i ∧
    ∀ k', k' < k → a_table ((xw_hs (L.getD i (0, 0)).1 (L.getD i (0, 0)).2 + k') % 8192) ≠ -1)
theorem xw_m1 {i : Nat} (h : i < 2 ^ 31) : nI i ≠ -1 := by
  intro c
  have := congrArg Int32.toInt c
  rw [nI_toInt h, show (-1 : Int32).toInt = -1 from by decide] at this
  omega
theorem xw_full {L : List (Nat × Nat)} {f_states : Int32} {a_position a_content a_table : Nat → Int32} (B : xw_L L f_states a_position a_content a_table) (hs : Nat) (h : ∀ k, k < 8192 → a_table ((hs + k) % 8192) ≠ -1) : False := by
  obtain ⟨b1, b2, b3, b4, b5, b6, b7, b8⟩ := B
  have all : ∀ s, s < 8192 → ∃ i, i < L.length ∧ a_table s = nI i := by
    intro s hs8
    have := h ((s + 8192 - hs % 8192) % 8192) (Nat.mod_lt _ (by omega))
    rw [show (hs + (s + 8192 - hs % 8192) % 8192) % 8192 = s by omega] at this
    rcases b6 s hs8 with r | r
    · exact absurd r this
    · exact r
  have nd : ((List.range 8192).map (fun s => (a_table s).toNatClampNeg)).Nodup := by
    refine tl_nd_map List.nodup_range (fun a b ha hb e => ?_)
    obtain ⟨i, i1, i2⟩ := all a (List.mem_range.mp ha)
    obtain ⟨j, j1, j2⟩ := all b (List.mem_range.mp hb)
    rw [i2, j2, nI_clamp (by omega), nI_clamp (by omega)] at e
    subst e
    exact b7 a b i (List.mem_range.mp ha) (List.mem_range.mp hb) i1 i2 j2
  have := tl_nd_len (B := List.range L.length) nd (fun j hj => by
    obtain ⟨s, s1, s2⟩ := List.mem_map.mp hj
    obtain ⟨i, i1, i2⟩ := all s (List.mem_range.mp s1)
    rw [i2, nI_clamp (by omega)] at s2
    rw [← s2]; exact List.mem_range.mpr i1)
  rw [List.length_map, List.length_range, List.length_range] at this
  omega
theorem xw_getD_app {L : List (Nat × Nat)} {s : Nat × Nat} {i : Nat} (h : i < L.length) : (L ++ [s]).getD i (0, 0) = L.getD i (0, 0) := by
  rw [List.getD_eq_getElem?_getD, List.getD_eq_getElem?_getD, List.getElem?_append_left h]
theorem xw_getD_new {L : List (Nat × Nat)} {s : Nat × Nat} : (L ++ [s]).getD L.length (0, 0) = s := by
  rw [List.getD_eq_getElem?_getD, List.getElem?_append_right (Nat.le_refl _), Nat.sub_self]; rfl
theorem xw_getD_mem {L : List (Nat × Nat)} {i : Nat} (h : i < L.length) : L.getD i (0, 0) ∈ L := by
  rw [List.getD_eq_getElem?_getD, List.getElem?_eq_getElem h]; exact List.getElem_mem h
/-- a new state at a free place of the table -/
theorem xw_put {L : List (Nat × Nat)} {f_states : Int32} {a_position a_content a_table : Nat → Int32} (B : xw_L L f_states a_position a_content a_table) {p m k : Nat} (hp : p < 2 ^ 28) (hm : m < 4 ^ 9) (nw : (p, m) ∉ L) (hl : L.length < 4096) (hk : k < 8192)
    (op : a_table ((xw_hs p m + k) % 8192) = -1) (bef : ∀ k', k' < k → a_table ((xw_hs p m + k') % 8192) ≠ -1) :
    xw_L (L ++ [(p, m)]) (nI (L.length + 1)) (upd a_position L.length (nI p)) (upd a_content L.length (nI m)) (upd a_table ((xw_hs p m + k) % 8192) (nI L.length)) := by
  obtain ⟨b1, b2, b3, b4, b5, b6, b7, b8⟩ := B
  have ll : (L ++ [(p, m)]).length = L.length + 1 := by rw [List.length_append]; rfl
  have sl : (xw_hs p m + k) % 8192 < 8192 := Nat.mod_lt _ (by omega)
  have ne : ∀ h, a_table h ≠ -1 → h ≠ (xw_hs p m + k) % 8192 := fun h c d => c (by rw [d]; exact op)
  refine ⟨by rw [ll], by rw [ll]; omega, ?_, ?_, ?_, ?_, ?_, ?_⟩
  · rw [List.nodup_append]
    refine ⟨b3, List.nodup_cons.mpr ⟨List.not_mem_nil, List.nodup_nil⟩, fun a ha b hb e => ?_⟩
    rcases List.mem_cons.mp hb with r | r
    · subst r; subst e; exact nw ha
    · cases r
  · intro i hi
    rw [ll] at hi
    by_cases c : i = L.length
    · subst c; rw [xw_getD_new, pk_us, pk_us]; exact ⟨rfl, rfl⟩
    · rw [xw_getD_app (by omega), pk_un c, pk_un c]; exact b4 i (by omega)
  · intro s hs
    rcases List.mem_append.mp hs with r | r
    · exact b5 s r
    · rcases List.mem_cons.mp r with r | r
      · subst r; exact ⟨hp, hm⟩
      · cases r
  · intro h hh
    rw [ll]
    by_cases c : h = (xw_hs p m + k) % 8192
    · subst c; rw [pk_us]; exact Or.inr ⟨L.length, by omega, rfl⟩
    · rw [pk_un c]
      rcases b6 h hh with r | ⟨i, i1, i2⟩
      · exact Or.inl r
      · exact Or.inr ⟨i, by omega, i2⟩
  · intro h h' i hh hh' hi e e'
    rw [ll] at hi
    -- the new number stands nowhere else
    have old : ∀ h, h < 8192 → h ≠ (xw_hs p m + k) % 8192 → a_table h ≠ nI L.length := by
      intro h hh c d
      rcases b6 h hh with r | ⟨j, j1, j2⟩
      · rw [r] at d; exact xw_m1 (by omega) d.symm
      · rw [j2, nI_eq (by omega) (by omega)] at d; omega
    by_cases c : h = (xw_hs p m + k) % 8192
    · by_cases c' : h' = (xw_hs p m + k) % 8192
      · rw [c, c']
      · subst c
        rw [pk_us, nI_eq (by omega) (by omega)] at e
        rw [pk_un c', ← e] at e'
        exact absurd e' (old h' hh' c')
    · by_cases c' : h' = (xw_hs p m + k) % 8192
      · subst c'
        rw [pk_us, nI_eq (by omega) (by omega)] at e'
        rw [pk_un c, ← e'] at e
        exact absurd e (old h hh c)
      · rw [pk_un c] at e
        rw [pk_un c'] at e'
        by_cases d : i = L.length
        · subst d; exact absurd e (old h hh c)
        · exact b7 h h' i hh hh' (by omega) e e'
  · intro i hi
    rw [ll] at hi
    by_cases c : i = L.length
    · subst c
      rw [xw_getD_new]
      refine ⟨k, hk, pk_us, fun k' hk' => ?_⟩
      rw [pk_un (ne _ (bef k' hk'))]
      exact bef k' hk'
    · rw [xw_getD_app (by omega)]
      obtain ⟨k0, q1, q2, q3⟩ := b8 i (by omega)
      refine ⟨k0, q1, ?_, fun k' hk' => ?_⟩
      · rw [pk_un (ne _ (by rw [q2]; exact xw_m1 (by omega)))]; exact q2
      · rw [pk_un (ne _ (q3 k' hk'))]; exact q3 k' hk'
section
variable {f_total f_loads f_states f_memory f_known f_many f_strictMany : Int32} {a_size a_kind a_variable a_value a_length a_tryKind a_tryVariable a_tryValue a_loadNumber a_position a_content a_table a_at a_done a_list a_strictList : Nat → Int32}
theorem xw_en62 {L : List (Nat × Nat)} {p m : Nat} (hp : p < 2 ^ 28) (hm : m < 4 ^ 9) (em : f_memory = nI m) (B : xw_L L f_states a_position a_content a_table) (hc : (p, m) ∉ L → L.length < 4096) {post : SX → Prop}
    (h : ∀ f_states a_position a_content a_table, xw_L (xw_ins L (p, m)) f_states a_position a_content a_table → post (f_total, f_loads, f_states, f_memory, f_known, f_many, f_strictMany, a_size, a_kind, a_variable, a_value, a_length, a_tryKind, a_tryVariable, a_tryValue, a_loadNumber, a_position, a_content, a_table, a_at, a_done, a_list, a_strictList)) :
    ∀ d k n, k + d = 8192 → d < n → (∀ k', k' < k → ∃ i, i < L.length ∧ a_table ((xw_hs p m + k') % 8192) = nI i ∧ L.getD i (0, 0) ≠ (p, m)) →
      wX_enter_62 post (nI p) f_total f_loads f_states f_memory f_known f_many f_strictMany a_size a_kind a_variable a_value a_length a_tryKind a_tryVariable a_tryValue a_loadNumber a_position a_content a_table a_at a_done a_list a_strictList n (nI ((xw_hs p m + k) % 8192)) (nI k) := by
  have B' := B
  obtain ⟨b1, b2, b3, b4, b5, b6, b7, b8⟩ := B
  intro d
  induction d with
  | zero =>
    intro k n e hn hb
    exfalso
    refine xw_full B' (xw_hs p m) (fun k' hk' c => ?_)
    obtain ⟨i, i1, i2, _⟩ := hb k' (by omega)
    rw [i2] at c
    exact xw_m1 (by omega) c
  | succ d ih =>
    intro k n e hn hb
    obtain ⟨n, rfl⟩ : ∃ m, n = m + 1 := ⟨n - 1, by omega⟩
    have sl : (xw_hs p m + k) % 8192 < 8192 := Nat.mod_lt _ (by omega)
    have vs : vp_in (nI ((xw_hs p m + k) % 8192)) 8192 := vp_in_nI sl (by omega)
    have cl := nI_clamp (n := (xw_hs p m + k) % 8192) (by omega)
    refine br_f (nI_ge (b := 8192) (by omega) (by omega)) (And.intro vs ?_)
    rw [cl]
    rcases b6 _ sl with op | ⟨i, i1, i2⟩
    · rw [op]
      refine br_t (by decide) ?_
      have nw : (p, m) ∉ L := by
        intro c
        obtain ⟨i, i1, i2⟩ := List.getElem_of_mem c
        have gd : L.getD i (0, 0) = (p, m) := by rw [List.getD_eq_getElem?_getD, List.getElem?_eq_getElem i1]; exact i2
        obtain ⟨k0, q1, q2, q3⟩ := b8 i i1
        rw [gd] at q2 q3
        rcases Nat.lt_trichotomy k0 k with r | r | r
        · obtain ⟨j, j1, j2, j3⟩ := hb k0 r
          have q2' : a_table ((xw_hs p m + k0) % 8192) = nI i := q2
          rw [j2, nI_eq (by omega) (by omega)] at q2'
          subst q2'
          exact j3 gd
        · subst r
          have q2' : a_table ((xw_hs p m + k0) % 8192) = nI i := q2
          rw [op] at q2'
          exact xw_m1 (by omega) q2'.symm
        · exact q3 k r op
      have lt := hc nw
      have es : xw_ins L (p, m) = L ++ [(p, m)] := if_neg nw
      rw [es] at h
      have vf : vp_in f_states 4096 := by rw [b1]; exact vp_in_nI lt (by omega)
      have cf : f_states.toNatClampNeg = L.length := by rw [b1]; exact nI_clamp (by omega)
      refine br_f (by rw [b1]; exact nI_ge (b := 4096) lt (by omega)) (And.intro vs ?_)
      rw [cl, cf]
      refine nm_e (And.intro vf (nm_e (And.intro vf (nm_e ?_))))
      refine nm_r (e' := nI (L.length + 1)) (by rw [b1]; exact nI_1 _) ?_
      rw [b1, em]
      rw [em] at h
      refine h _ _ _ _ (xw_put B' hp hm nw lt (by omega) op (fun k' hk' c => ?_))
      obtain ⟨j, j1, j2, _⟩ := hb k' hk'
      rw [j2] at c
      exact xw_m1 (by omega) c
    · rw [i2]
      have vi : vp_in (nI i) 4096 := vp_in_nI (by omega) (by omega)
      have gi := xw_getD_mem i1
      have bi := b5 _ gi
      have ni : (nI i).toNatClampNeg = i := nI_clamp (by omega)
      refine br_f (nI_pos (by omega)) (And.intro vs (And.intro vi ?_))
      rw [ni, (b4 i i1).1]
      have nxt : L.getD i (0, 0) ≠ (p, m) → wX_enter_112 post (wX_enter_62 post (nI p) f_total f_loads f_states f_memory f_known f_many f_strictMany a_size a_kind a_variable a_value a_length a_tryKind a_tryVariable a_tryValue a_loadNumber a_position a_content a_table a_at a_done a_list a_strictList n) (nI p) (nI ((xw_hs p m + k) % 8192)) (nI k) f_total f_loads f_states f_memory f_known f_many f_strictMany a_size a_kind a_variable a_value a_length a_tryKind a_tryVariable a_tryValue a_loadNumber a_position a_content a_table a_at a_done a_list a_strictList := by
        intro c
        refine nm_r (e' := nI ((xw_hs p m + (k + 1)) % 8192)) ?_ (nm_r (nI_1 _) (ih (k + 1) n (by omega) (by omega) (fun k' hk' => ?_)))
        · rw [nI_1, pk_andN (by omega) 13 (by decide)]
          exact congrArg nI (by omega)
        · by_cases z : k' = k
          · subst z; exact ⟨i, i1, i2, c⟩
          · exact hb k' (by omega)
      by_cases c1 : (L.getD i (0, 0)).1 = p
      · refine br_t (congrArg nI c1) (And.intro vs (And.intro vi ?_))
        rw [(b4 i i1).2]
        by_cases c2 : (L.getD i (0, 0)).2 = m
        · have es : L.getD i (0, 0) = (p, m) := Prod.ext c1 c2
          refine br_t (by rw [c2, em]) ?_
          have : xw_ins L (p, m) = L := if_pos (es ▸ gi)
          rw [this] at h
          exact h _ _ _ _ B'
        · exact br_f (fun z => c2 (by rw [em] at z; exact (nI_eq (by omega) (by omega)).mp z)) (nxt (fun z => c2 (by rw [z])))
      · exact br_f (fun z => c1 ((nI_eq (by omega) (by omega)).mp z)) (nxt (fun z => c1 (by rw [z])))
theorem xw_en4 {L : List (Nat × Nat)} {at' dn : Nat → Nat} {m : Nat} (ha : ∀ t, t < 4 → at' t < 16) (hd : ∀ t, t < 4 → dn t < 8) (hm : m < 4 ^ 9) (H : xw_H at' dn m f_memory a_at a_done)
    (B : xw_L L f_states a_position a_content a_table) (hc : (sx_pc at' dn, m) ∉ L → L.length < 4096) {post : SX → Prop}
    (h : ∀ f_states a_position a_content a_table, xw_L (xw_ins L (sx_pc at' dn, m)) f_states a_position a_content a_table → post (f_total, f_loads, f_states, f_memory, f_known, f_many, f_strictMany, a_size, a_kind, a_variable, a_value, a_length, a_tryKind, a_tryVariable, a_tryValue, a_loadNumber, a_position, a_content, a_table, a_at, a_done, a_list, a_strictList)) :
    ∀ d t n, t + d = 4 → d < n → wX_enter_4 post f_total f_loads f_states f_memory f_known f_many f_strictMany a_size a_kind a_variable a_value a_length a_tryKind a_tryVariable a_tryValue a_loadNumber a_position a_content a_table a_at a_done a_list a_strictList n (nI (bx_pk at' dn t)) (nI t) := by
  intro d
  induction d with
  | zero =>
    intro t n e hn
    obtain ⟨n, rfl⟩ : ∃ m, n = m + 1 := ⟨n - 1, by omega⟩
    obtain rfl : t = 4 := by omega
    refine br_t (nI_le (a := 4) (b := 4) (by omega) (by omega)) ?_
    have e2 := xw_hs_e (sx_pc at' dn) m
    rw [bx_pk4, H.2]
    refine nm_r e2.1 ⟨8193, ?_⟩
    have := xw_en62 (sx_pc_lt ha hd) hm rfl B hc (H.2 ▸ h) 8192 0 8193 (by omega) (by omega) (fun k' hk' => by omega)
    rw [Nat.add_zero, Nat.mod_eq_of_lt e2.2] at this
    exact this
  | succ d ih =>
    intro t n e hn
    obtain ⟨n, rfl⟩ : ∃ m, n = m + 1 := ⟨n - 1, by omega⟩
    have vt : vp_in (nI t) 4 := vp_in_nI (by omega) (by omega)
    refine br_f (nI_ge (b := 4) (by omega) (by omega)) (And.intro vt (And.intro vt ?_))
    rw [nI_clamp (n := t) (by omega), (H.1 t (by omega)).1, (H.1 t (by omega)).2]
    exact nm_r (bx_ent ha hd (by omega)) (nm_r (nI_1 _) (ih (t + 1) n (by omega) (by omega)))
theorem xw_enter {L : List (Nat × Nat)} {at' dn : Nat → Nat} {m : Nat} (ha : ∀ t, t < 4 → at' t < 16) (hd : ∀ t, t < 4 → dn t < 8) (hm : m < 4 ^ 9) (H : xw_H at' dn m f_memory a_at a_done)
    (B : xw_L L f_states a_position a_content a_table) (hc : (sx_pc at' dn, m) ∉ L → L.length < 4096) {post : SX → Prop}
    (h : ∀ f_states a_position a_content a_table, xw_L (xw_ins L (sx_pc at' dn, m)) f_states a_position a_content a_table → post (f_total, f_loads, f_states, f_memory, f_known, f_many, f_strictMany, a_size, a_kind, a_variable, a_value, a_length, a_tryKind, a_tryVariable, a_tryValue, a_loadNumber, a_position, a_content, a_table, a_at, a_done, a_list, a_strictList)) :
    wpX_enter post (f_total, f_loads, f_states, f_memory, f_known, f_many, f_strictMany, a_size, a_kind, a_variable, a_value, a_length, a_tryKind, a_tryVariable, a_tryValue, a_loadNumber, a_position, a_content, a_table, a_at, a_done, a_list, a_strictList) :=
  ⟨5, xw_en4 ha hd hm H B hc h 4 0 5 (by omega) (by omega)⟩
end
end
section
/-! X: outcomes in order: has, note -/
/-- c outcomes o, the least first, in an array -/
def xw_O (o : Nat → Nat) (c : Nat) (cnt : Int32) (ar : Nat → Int32) : Prop :=
  cnt = nI c ∧ c ≤ 512 ∧ (∀ i j, i < j → j < c → o i < o j) ∧ ∀ i, i < c → ar i = nI (o i) ∧ o i < 4 ^ 9
/-- two orders of one set are one -/
theorem so_one {o o' : Nat → Nat} {c c' : Nat} (h : ∀ i j, i < j → j < c → o i < o j) (h' : ∀ i j, i < j → j < c' → o' i < o' j) (e : ∀ x, (∃ i, i < c ∧ o i = x) ↔ ∃ i, i < c' ∧ o' i = x) : ∀ k i, i < k → i < c → i < c' ∧ o i = o' i := by
  intro k
  induction k with
  | zero => intro i hi; omega
  | succ k ih =>
    intro i hi hc
    obtain ⟨j, j1, j2⟩ := (e (o i)).mp ⟨i, hc, rfl⟩
    have ji : i ≤ j := by
      apply Classical.byContradiction
      intro q
      have := ih j (by omega) (by omega)
      have := h j i (by omega) hc
      omega
    by_cases q : j = i
    · subst q; exact ⟨j1, j2.symm⟩
    · exfalso
      have lt := h' i j (by omega) j1
      obtain ⟨l, l1, l2⟩ := (e (o' i)).mpr ⟨i, by omega, rfl⟩
      have li : l < i := by
        apply Classical.byContradiction
        intro z
        by_cases y : l = i
        · subst y; omega
        · have := h i l (by omega) l1; omega
      have := (ih l (by omega) l1).2
      have := h' l i li (by omega)
      omega
theorem so_eq {o o' : Nat → Nat} {c c' : Nat} (h : ∀ i j, i < j → j < c → o i < o j) (h' : ∀ i j, i < j → j < c' → o' i < o' j) (e : ∀ x, (∃ i, i < c ∧ o i = x) ↔ ∃ i, i < c' ∧ o' i = x) : c = c' ∧ ∀ i, i < c → o i = o' i := by
  have a := so_one h h' e
  have b := so_one h' h (fun x => (e x).symm)
  refine ⟨?_, fun i hi => (a (i + 1) i (by omega) hi).2⟩
  rcases Nat.lt_trichotomy c c' with r | r | r
  · have := (b (c + 1) c (by omega) r).1; omega
  · exact r
  · have := (a (c' + 1) c' (by omega) r).1; omega
theorem so_inj {o : Nat → Nat} {c : Nat} (h : ∀ i j, i < j → j < c → o i < o j) {i j : Nat} (hi : i < c) (hj : j < c) (e : o i = o j) : i = j := by
  rcases Nat.lt_trichotomy i j with r | r | r
  · have := h i j r hj; omega
  · exact r
  · have := h j i r hi; omega
theorem so_len {o : Nat → Nat} {c B : Nat} (h : ∀ i j, i < j → j < c → o i < o j) (hb : ∀ L : List Nat, L.Nodup → (∀ m, m ∈ L → ∃ i, i < c ∧ o i = m) → L.length ≤ B) : c ≤ B := by
  have := hb ((List.range c).map o) (tl_nd_map List.nodup_range (fun a b ha hb e => so_inj h (List.mem_range.mp ha) (List.mem_range.mp hb) e)) (fun m hm => by
    obtain ⟨i, i1, i2⟩ := List.mem_map.mp hm
    exact ⟨i, List.mem_range.mp i1, i2⟩)
  rw [List.length_map, List.length_range] at this
  exact this
/-- an outcome put in at place k -/
def so_ins (o : Nat → Nat) (k m j : Nat) : Nat := if j < k then o j else if j = k then m else o (j - 1)
theorem so_ins_s {o : Nat → Nat} {c k m : Nat} (hk : k ≤ c) (h : ∀ i j, i < j → j < c → o i < o j) (lo : ∀ j, j < k → o j < m) (hi : ∀ j, k ≤ j → j < c → m < o j) : ∀ i j, i < j → j < c + 1 → so_ins o k m i < so_ins o k m j := by
  intro i j ij jc
  unfold so_ins
  by_cases a : j < k
  · rw [if_pos a, if_pos (by omega)]; exact h i j ij (by omega)
  · rw [if_neg a]
    by_cases b : j = k
    · rw [if_pos b, if_pos (by omega)]; exact lo i (by omega)
    · rw [if_neg b]
      by_cases d : i < k
      · rw [if_pos d]
        by_cases z : i < j - 1
        · exact h i (j - 1) z (by omega)
        · omega
      · rw [if_neg d]
        by_cases z : i = k
        · rw [if_pos z]; exact hi (j - 1) (by omega) (by omega)
        · rw [if_neg z]; exact h (i - 1) (j - 1) (by omega) (by omega)
theorem so_ins_m {o : Nat → Nat} {c k m : Nat} (hk : k ≤ c) (x : Nat) : (∃ i, i < c + 1 ∧ so_ins o k m i = x) ↔ (∃ i, i < c ∧ o i = x) ∨ x = m := by
  constructor
  · rintro ⟨i, i1, i2⟩
    unfold so_ins at i2
    by_cases a : i < k
    · rw [if_pos a] at i2; exact Or.inl ⟨i, by omega, i2⟩
    · rw [if_neg a] at i2
      by_cases b : i = k
      · rw [if_pos b] at i2; exact Or.inr i2.symm
      · rw [if_neg b] at i2; exact Or.inl ⟨i - 1, by omega, i2⟩
  · rintro (⟨i, i1, i2⟩ | r)
    · by_cases a : i < k
      · exact ⟨i, by omega, by unfold so_ins; rw [if_pos a]; exact i2⟩
      · refine ⟨i + 1, by omega, ?_⟩
        unfold so_ins
        rw [if_neg (by omega), if_neg (by omega)]; exact i2
    · refine ⟨k, by omega, ?_⟩
      unfold so_ins
      rw [if_neg (by omega), if_pos rfl]; exact r.symm
section
variable {f_total f_loads f_states f_memory f_known f_many f_strictMany : Int32} {a_size a_kind a_variable a_value a_length a_tryKind a_tryVariable a_tryValue a_loadNumber a_position a_content a_table a_at a_done a_list a_strictList : Nat → Int32}
theorem xw_has22 {o : Nat → Nat} {c : Nat} {cnt x1 v : Int32} {ar : Nat → Int32} (O : xw_O o c cnt ar) (hx : (x1 = 0 ∧ ar = a_list) ∨ (¬ x1 = 0 ∧ ar = a_strictList)) {post : Int32 → Prop}
    (h1 : (∃ i, i < c ∧ nI (o i) = v) → post 1) (h0 : (¬ ∃ i, i < c ∧ nI (o i) = v) → post 0) :
    ∀ d i n low, i + d = c → d < n → low ≤ i → (∀ j, j < low → nI (o j) < v) → (∀ j, low ≤ j → j < i → ¬ nI (o j) < v) → wX_has_22 post x1 v (nI c) f_total f_loads f_states f_memory f_known f_many f_strictMany a_size a_kind a_variable a_value a_length a_tryKind a_tryVariable a_tryValue a_loadNumber a_position a_content a_table a_at a_done a_list a_strictList n (nI low) (nI i) := by
  obtain ⟨q1, q2, q3, q4⟩ := O
  have lt : ∀ i j, i < j → j < c → nI (o i) < nI (o j) := fun i j ij jc => nI_lt (q3 i j ij jc) (by have := (q4 j jc).2; omega)
  intro d
  induction d with
  | zero =>
    intro i n low e hn hl ha hb
    obtain ⟨n, rfl⟩ : ∃ m, n = m + 1 := ⟨n - 1, by omega⟩
    obtain rfl : i = c := by omega
    refine br_t (nI_le (Nat.le_refl _) (by omega)) ?_
    by_cases z : low = i
    · refine br_t (congrArg nI z) (h0 ?_)
      rintro ⟨j, j1, j2⟩
      have := ha j (by omega)
      rw [j2] at this
      exact Int32.lt_irrefl this
    · refine br_f (fun y => z ((nI_eq (by omega) (by omega)).mp y)) ?_
      have vl : vp_in (nI low) 512 := vp_in_nI (by omega) (by omega)
      have fin : wX_has_103 post v (ar (nI low).toNatClampNeg) f_total f_loads f_states f_memory f_known f_many f_strictMany a_size a_kind a_variable a_value a_length a_tryKind a_tryVariable a_tryValue a_loadNumber a_position a_content a_table a_at a_done a_list a_strictList := by
        rw [nI_clamp (by omega), (q4 low (by omega)).1]
        refine br_c (fun y => h1 ⟨low, by omega, y⟩) (fun y => h0 ?_)
        rintro ⟨j, j1, j2⟩
        rcases Nat.lt_trichotomy j low with r | r | r
        · have := ha j r
          rw [j2] at this
          exact Int32.lt_irrefl this
        · subst r; exact y j2
        · have a := lt low j r j1
          rw [j2] at a
          exact hb low (Nat.le_refl _) (by omega) a
      rcases hx with ⟨x0, rfl⟩ | ⟨x0, rfl⟩
      · exact br_t x0 (And.intro vl fin)
      · exact br_f x0 (And.intro vl fin)
  | succ d ih =>
    intro i n low e hn hl ha hb
    obtain ⟨n, rfl⟩ : ∃ m, n = m + 1 := ⟨n - 1, by omega⟩
    refine br_f (nI_ge (by omega) (by omega)) ?_
    have vi : vp_in (nI i) 512 := vp_in_nI (by omega) (by omega)
    have fin : wX_has_49 post (wX_has_22 post x1 v (nI c) f_total f_loads f_states f_memory f_known f_many f_strictMany a_size a_kind a_variable a_value a_length a_tryKind a_tryVariable a_tryValue a_loadNumber a_position a_content a_table a_at a_done a_list a_strictList n) x1 v (nI c) (nI low) (nI i) (ar (nI i).toNatClampNeg) f_total f_loads f_states f_memory f_known f_many f_strictMany a_size a_kind a_variable a_value a_length a_tryKind a_tryVariable a_tryValue a_loadNumber a_position a_content a_table a_at a_done a_list a_strictList := by
      rw [nI_clamp (by omega), (q4 i (by omega)).1]
      refine br_c (fun y => ?_) (fun y => ?_)
      · refine nm_r (nI_1 _) (ih (i + 1) n low (by omega) (by omega) (by omega) ha (fun j j1 j2 => ?_))
        by_cases z : j = i
        · subst z; exact Int32.not_lt.mpr y
        · exact hb j j1 (by omega)
      · have y' : nI (o i) < v := Int32.not_le.mp y
        refine nm_r (nI_1 _) (nm_r (nI_1 _) (ih (i + 1) n (i + 1) (by omega) (by omega) (by omega) (fun j hj => ?_) (fun j j1 j2 => by omega)))
        by_cases z : j = i
        · subst z; exact y'
        · exact Int32.lt_trans (lt j i (by omega) (by omega)) y'
    rcases hx with ⟨x0, rfl⟩ | ⟨x0, rfl⟩
    · exact br_t x0 (And.intro vi fin)
    · exact br_f x0 (And.intro vi fin)
theorem xw_has0 {o : Nat → Nat} {c : Nat} {v : Int32} (O : xw_O o c f_many a_list) {post : Int32 → Prop}
    (h1 : (∃ i, i < c ∧ nI (o i) = v) → post 1) (h0 : (¬ ∃ i, i < c ∧ nI (o i) = v) → post 0) : wpX_has post (f_total, f_loads, f_states, f_memory, f_known, f_many, f_strictMany, a_size, a_kind, a_variable, a_value, a_length, a_tryKind, a_tryVariable, a_tryValue, a_loadNumber, a_position, a_content, a_table, a_at, a_done, a_list, a_strictList) 0 v := by
  refine br_t rfl ⟨c + 1, ?_⟩
  rw [O.1]
  exact xw_has22 (cnt := nI c) ⟨rfl, O.2⟩ (Or.inl ⟨rfl, rfl⟩) h1 h0 c 0 (c + 1) 0 (by omega) (by omega) (by omega) (fun j hj => by omega) (fun j _ hj => by omega)
theorem xw_has1 {o : Nat → Nat} {c : Nat} {v : Int32} (O : xw_O o c f_strictMany a_strictList) {post : Int32 → Prop}
    (h1 : (∃ i, i < c ∧ nI (o i) = v) → post 1) (h0 : (¬ ∃ i, i < c ∧ nI (o i) = v) → post 0) : wpX_has post (f_total, f_loads, f_states, f_memory, f_known, f_many, f_strictMany, a_size, a_kind, a_variable, a_value, a_length, a_tryKind, a_tryVariable, a_tryValue, a_loadNumber, a_position, a_content, a_table, a_at, a_done, a_list, a_strictList) 1 v := by
  refine br_f (by decide) ⟨c + 1, ?_⟩
  rw [O.1]
  exact xw_has22 (cnt := nI c) ⟨rfl, O.2⟩ (Or.inr ⟨by decide, rfl⟩) h1 h0 c 0 (c + 1) 0 (by omega) (by omega) (by omega) (fun j hj => by omega) (fun j _ hj => by omega)
theorem xw_nt33 {o : Nat → Nat} {c m : Nat} (hc : c < 512) (hs : ∀ i j, i < j → j < c → o i < o j) (hb : ∀ i, i < c → o i < 4 ^ 9) (hm : m < 4 ^ 9) (nw : ∀ i, i < c → o i ≠ m) (ec : f_many = nI c) {post : SX → Prop}
    (h : ∀ k a_list, k ≤ c → (∀ j, j < k → o j < m) → (∀ j, k ≤ j → j < c → m < o j) → (∀ j, j < c + 1 → a_list j = nI (so_ins o k m j)) → post (f_total, f_loads, f_states, f_memory, f_known, nI (c + 1), f_strictMany, a_size, a_kind, a_variable, a_value, a_length, a_tryKind, a_tryVariable, a_tryValue, a_loadNumber, a_position, a_content, a_table, a_at, a_done, a_list, a_strictList)) :
    ∀ k n a_list, k ≤ c → k < n → (∀ j, j < k → a_list j = nI (o j)) → (∀ j, k < j → j < c + 1 → a_list j = nI (o (j - 1))) → (∀ j, k ≤ j → j < c → m < o j) → wX_note_33 post (nI m) f_total f_loads f_states f_memory f_known f_many f_strictMany n (nI k) (nI k) a_size a_kind a_variable a_value a_length a_tryKind a_tryVariable a_tryValue a_loadNumber a_position a_content a_table a_at a_done a_list a_strictList := by
  -- the end
  have fin : ∀ k a_list, k ≤ c → (∀ j, j < k → a_list j = nI (o j)) → (∀ j, k < j → j < c + 1 → a_list j = nI (o (j - 1))) → (∀ j, k ≤ j → j < c → m < o j) → (∀ j, j < k → o j < m) → wX_note_78 post (nI m) (nI k) f_total f_loads f_states f_memory f_known f_many f_strictMany a_size a_kind a_variable a_value a_length a_tryKind a_tryVariable a_tryValue a_loadNumber a_position a_content a_table a_at a_done a_list a_strictList := by
    intro k a_list hk e1 e2 e3 e4
    refine And.intro (vp_in_nI (by omega) (by omega)) (nm_e (nm_r (e' := nI (c + 1)) (by rw [ec]; exact nI_1 _) ?_))
    rw [nI_clamp (by omega)]
    refine h k _ hk e4 e3 (fun j hj => ?_)
    unfold so_ins
    by_cases a : j < k
    · rw [if_pos a, pk_un (by omega)]; exact e1 j a
    · rw [if_neg a]
      by_cases b : j = k
      · subst b; rw [if_pos rfl, pk_us]
      · rw [if_neg b, pk_un b]; exact e2 j (by omega) hj
  intro k
  induction k with
  | zero =>
    intro n a_list hk hn e1 e2 e3
    obtain ⟨n, rfl⟩ : ∃ m, n = m + 1 := ⟨n - 1, by omega⟩
    exact br_t (nI_le (a := 0) (b := 0) (by omega) (by omega)) (fin 0 a_list hk e1 e2 e3 (fun j hj => by omega))
  | succ k ih =>
    intro n a_list hk hn e1 e2 e3
    obtain ⟨n, rfl⟩ : ∃ m, n = m + 1 := ⟨n - 1, by omega⟩
    have vk : vp_in (nI (k + 1) - 1) 512 := by rw [nI_pred]; exact vp_in_nI (by omega) (by omega)
    refine br_f (nI_nle (by omega) (by omega)) (And.intro vk ?_)
    have ck : a_list (nI (k + 1) - 1).toNatClampNeg = nI (o k) := by rw [nI_pred, nI_clamp (by omega)]; exact e1 k (by omega)
    rw [ck]
    have bk := hb k (by omega)
    by_cases z : o k ≤ m
    · have zk := nw k (by omega)
      refine br_t (nI_le z (by omega)) (fin (k + 1) a_list hk e1 e2 e3 (fun j hj => ?_))
      by_cases y : j = k
      · subst y; omega
      · have := hs j k (by omega) (by omega); omega
    · refine br_f (nI_ge (by omega) (by omega)) (And.intro vk (And.intro (vp_in_nI (by omega) (by omega)) (nm_e (nm_r (nI_pred k) (nm_r (pk_m1 k) ?_)))))
      rw [nI_clamp (n := k + 1) (by omega)]
      refine ih n _ (by omega) (by omega) (fun j hj => ?_) (fun j j1 j2 => ?_) (fun j j1 j2 => ?_)
      · rw [pk_un (by omega)]; exact e1 j (by omega)
      · by_cases y : j = k + 1
        · subst y; rw [pk_us]; exact congrArg (fun q => nI (o q)) (by omega)
        · rw [pk_un y]; exact e2 j (by omega) j2
      · by_cases y : j = k
        · subst y; omega
        · exact e3 j (by omega) j2
theorem xw_note {o : Nat → Nat} {c m : Nat} (O : xw_O o c f_many a_list) (hm : m < 4 ^ 9) (cap : (∀ i, i < c → o i ≠ m) → c < 512) {post : SX → Prop}
    (h : ∀ o' c' f_many a_list, xw_O o' c' f_many a_list → (∀ x, (∃ i, i < c' ∧ o' i = x) ↔ (∃ i, i < c ∧ o i = x) ∨ x = m) → post (f_total, f_loads, f_states, f_memory, f_known, f_many, f_strictMany, a_size, a_kind, a_variable, a_value, a_length, a_tryKind, a_tryVariable, a_tryValue, a_loadNumber, a_position, a_content, a_table, a_at, a_done, a_list, a_strictList)) : wpX_note post (f_total, f_loads, f_states, f_memory, f_known, f_many, f_strictMany, a_size, a_kind, a_variable, a_value, a_length, a_tryKind, a_tryVariable, a_tryValue, a_loadNumber, a_position, a_content, a_table, a_at, a_done, a_list, a_strictList) (nI m) := by
  have O' := O
  obtain ⟨q1, q2, q3, q4⟩ := O
  unfold wpX_note
  refine xw_has0 O' (fun t => ?_) (fun t => ?_)
  · refine br_f (by decide) (h o c f_many a_list O' (fun x => ⟨Or.inl, ?_⟩))
    rintro (r | r)
    · exact r
    · obtain ⟨i, i1, i2⟩ := t
      have := (q4 i i1).2
      exact ⟨i, i1, by rw [r]; exact (nI_eq (by omega) (by omega)).mp i2⟩
  · have nw : ∀ i, i < c → o i ≠ m := fun i hi e => t ⟨i, hi, congrArg nI e⟩
    have cl := cap nw
    refine br_t rfl (br_f (fun z => ?_) ⟨c + 1, ?_⟩)
    · rw [q1, show (512 : Int32) = nI 512 from rfl, nI_eq (by omega) (by omega)] at z; omega
    · have main := xw_nt33 (o := o) (c := c) (m := m) (f_many := f_many) (post := post) cl q3 (fun i hi => (q4 i hi).2) hm nw q1
        (fun k a_list hk lo hi e => h (so_ins o k m) (c + 1) (nI (c + 1)) a_list ⟨rfl, by omega, so_ins_s hk q3 lo hi, fun i hi' => ⟨e i hi', ?_⟩⟩ (fun x => so_ins_m hk x))
        c (c + 1) a_list (Nat.le_refl _) (by omega) (fun j hj => (q4 j hj).1) (fun j j1 j2 => by omega) (fun j j1 j2 => by omega)
      · rw [← q1] at main
        exact main
      · unfold so_ins
        split
        · exact (q4 i (by omega)).2
        · split
          · exact hm
          · exact (q4 (i - 1) (by omega)).2
end
end
section
/-! X: all steps from a listed state -/
def xw_stp (len K X V N : Nat → Nat) (str : Prop) (s0 : Nat × Nat) (u : Nat) (s' : Nat × Nat) : Prop := sx_go len K X V N str u s0 s' ∨ sx_re K X V u s0 s'
/-- how far the steps of s0 have been entered -/
def xw_E (len K X V N : Nat → Nat) (str : Prop) (Q : Nat × Nat → Prop) (s0 : Nat × Nat) (L0 : List (Nat × Nat)) (done : Nat → Nat × Nat → Prop) (any : Nat) (L : List (Nat × Nat)) : Prop :=
  (∃ M, L = L0 ++ M) ∧ (∀ s, s ∈ L → Q s) ∧ (∀ u s', done u s' → s' ∈ L) ∧ any < 2 ∧ (any = 1 ↔ ∃ u s', done u s')
theorem xw_ins_app (L : List (Nat × Nat)) (s : Nat × Nat) : ∃ M, xw_ins L s = L ++ M := by
  unfold xw_ins
  split
  · exact ⟨[], (List.append_nil L).symm⟩
  · exact ⟨[s], rfl⟩
theorem xw_ins_mem (L : List (Nat × Nat)) (s x : Nat × Nat) : x ∈ xw_ins L s ↔ x ∈ L ∨ x = s := by
  unfold xw_ins
  split
  · rename_i h
    exact ⟨Or.inl, fun r => r.elim id (fun e => e ▸ h)⟩
  · rw [List.mem_append, List.mem_singleton]
theorem xw_E_add {len K X V N : Nat → Nat} {str : Prop} {Q : Nat × Nat → Prop} {s0 : Nat × Nat} {L0 L : List (Nat × Nat)} {done done' : Nat → Nat × Nat → Prop} {any : Nat} {s1 : Nat × Nat} (E : xw_E len K X V N str Q s0 L0 done any L)
    (q : Q s1) (hd : ∀ u s', done' u s' ↔ done u s' ∨ (∃ w, done' w s1 ∧ u = w ∧ s' = s1)) (hx : ∃ w, done' w s1) : xw_E len K X V N str Q s0 L0 done' 1 (xw_ins L s1) := by
  obtain ⟨⟨M, e1⟩, e2, e3, e4, e5⟩ := E
  refine ⟨?_, ?_, ?_, by omega, ⟨fun _ => hx.elim (fun w h => ⟨w, s1, h⟩), fun _ => rfl⟩⟩
  · obtain ⟨M', e⟩ := xw_ins_app L s1
    exact ⟨M ++ M', by rw [e, e1, List.append_assoc]⟩
  · intro s hs
    rcases (xw_ins_mem L s1 s).mp hs with r | r
    · exact e2 s r
    · rw [r]; exact q
  · intro u s' h
    rw [xw_ins_mem]
    rcases (hd u s').mp h with r | ⟨_, _, _, r⟩
    · exact Or.inl (e3 u s' r)
    · exact Or.inr r
theorem xw_E_same {len K X V N : Nat → Nat} {str : Prop} {Q : Nat × Nat → Prop} {s0 : Nat × Nat} {L0 L : List (Nat × Nat)} {done done' : Nat → Nat × Nat → Prop} {any : Nat} (E : xw_E len K X V N str Q s0 L0 done any L)
    (hd : ∀ u s', done' u s' ↔ done u s') : xw_E len K X V N str Q s0 L0 done' any L := by
  obtain ⟨e1, e2, e3, e4, e5⟩ := E
  refine ⟨e1, e2, fun u s' h => e3 u s' ((hd u s').mp h), e4, ?_⟩
  rw [e5]
  exact ⟨fun ⟨u, s', h⟩ => ⟨u, s', (hd u s').mpr h⟩, fun ⟨u, s', h⟩ => ⟨u, s', (hd u s').mp h⟩⟩
theorem xw_re1 {K X V : Nat → Nat} {t : Nat} {s0 s1 s2 : Nat × Nat} (h1 : sx_re K X V t s0 s1) (h2 : sx_re K X V t s0 s2) : s2 = s1 := by
  obtain ⟨_, i, _, a2, a3, a4⟩ := h1
  obtain ⟨_, j, _, b2, b3, b4⟩ := h2
  have : i = j := sx_is_inj a2 b2 (by rw [a3, b3])
  rw [a4, b4, this]
theorem xw_go1 {len K X V N : Nat → Nat} {str : Prop} {t : Nat} {s0 s1 s2 : Nat × Nat} (h1 : sx_go len K X V N str t s0 s1) (h2 : sx_go len K X V N str t s0 s2) : s2 = s1 := by
  obtain ⟨_, _, a⟩ := h1
  obtain ⟨_, _, b⟩ := h2
  rcases a with ⟨a1, a2⟩ | ⟨a1, a2, i, _, a3, a4, a5⟩ | ⟨a1, a2, a3⟩
  · rcases b with ⟨b1, b2⟩ | ⟨b1, _⟩ | ⟨b1, _⟩
    · rw [a2, b2]
    · omega
    · exact absurd a1 b1
  · rcases b with ⟨b1, b2⟩ | ⟨_, _, j, _, b3, b4, b5⟩ | ⟨_, b2, _⟩
    · omega
    · have : i = j := sx_is_inj a3 b3 (by rw [a4, b4])
      rw [a5, b5, this]
    · exact absurd ⟨a1, a2⟩ b2
  · rcases b with ⟨b1, _⟩ | ⟨b1, b2, _⟩ | ⟨_, _, b3⟩
    · exact absurd b1 a1
    · exact absurd ⟨b1, b2⟩ a2
    · rw [a3, b3]
/-- done below t, and at t the going on -/
def xw_dn (len K X V N : Nat → Nat) (str : Prop) (s0 : Nat × Nat) (t : Nat) (u : Nat) (s' : Nat × Nat) : Prop := u < t ∧ xw_stp len K X V N str s0 u s'
def xw_dg (len K X V N : Nat → Nat) (str : Prop) (s0 : Nat × Nat) (t : Nat) (u : Nat) (s' : Nat × Nat) : Prop := xw_dn len K X V N str s0 t u s' ∨ (u = t ∧ sx_go len K X V N str t s0 s')
section
variable {f_total f_loads f_states f_memory f_known f_many f_strictMany : Int32} {a_size a_kind a_variable a_value a_length a_tryKind a_tryVariable a_tryValue a_loadNumber a_position a_content a_table a_at a_done a_list a_strictList : Nat → Int32}
variable {len K X V N : Nat → Nat}
theorem xw_ex5 (T : xw_T len K X V N a_length a_tryKind a_tryVariable a_tryValue a_loadNumber) (h6 : ∀ t, t < 4 → sx_is K t (len t) ≤ 6) {Q : Nat × Nat → Prop} {p m str s : Nat} (hs : str < 2) {L0 : List (Nat × Nat)} (sl : s < L0.length) (es : L0.getD s (0, 0) = (p, m))
    (O : xw_ok len K (sx_at p) (sx_dn p) m) (hQ : ∀ t s', t < 4 → xw_stp len K X V N (str = 1) (p, m) t s' → Q s') (hB : ∀ L : List (Nat × Nat), L.Nodup → (∀ s, s ∈ L → Q s) → L.length ≤ 4096) {post : Int32 → SX → Prop}
    (h : ∀ any L f_states f_memory a_position a_content a_table a_at a_done, xw_L L f_states a_position a_content a_table → xw_E len K X V N (str = 1) Q (p, m) L0 (xw_dn len K X V N (str = 1) (p, m) 4) any L → post (nI any) (f_total, f_loads, f_states, f_memory, f_known, f_many, f_strictMany, a_size, a_kind, a_variable, a_value, a_length, a_tryKind, a_tryVariable, a_tryValue, a_loadNumber, a_position, a_content, a_table, a_at, a_done, a_list, a_strictList)) :
    ∀ d t n any L f_states f_memory a_position a_content a_table a_at a_done, t + d = 4 → d < n → xw_L L f_states a_position a_content a_table → xw_E len K X V N (str = 1) Q (p, m) L0 (xw_dn len K X V N (str = 1) (p, m) t) any L →
      wX_expand_5 post (nI s) (nI str) n (nI any) (nI t) f_total f_loads f_states f_memory f_known f_many f_strictMany a_size a_kind a_variable a_value a_length a_tryKind a_tryVariable a_tryValue a_loadNumber a_position a_content a_table a_at a_done a_list a_strictList := by
  -- the state at s is the same in every longer list
  have at_s : ∀ L f_states a_position a_content a_table (done : Nat → Nat × Nat → Prop) (any : Nat), xw_L L f_states a_position a_content a_table → xw_E len K X V N (str = 1) Q (p, m) L0 done any L →
      s < 4096 ∧ a_position s = nI p ∧ p < 2 ^ 28 ∧ a_content s = nI m := by
    intro L f_states a_position a_content a_table done any B E
    obtain ⟨⟨M, e1⟩, _⟩ := E
    have sL : s < L.length := by rw [e1, List.length_append]; omega
    have g : L.getD s (0, 0) = (p, m) := by
      rw [← es, e1, List.getD_eq_getElem?_getD, List.getD_eq_getElem?_getD, List.getElem?_append_left sl]
    obtain ⟨b1, b2, b3, b4, b5, _⟩ := B
    have c := b4 s sL
    have c2 := b5 _ (xw_getD_mem sL)
    rw [g] at c c2
    exact ⟨by omega, c.1, c2.1, c.2⟩
  -- entering one more
  have room : ∀ L f_states a_position a_content a_table (done : Nat → Nat × Nat → Prop) (any : Nat) (s1 : Nat × Nat), xw_L L f_states a_position a_content a_table → xw_E len K X V N (str = 1) Q (p, m) L0 done any L → Q s1 → s1 ∉ L → L.length < 4096 := by
    intro L f_states a_position a_content a_table done any s1 B E q nw
    have := hB (L ++ [s1]) (by
      rw [List.nodup_append]
      refine ⟨B.2.2.1, List.nodup_cons.mpr ⟨List.not_mem_nil, List.nodup_nil⟩, fun a ha b hb e => ?_⟩
      rw [List.mem_singleton] at hb
      subst hb; subst e; exact nw ha) (fun x hx => by
      rw [List.mem_append, List.mem_singleton] at hx
      rcases hx with r | r
      · exact E.2.1 x r
      · rw [r]; exact q)
    rw [List.length_append, List.length_singleton] at this
    omega
  have lim : ∀ t, t < 4 → len t ≤ 11 ∧ sx_at p t ≤ len t ∧ sx_dn p t ≤ sx_is K t (sx_at p t) ∧ sx_is K t (sx_at p t) ≤ 6 := by
    intro t ht
    have := (T.1 t ht).2
    have := O.1 t ht
    have := h6 t ht
    have := sx_is_mono (K := K) (t := t) (a := sx_at p t) (b := len t) (O.1 t ht).1
    exact ⟨by omega, by omega, by omega, by omega⟩
  intro d
  induction d with
  | zero =>
    intro t n any L f_states f_memory a_position a_content a_table a_at a_done e hn B E
    obtain ⟨n, rfl⟩ : ∃ m, n = m + 1 := ⟨n - 1, by omega⟩
    obtain rfl : t = 4 := by omega
    refine br_t (nI_le (a := 4) (b := 4) (by omega) (by omega)) (And.intro ?_ (h any L _ _ _ _ _ _ _ B E))
    have := E.2.2.2.1
    rcases (by omega : any = 0 ∨ any = 1) with r | r <;> subst r <;> rfl
  | succ d ih =>
    intro t n any L f_states f_memory a_position a_content a_table a_at a_done e hn B E
    obtain ⟨n, rfl⟩ : ∃ m, n = m + 1 := ⟨n - 1, by omega⟩
    have t4 : t < 4 := by omega
    obtain ⟨lt1, lt2, lt3, lt4⟩ := lim t t4
    -- the second half: the queue's first store
    have half : ∀ any L f_states f_memory a_position a_content a_table a_at a_done, xw_L L f_states a_position a_content a_table → xw_E len K X V N (str = 1) Q (p, m) L0 (xw_dg len K X V N (str = 1) (p, m) t) any L →
        wX_expand_36 post (wX_expand_5 post (nI s) (nI str) n) (nI s) (nI str) (nI any) (nI t) f_total f_loads f_states f_memory f_known f_many f_strictMany a_size a_kind a_variable a_value a_length a_tryKind a_tryVariable a_tryValue a_loadNumber a_position a_content a_table a_at a_done a_list a_strictList := by
      intro any L f_states f_memory a_position a_content a_table a_at a_done B E
      obtain ⟨s1, s2, s3, s4⟩ := at_s _ _ _ _ _ _ _ B E
      refine xw_loadState s1 s2 s3 s4 (fun a_at a_done H => ?_)
      refine xw_issued T t4 lt2 (H.1 t t4).1 (And.intro (vp_in_nI t4 (by omega)) (nm_e ?_))
      rw [xw_r t (by omega) rfl (H.1 t t4).2]
      by_cases w : sx_is K t (sx_at p t) ≤ sx_dn p t
      · refine br_t ((xw_sub0 (by omega) (by omega)).mpr w) (nm_r (nI_1 _) (ih (t + 1) n any L _ _ _ _ _ _ _ (by omega) (by omega) B (xw_E_same E (fun u s' => ?_))))
        constructor
        · rintro ⟨h1, h2⟩
          by_cases c : u = t
          · subst c
            rcases h2 with h2 | h2
            · exact Or.inr ⟨rfl, h2⟩
            · have h3 : sx_dn p u < sx_is K u (sx_at p u) := h2.1
              omega
          · exact Or.inl ⟨by omega, h2⟩
        · rintro (⟨h1, h2⟩ | ⟨h1, h2⟩)
          · exact ⟨by omega, h2⟩
          · subst h1; exact ⟨by omega, Or.inl h2⟩
      · refine br_f (fun z => w ((xw_sub0 (by omega) (by omega)).mp z)) ?_
        obtain ⟨i, i1, i2, i3⟩ := sx_is_ivt (K := K) (t := t) (d := sx_dn p t) (a := sx_at p t) (by omega)
        have re : sx_re K X V t (p, m) (sx_n3 X V t i (p, m)) := ⟨by show sx_dn p t < sx_is K t (sx_at p t); omega, i, i1, i2, i3, rfl⟩
        have q := hQ t _ t4 (Or.inr re)
        have r := T.2 t i t4 (by omega)
        refine xw_reach T t4 (by omega) i2 i3 (H.1 t t4).2 H.2 O.2 ?_
        refine xw_enter (at' := sx_at p) (dn := sq_up (sx_dn p) t (sx_dn p t + 1)) (m := sx_en 9 (sq_up (sx_md m) (6 + X (12 * t + i)) (V (12 * t + i)))) (L := L)
          (fun u hu => by have := lim u hu; omega) (fun u hu => ?_) (sx_en_lt (fun j _ => ?_)) (xw_H_m (xw_H_dn H t _) _) B (room _ _ _ _ _ _ _ _ B E q) (fun f_states a_position a_content a_table B' => ?_)
        · by_cases c : u = t
          · subst c; rw [sq_up_s]; omega
          · rw [sq_up_n _ _ c]; have := lim u hu; omega
        · by_cases c : j = 6 + X (12 * t + i)
          · subst c; rw [sq_up_s]; omega
          · rw [sq_up_n _ _ c]; exact bx_md_lt m j
        · refine nm_r (nI_1 _) (ih (t + 1) n 1 _ _ _ _ _ _ _ _ (by omega) (by omega) B' (xw_E_add E q (fun u s' => ?_) ⟨t, by omega, Or.inr re⟩))
          constructor
          · rintro ⟨h1, h2⟩
            by_cases c : u = t
            · subst c
              rcases h2 with h2 | h2
              · exact Or.inl (Or.inr ⟨rfl, h2⟩)
              · exact Or.inr ⟨u, ⟨by omega, Or.inr re⟩, rfl, xw_re1 re h2⟩
            · exact Or.inl (Or.inl ⟨by omega, h2⟩)
          · rintro ((⟨h1, h2⟩ | ⟨h1, h2⟩) | ⟨w', h1, h2, h3⟩)
            · exact ⟨by omega, h2⟩
            · subst h1; exact ⟨by omega, Or.inl h2⟩
            · subst h2; rw [h3]; exact h1
    refine br_f (nI_ge (b := 4) (by omega) (by omega)) ?_
    obtain ⟨s1, s2, s3, s4⟩ := at_s _ _ _ _ _ _ _ B E
    refine xw_loadState s1 s2 s3 s4 (fun a_at a_done H => ?_)
    -- entering what a step gives
    have add : ∀ s1 : Nat × Nat, sx_go len K X V N (str = 1) t (p, m) s1 → xw_E len K X V N (str = 1) Q (p, m) L0 (xw_dg len K X V N (str = 1) (p, m) t) 1 (xw_ins L s1) := by
      intro s1 g
      refine xw_E_add E (hQ t _ t4 (Or.inl g)) (fun u s' => ?_) ⟨t, Or.inr ⟨rfl, g⟩⟩
      constructor
      · rintro (h1 | ⟨h1, h2⟩)
        · exact Or.inl h1
        · exact Or.inr ⟨t, Or.inr ⟨rfl, g⟩, h1, xw_go1 g h2⟩
      · rintro (h1 | ⟨w', h1, h2, h3⟩)
        · exact Or.inl h1
        · rw [h3, h2]; exact h1
    have aup : sx_at p t ≠ len t → ∀ u, u < 4 → sq_up (sx_at p) t (sx_at p t + 1) u < 16 := by
      intro c u hu
      by_cases z : u = t
      · subst z; rw [sq_up_s]; omega
      · rw [sq_up_n _ _ z]; have := lim u hu; omega
    have dlo : ∀ u, u < 4 → sx_dn p u < 8 := fun u hu => by have := lim u hu; omega
    refine xw_goOn T t4 O hs H (fun hn' => ?_) (fun c kf k1 ks => ?_) (fun c k1 => ?_) (fun c i i1 i2 i3 k0 st => ?_)
    · refine br_t rfl (half any L _ _ _ _ _ _ _ B (xw_E_same E (fun u s' => ?_)))
      constructor
      · rintro (h1 | ⟨h1, h2⟩)
        · exact h1
        · obtain ⟨g1, g2, _⟩ := h2
          have g1' : sx_at p t ≠ len t := g1
          have g2' : K (12 * t + sx_at p t) = 2 → sx_is K t (sx_at p t) ≤ sx_dn p t := g2
          rcases hn' with r | ⟨r1, r2⟩
          · exact absurd r g1'
          · have := g2' r1; omega
      · exact Or.inl
    · have g : sx_go len K X V N (str = 1) t (p, m) (sx_n0 t (p, m)) := ⟨c, kf, Or.inr (Or.inr ⟨k1, ks, rfl⟩)⟩
      refine br_f (by decide) ?_
      exact xw_enter (at' := sq_up (sx_at p) t (sx_at p t + 1)) (dn := sx_dn p) (m := m) (L := L) (aup c) dlo O.2 (xw_H_at H t _) B (room _ _ _ _ _ _ _ _ B E (hQ t _ t4 (Or.inl g)))
        (fun f_states a_position a_content a_table B' => half 1 _ _ _ _ _ _ _ _ B' (add _ g))
    · have g : sx_go len K X V N (str = 1) t (p, m) (sx_n1 K X V N t (p, m)) := ⟨c, fun z => by have z' : K (12 * t + sx_at p t) = 2 := z; omega, Or.inl ⟨k1, rfl⟩⟩
      refine br_f (by decide) ?_
      refine xw_enter (at' := sq_up (sx_at p) t (sx_at p t + 1)) (dn := sx_dn p) (m := (sx_n1 K X V N t (p, m)).2) (L := L) (aup c) dlo (sx_en_lt (fun j _ => ?_)) (xw_H_m (xw_H_at H t _) _) B (room _ _ _ _ _ _ _ _ B E (hQ t _ t4 (Or.inl g)))
        (fun f_states a_position a_content a_table B' => half 1 _ _ _ _ _ _ _ _ B' (add _ g))
      by_cases z : j = N (12 * t + sx_at p t)
      · have hv := xw_fd_lt T (x := X (12 * t + sx_at p t)) (d := sx_dn p t) t4 (bx_md_lt m (6 + X (12 * t + sx_at p t))) lt2
        show sq_up _ (N (12 * t + sx_at p t)) _ j < 4
        subst z; rw [sq_up_s]; exact Nat.or_lt_two_pow (n := 2) (bx_md_lt m _) hv
      · show sq_up _ (N (12 * t + sx_at p t)) _ j < 4
        rw [sq_up_n _ _ z]; exact bx_md_lt m j
    · have g : sx_go len K X V N (str = 1) t (p, m) (sx_n2 X V t i (p, m)) := ⟨c, fun z => by have z' : K (12 * t + sx_at p t) = 2 := z; omega, Or.inr (Or.inl ⟨k0, st, i, i1, i2, i3, rfl⟩)⟩
      have r := T.2 t i t4 (by omega)
      refine br_f (by decide) ?_
      refine xw_enter (at' := sq_up (sx_at p) t (sx_at p t + 1)) (dn := sq_up (sx_dn p) t (sx_dn p t + 1)) (m := sx_en 9 (sq_up (sx_md m) (6 + X (12 * t + i)) (V (12 * t + i)))) (L := L) (aup c) (fun u hu => ?_) (sx_en_lt (fun j _ => ?_))
        (xw_H_m (xw_H_dn (xw_H_at H t _) t _) _) B (room _ _ _ _ _ _ _ _ B E (hQ t _ t4 (Or.inl g)))
        (fun f_states a_position a_content a_table B' => half 1 _ _ _ _ _ _ _ _ B' (add _ g))
      · by_cases z : u = t
        · subst z; rw [sq_up_s]; omega
        · rw [sq_up_n _ _ z]; exact dlo u hu
      · by_cases z : j = 6 + X (12 * t + i)
        · subst z; rw [sq_up_s]; omega
        · rw [sq_up_n _ _ z]; exact bx_md_lt m j
end
end
section
/-! X: explore lists the contents of all ends -/
theorem xw_noend {len K X V N : Nat → Nat} {str : Prop} {p m : Nat} (O : xw_ok len K (sx_at p) (sx_dn p) m) : (¬ ∃ u s', xw_dn len K X V N str (p, m) 4 u s') ↔ sx_end len K (p, m) := by
  constructor
  · intro c t t4
    have o := O.1 t t4
    show sx_at p t = len t ∧ sx_is K t (sx_at p t) ≤ sx_dn p t
    have e2 : sx_is K t (sx_at p t) ≤ sx_dn p t := by
      apply Classical.byContradiction
      intro z
      obtain ⟨i, i1, i2, i3⟩ := sx_is_ivt (K := K) (t := t) (d := sx_dn p t) (a := sx_at p t) (by omega)
      exact c ⟨t, sx_n3 X V t i (p, m), t4, Or.inr ⟨by show sx_dn p t < sx_is K t (sx_at p t); omega, i, i1, i2, i3, rfl⟩⟩
    refine ⟨?_, e2⟩
    apply Classical.byContradiction
    intro z
    by_cases k1 : K (12 * t + sx_at p t) = 1
    · exact c ⟨t, sx_n1 K X V N t (p, m), t4, Or.inl ⟨z, fun _ => e2, Or.inl ⟨k1, rfl⟩⟩⟩
    · by_cases ks : K (12 * t + sx_at p t) = 0 ∧ str
      · obtain ⟨i, i1, i2, i3⟩ := sx_is_ivt (K := K) (t := t) (d := sx_dn p t) (a := sx_at p t + 1) (by rw [sx_is_s ks.1]; omega)
        exact c ⟨t, sx_n2 X V t i (p, m), t4, Or.inl ⟨z, fun _ => e2, Or.inr (Or.inl ⟨ks.1, ks.2, i, i1, i2, i3, rfl⟩)⟩⟩
      · exact c ⟨t, sx_n0 t (p, m), t4, Or.inl ⟨z, fun _ => e2, Or.inr (Or.inr ⟨k1, ks, rfl⟩)⟩⟩
  · rintro e ⟨u, s', u4, g⟩
    have e' : sx_at p u = len u ∧ sx_is K u (sx_at p u) ≤ sx_dn p u := e u u4
    rcases g with g | g
    · exact g.1 e'.1
    · have g1 : sx_dn p u < sx_is K u (sx_at p u) := g.1
      omega
section
variable {f_total f_loads f_states f_memory f_known f_many f_strictMany : Int32} {a_size a_kind a_variable a_value a_length a_tryKind a_tryVariable a_tryValue a_loadNumber a_position a_content a_table a_at a_done a_list a_strictList : Nat → Int32}
variable {len K X V N : Nat → Nat}
theorem xw_xp70 (T : xw_T len K X V N a_length a_tryKind a_tryVariable a_tryValue a_loadNumber) (h6 : ∀ t, t < 4 → sx_is K t (len t) ≤ 6) {str : Nat} (hs : str < 2)
    (hO : ∀ s, sx_R len K X V N (str = 1) s → xw_ok len K (sx_at s.1) (sx_dn s.1) s.2)
    (hB : ∀ L : List (Nat × Nat), L.Nodup → (∀ s, s ∈ L → sx_R len K X V N (str = 1) s) → L.length ≤ 4096)
    (hC : ∀ L : List Nat, L.Nodup → (∀ m, m ∈ L → ∃ s, sx_R len K X V N (str = 1) s ∧ sx_end len K s ∧ s.2 = m) → L.length ≤ 512) {post : SX → Prop}
    (h : ∀ o c f_states f_memory f_many a_position a_content a_table a_at a_done a_list, xw_O o c f_many a_list → (∀ m, (∃ i, i < c ∧ o i = m) ↔ ∃ s, sx_R len K X V N (str = 1) s ∧ sx_end len K s ∧ s.2 = m) → post (f_total, f_loads, f_states, f_memory, f_known, f_many, f_strictMany, a_size, a_kind, a_variable, a_value, a_length, a_tryKind, a_tryVariable, a_tryValue, a_loadNumber, a_position, a_content, a_table, a_at, a_done, a_list, a_strictList)) :
    ∀ d s n L o c f_states f_memory f_many a_position a_content a_table a_at a_done a_list, s + d = 4096 → d < n → s ≤ List.length L → xw_L L f_states a_position a_content a_table → xw_O o c f_many a_list → (∀ x, x ∈ L → sx_R len K X V N (str = 1) x) → (0, 0) ∈ L →
      (∀ i, i < s → ∀ s', sx_st len K X V N (str = 1) (L.getD i (0, 0)) s' → s' ∈ L) → (∀ m, (∃ i, i < c ∧ o i = m) ↔ ∃ i, i < s ∧ sx_end len K (L.getD i (0, 0)) ∧ (L.getD i (0, 0)).2 = m) →
      wX_explore_70 post (nI str) n (nI s) f_total f_loads f_states f_memory f_known f_many f_strictMany a_size a_kind a_variable a_value a_length a_tryKind a_tryVariable a_tryValue a_loadNumber a_position a_content a_table a_at a_done a_list a_strictList := by
  intro d
  induction d with
  | zero =>
    intro s n L o c f_states f_memory f_many a_position a_content a_table a_at a_done a_list e hn sl B O hR h0 hcl hno
    obtain ⟨n, rfl⟩ : ∃ m, n = m + 1 := ⟨n - 1, by omega⟩
    have b2 := B.2.1
    refine br_t (by rw [B.1]; exact nI_le (by omega) (by omega)) (h o c _ _ _ _ _ _ _ _ _ O (fun m => ?_))
    rw [hno m]
    constructor
    · rintro ⟨i, i1, i2, i3⟩
      exact ⟨_, hR _ (xw_getD_mem (by omega)), i2, i3⟩
    · rintro ⟨x, x1, x2, x3⟩
      have xL : x ∈ L := x1 (fun y => y ∈ L) h0 (fun a b ha st => by
        obtain ⟨i, i1, i2⟩ := List.getElem_of_mem ha
        have gd : L.getD i (0, 0) = a := by rw [List.getD_eq_getElem?_getD, List.getElem?_eq_getElem i1]; exact i2
        exact hcl i (by omega) b (by rw [gd]; exact st))
      obtain ⟨i, i1, i2⟩ := List.getElem_of_mem xL
      have gd : L.getD i (0, 0) = x := by rw [List.getD_eq_getElem?_getD, List.getElem?_eq_getElem i1]; exact i2
      exact ⟨i, by omega, by rw [gd]; exact x2, by rw [gd]; exact x3⟩
  | succ d ih =>
    intro s n L o c f_states f_memory f_many a_position a_content a_table a_at a_done a_list e hn sl B O hR h0 hcl hno
    obtain ⟨n, rfl⟩ : ∃ m, n = m + 1 := ⟨n - 1, by omega⟩
    have b2 := B.2.1
    by_cases full : L.length ≤ s
    · refine br_t (by rw [B.1]; exact nI_le full (by omega)) (h o c _ _ _ _ _ _ _ _ _ O (fun m => ?_))
      rw [hno m]
      constructor
      · rintro ⟨i, i1, i2, i3⟩
        exact ⟨_, hR _ (xw_getD_mem (by omega)), i2, i3⟩
      · rintro ⟨x, x1, x2, x3⟩
        have xL : x ∈ L := x1 (fun y => y ∈ L) h0 (fun a b ha st => by
          obtain ⟨i, i1, i2⟩ := List.getElem_of_mem ha
          have gd : L.getD i (0, 0) = a := by rw [List.getD_eq_getElem?_getD, List.getElem?_eq_getElem i1]; exact i2
          exact hcl i (by omega) b (by rw [gd]; exact st))
        obtain ⟨i, i1, i2⟩ := List.getElem_of_mem xL
        have gd : L.getD i (0, 0) = x := by rw [List.getD_eq_getElem?_getD, List.getElem?_eq_getElem i1]; exact i2
        exact ⟨i, by omega, by rw [gd]; exact x2, by rw [gd]; exact x3⟩
    · have sL : s < L.length := by omega
      refine br_f (by rw [B.1]; exact nI_ge sL (by omega)) (br_f (nI_ge (b := 4096) (by omega) (by omega)) ?_)
      have rs := hR _ (xw_getD_mem sL)
      have os := hO _ rs
      generalize eg : L.getD s (0, 0) = s0 at rs os
      obtain ⟨p, m⟩ := s0
      refine ⟨5, xw_ex5 (Q := sx_R len K X V N (str = 1)) (L0 := L) T h6 hs sL eg os (fun t s' t4 g => sx_Rs rs ⟨t, t4, g⟩) hB ?_ 4 0 5 0 L _ _ _ _ _ _ _ (by omega) (by omega) B ?_⟩
      · intro any L' f_states f_memory a_position a_content a_table a_at a_done B' E
        obtain ⟨⟨M, e1⟩, e2, e3, e4, e5⟩ := E
        have keep : ∀ i, i < L.length → L'.getD i (0, 0) = L.getD i (0, 0) := fun i hi => by
          rw [e1, List.getD_eq_getElem?_getD, List.getD_eq_getElem?_getD, List.getElem?_append_left hi]
        have lL : L.length ≤ L'.length := by rw [e1, List.length_append]; omega
        have sub : ∀ x, x ∈ L → x ∈ L' := fun x hx => by rw [e1]; exact List.mem_append_left _ hx
        have hcl' : ∀ i, i < s + 1 → ∀ s', sx_st len K X V N (str = 1) (L'.getD i (0, 0)) s' → s' ∈ L' := by
          intro i hi s' st
          rw [keep i (by omega)] at st
          by_cases z : i = s
          · subst z
            rw [eg] at st
            obtain ⟨t, t4, g⟩ := st
            exact e3 t s' ⟨t4, g⟩
          · exact sub _ (hcl i (by omega) s' st)
        have ne := xw_noend (X := X) (V := V) (N := N) (str := str = 1) os
        have cs : a_content (nI s).toNatClampNeg = nI m := by
          rw [nI_clamp (by omega), (B'.2.2.2.1 s (by omega)).2, keep s sL, eg]
        by_cases a : any = 0
        · have en : sx_end len K (p, m) := ne.mp (fun c => by rw [e5.mpr c] at a; omega)
          refine br_t (by rw [a]; exact nI_0) (And.intro (vp_in_nI (by omega) (by omega)) ?_)
          rw [cs]
          refine xw_note O os.2 (fun nw => ?_) (fun o' c' f_many a_list O' hm' => ?_)
          · have := hC (m :: (List.range c).map o) (List.nodup_cons.mpr ⟨fun z => ?_, tl_nd_map List.nodup_range (fun x y hx hy q => so_inj O.2.2.1 (List.mem_range.mp hx) (List.mem_range.mp hy) q)⟩) (fun x hx => ?_)
            · rw [List.length_cons, List.length_map, List.length_range] at this
              omega
            · obtain ⟨i, i1, i2⟩ := List.mem_map.mp z
              exact nw i (List.mem_range.mp i1) i2
            · rcases List.mem_cons.mp hx with r | r
              · exact ⟨(p, m), rs, en, r.symm⟩
              · obtain ⟨i, i1, i2⟩ := List.mem_map.mp r
                obtain ⟨j, j1, j2, j3⟩ := (hno x).mp ⟨i, List.mem_range.mp i1, i2⟩
                exact ⟨_, hR _ (xw_getD_mem (by omega)), j2, j3⟩
          · refine nm_r (nI_1 _) (ih (s + 1) n L' o' c' _ _ _ _ _ _ _ _ _ (by omega) (by omega) (by omega) B' O' e2 (sub _ h0) hcl' (fun x => ?_))
            rw [hm' x, hno x]
            constructor
            · rintro (⟨i, i1, i2, i3⟩ | r)
              · exact ⟨i, by omega, by rw [keep i (by omega)]; exact i2, by rw [keep i (by omega)]; exact i3⟩
              · exact ⟨s, by omega, by rw [keep s sL, eg]; exact en, by rw [keep s sL, eg]; exact r.symm⟩
            · rintro ⟨i, i1, i2, i3⟩
              rw [keep i (by omega)] at i2 i3
              by_cases z : i = s
              · subst z; rw [eg] at i3; exact Or.inr i3.symm
              · exact Or.inl ⟨i, by omega, i2, i3⟩
        · have nen : ¬ sx_end len K (p, m) := fun c => ne.mpr c (e5.mp (by omega))
          refine br_f (nI_ne0 (by omega) (by omega)) ?_
          refine nm_r (nI_1 _) (ih (s + 1) n L' o c _ _ _ _ _ _ _ _ _ (by omega) (by omega) (by omega) B' O e2 (sub _ h0) hcl' (fun x => ?_))
          rw [hno x]
          constructor
          · rintro ⟨i, i1, i2, i3⟩
            exact ⟨i, by omega, by rw [keep i (by omega)]; exact i2, by rw [keep i (by omega)]; exact i3⟩
          · rintro ⟨i, i1, i2, i3⟩
            rw [keep i (by omega)] at i2 i3
            by_cases z : i = s
            · subst z; rw [eg] at i2; exact absurd i2 nen
            · exact ⟨i, by omega, i2, i3⟩
      · refine ⟨⟨[], (List.append_nil L).symm⟩, hR, ?_, by omega, ⟨fun z => by omega, ?_⟩⟩
        · rintro u s' ⟨u1, _⟩; omega
        · rintro ⟨u, s', u1, _⟩; omega
theorem xw_xp34 {str : Nat} {post : SX → Prop} (h : ∀ a_at a_done, xw_H (fun _ => 0) (fun _ => 0) 0 0 a_at a_done → wpX_enter (fun u => match u with | (f_total, f_loads, f_states, f_memory, f_known, f_many, f_strictMany, a_size, a_kind, a_variable, a_value, a_length, a_tryKind, a_tryVariable, a_tryValue, a_loadNumber, a_position, a_content, a_table, a_at, a_done, a_list, a_strictList) => ∃ n70 : Nat, wX_explore_70 post (nI str) n70 0 f_total f_loads f_states f_memory f_known f_many f_strictMany a_size a_kind a_variable a_value a_length a_tryKind a_tryVariable a_tryValue a_loadNumber a_position a_content a_table a_at a_done a_list a_strictList) (f_total, f_loads, f_states, 0, f_known, f_many, f_strictMany, a_size, a_kind, a_variable, a_value, a_length, a_tryKind, a_tryVariable, a_tryValue, a_loadNumber, a_position, a_content, a_table, a_at, a_done, a_list, a_strictList)) :
    ∀ d t n a_at a_done, t + d = 4 → d < n → (∀ u, u < t → a_at u = nI 0 ∧ a_done u = nI 0) → wX_explore_34 post (nI str) f_total f_loads f_states f_memory f_known f_many f_strictMany n (nI t) a_size a_kind a_variable a_value a_length a_tryKind a_tryVariable a_tryValue a_loadNumber a_position a_content a_table a_at a_done a_list a_strictList := by
  intro d
  induction d with
  | zero =>
    intro t n a_at a_done e hn hu
    obtain ⟨n, rfl⟩ : ∃ m, n = m + 1 := ⟨n - 1, by omega⟩
    obtain rfl : t = 4 := by omega
    exact br_t (nI_le (a := 4) (b := 4) (by omega) (by omega)) (h a_at a_done ⟨hu, nI_0.symm⟩)
  | succ d ih =>
    intro t n a_at a_done e hn hu
    obtain ⟨n, rfl⟩ : ∃ m, n = m + 1 := ⟨n - 1, by omega⟩
    have vt : vp_in (nI t) 4 := vp_in_nI (by omega) (by omega)
    refine br_f (nI_ge (b := 4) (by omega) (by omega)) (And.intro vt (nm_e (And.intro vt (nm_e (nm_r (nI_1 _) (ih (t + 1) n _ _ (by omega) (by omega) (fun u h => ?_)))))))
    rw [nI_clamp (n := t) (by omega)]
    by_cases c : u = t
    · subst c; rw [pk_us, pk_us]; exact ⟨nI_0.symm, nI_0.symm⟩
    · rw [pk_un c, pk_un c]; exact hu u (by omega)
theorem xw_xp2 {str : Nat} {post : SX → Prop} (h : ∀ a_table, (∀ i, i < 8192 → a_table i = -1) → ∃ n34 : Nat, wX_explore_34 post (nI str) f_total f_loads 0 f_memory f_known 0 f_strictMany n34 0 a_size a_kind a_variable a_value a_length a_tryKind a_tryVariable a_tryValue a_loadNumber a_position a_content a_table a_at a_done a_list a_strictList) :
    ∀ d t n a_table, t + d = 8192 → d < n → (∀ u, u < t → a_table u = -1) → wX_explore_2 post (nI str) f_total f_loads f_states f_memory f_known f_many f_strictMany n (nI t) a_size a_kind a_variable a_value a_length a_tryKind a_tryVariable a_tryValue a_loadNumber a_position a_content a_table a_at a_done a_list a_strictList := by
  intro d
  induction d with
  | zero =>
    intro t n a_table e hn hu
    obtain ⟨n, rfl⟩ : ∃ m, n = m + 1 := ⟨n - 1, by omega⟩
    obtain rfl : t = 8192 := by omega
    exact br_t (nI_le (a := 8192) (b := 8192) (by omega) (by omega)) (h a_table hu)
  | succ d ih =>
    intro t n a_table e hn hu
    obtain ⟨n, rfl⟩ : ∃ m, n = m + 1 := ⟨n - 1, by omega⟩
    refine br_f (nI_ge (b := 8192) (by omega) (by omega)) (And.intro (vp_in_nI (by omega) (by omega)) (nm_e (nm_r (nI_1 _) (ih (t + 1) n _ (by omega) (by omega) (fun u h => ?_)))))
    rw [nI_clamp (n := t) (by omega)]
    by_cases c : u = t
    · subst c; rw [pk_us]
    · rw [pk_un c]; exact hu u (by omega)
theorem xw_explore (T : xw_T len K X V N a_length a_tryKind a_tryVariable a_tryValue a_loadNumber) (h6 : ∀ t, t < 4 → sx_is K t (len t) ≤ 6) {str : Nat} (hs : str < 2)
    (hO : ∀ s, sx_R len K X V N (str = 1) s → xw_ok len K (sx_at s.1) (sx_dn s.1) s.2)
    (hB : ∀ L : List (Nat × Nat), L.Nodup → (∀ s, s ∈ L → sx_R len K X V N (str = 1) s) → L.length ≤ 4096)
    (hC : ∀ L : List Nat, L.Nodup → (∀ m, m ∈ L → ∃ s, sx_R len K X V N (str = 1) s ∧ sx_end len K s ∧ s.2 = m) → L.length ≤ 512) {post : SX → Prop}
    (h : ∀ o c f_states f_memory f_many a_position a_content a_table a_at a_done a_list, xw_O o c f_many a_list → (∀ m, (∃ i, i < c ∧ o i = m) ↔ ∃ s, sx_R len K X V N (str = 1) s ∧ sx_end len K s ∧ s.2 = m) → post (f_total, f_loads, f_states, f_memory, f_known, f_many, f_strictMany, a_size, a_kind, a_variable, a_value, a_length, a_tryKind, a_tryVariable, a_tryValue, a_loadNumber, a_position, a_content, a_table, a_at, a_done, a_list, a_strictList)) :
    wpX_explore post (f_total, f_loads, f_states, f_memory, f_known, f_many, f_strictMany, a_size, a_kind, a_variable, a_value, a_length, a_tryKind, a_tryVariable, a_tryValue, a_loadNumber, a_position, a_content, a_table, a_at, a_done, a_list, a_strictList) (nI str) := by
  refine ⟨8193, xw_xp2 (fun a_table ht => ⟨5, xw_xp34 (fun a_at a_done H => ?_) 4 0 5 a_at a_done (by omega) (by omega) (fun u hu => by omega)⟩) 8192 0 8193 a_table (by omega) (by omega) (fun u hu => by omega)⟩
  refine xw_enter (at' := fun _ => 0) (dn := fun _ => 0) (m := 0) (L := []) (fun _ _ => by omega) (fun _ _ => by omega) (by decide) H ?_ (fun _ => by decide) (fun f_states a_position a_content a_table B => ?_)
  · refine ⟨nI_0.symm, by decide, List.nodup_nil, fun i hi => absurd hi (Nat.not_lt_zero _), fun s hs => absurd hs List.not_mem_nil, fun i hi => Or.inl (ht i hi), fun _ _ i _ _ hi => absurd hi (Nat.not_lt_zero _), fun i hi => absurd hi (Nat.not_lt_zero _)⟩
  · have e1 : xw_ins [] (sx_pc (fun _ => 0) (fun _ => 0), 0) = [(0, 0)] := rfl
    rw [e1] at B
    refine ⟨4097, xw_xp70 T h6 hs hO hB hC h 4096 0 4097 [(0, 0)] (fun _ => 0) 0 _ _ _ _ _ _ _ _ _ (by omega) (by omega) (Nat.zero_le _) B ?_ ?_ List.mem_cons_self (fun i hi => by omega) (fun m => ?_)⟩
    · exact ⟨nI_0.symm, by omega, fun _ j _ hj => by omega, fun i hi => by omega⟩
    · intro x hx
      rw [List.mem_singleton] at hx
      rw [hx]; exact sx_R0
    · constructor
      · rintro ⟨i, i1, _⟩; omega
      · rintro ⟨i, i1, _⟩; omega
end
end
section
/-! programs thread by thread; the program under trial as functions of its place -/
def sq_of (sz : Nat → Nat) (t : Nat) : Nat := ct_S t sz
def sq_wf (P : sq_PG) (n : Nat) (sz : Nat → Nat) : Prop :=
  n = sq_of sz 4 ∧ n ≤ 6 ∧ ∀ t i, t < 4 → i < sz t → sq_th P (sq_of sz t + i) = t ∧ sq_kd P (sq_of sz t + i) ≤ 2 ∧ sq_vr P (sq_of sz t + i) ≤ 2 ∧ sq_vl P (sq_of sz t + i) ≤ 3
theorem sq_of_s (sz : Nat → Nat) (t : Nat) : sq_of sz (t + 1) = sq_of sz t + sz t := rfl
theorem sq_of_le (sz : Nat → Nat) {t : Nat} : ∀ {u : Nat}, t ≤ u → sq_of sz t ≤ sq_of sz u := by
  intro u
  induction u with
  | zero => intro h; have : t = 0 := by omega
            subst this; exact Nat.le_refl _
  | succ u ih =>
    intro h
    by_cases c : t = u + 1
    · subst c; exact Nat.le_refl _
    · have := ih (by omega)
      rw [sq_of_s]; omega
theorem sq_loc (sz : Nat → Nat) {j : Nat} : ∀ {k : Nat}, j < sq_of sz k → ∃ t i, t < k ∧ i < sz t ∧ j = sq_of sz t + i := by
  intro k
  induction k with
  | zero => intro h; exact absurd h (Nat.not_lt_zero _)
  | succ k ih =>
    intro h
    by_cases c : j < sq_of sz k
    · obtain ⟨t, i, h1, h2, h3⟩ := ih c
      exact ⟨t, i, by omega, h2, h3⟩
    · rw [sq_of_s] at h
      exact ⟨k, j - sq_of sz k, by omega, by omega, by omega⟩
section
variable {P : sq_PG} {n : Nat} {sz : Nat → Nat}
theorem sq_wf_lt (w : sq_wf P n sz) {t i : Nat} (t4 : t < 4) (hi : i < sz t) : sq_of sz t + i < n := by
  have h1 := sq_of_le sz (t := t + 1) (u := 4) (by omega)
  rw [sq_of_s] at h1
  rw [w.1]; omega
theorem sq_wf_loc (w : sq_wf P n sz) {j : Nat} (hj : j < n) : ∃ t i, t < 4 ∧ i < sz t ∧ j = sq_of sz t + i ∧ sq_th P j = t := by
  rw [w.1] at hj
  obtain ⟨t, i, h1, h2, h3⟩ := sq_loc sz hj
  exact ⟨t, i, h1, h2, h3, by rw [h3]; exact (w.2.2 t i h1 h2).1⟩
theorem sq_wf_ok (w : sq_wf P n sz) : sq_ok P n := by
  refine ⟨w.2.1, fun j hj => ?_, fun a b hab hb => ?_⟩
  · obtain ⟨t, i, h1, h2, h3, h4⟩ := sq_wf_loc w hj
    have := w.2.2 t i h1 h2
    rw [← h3] at this
    exact ⟨by omega, this.2⟩
  · obtain ⟨t, i, h1, h2, h3, h4⟩ := sq_wf_loc w (Nat.lt_of_le_of_lt hab hb)
    obtain ⟨t', i', h1', h2', h3', h4'⟩ := sq_wf_loc w hb
    rw [h4, h4']
    apply Classical.byContradiction
    intro c
    have h5 := sq_of_le sz (t := t' + 1) (u := t) (by omega)
    rw [sq_of_s] at h5
    omega
theorem sq_wf_sz (w : sq_wf P n sz) : ct_sz P n (sq_of sz) sz := by
  refine ⟨fun t t4 j => ⟨?_, ?_⟩, ?_⟩
  · rintro ⟨hj, ht⟩
    obtain ⟨u, i, h1, h2, h3, h4⟩ := sq_wf_loc w hj
    have : u = t := h4.symm.trans ht
    subst this
    omega
  · rintro ⟨h1, h2⟩
    have hi : j - sq_of sz t < sz t := by omega
    have e : j = sq_of sz t + (j - sq_of sz t) := by omega
    refine ⟨?_, ?_⟩
    · rw [e]; exact sq_wf_lt w t4 hi
    · rw [e]; exact (w.2.2 t _ t4 hi).1
  · have h1 := w.1
    have h2 := w.2.1
    have : sq_of sz 4 = 0 + sz 0 + sz 1 + sz 2 + sz 3 := rfl
    omega
theorem sq_ps0 (w : sq_wf P n sz) (G : Nat → Bool) {t : Nat} (t4 : t < 4) (hs : 0 < sz t) : sq_ps P G (sq_of sz t) = 0 := by
  cases e : sq_of sz t with
  | zero => rfl
  | succ o =>
    show (if sq_th P (o + 1) = sq_th P o then _ else _) = _
    rw [if_neg]
    intro c
    have h1 := (w.2.2 t 0 t4 hs).1
    rw [Nat.add_zero, e] at h1
    have hn := sq_wf_lt w t4 hs
    have := ((sq_wf_sz w).1 t t4 o).mp ⟨by omega, by rw [← c]; exact h1⟩
    omega
theorem sq_psn (w : sq_wf P n sz) (G : Nat → Bool) {t i : Nat} (t4 : t < 4) (hs : i + 1 < sz t) : sq_ps P G (sq_of sz t + (i + 1)) = sq_ps P G (sq_of sz t + i) + 1 + (if G (sq_of sz t + i) = true then 1 else 0) := by
  have h1 := (w.2.2 t (i + 1) t4 hs).1
  have h2 := (w.2.2 t i t4 (by omega)).1
  rw [← Nat.add_assoc] at h1 ⊢
  exact sq_ps_s (by rw [h1, h2])
theorem sq_ps2 (w : sq_wf P n sz) (G : Nat → Bool) {t : Nat} (t4 : t < 4) : ∀ i, i < sz t → sq_ps P G (sq_of sz t + i) ≤ 2 * i := by
  intro i
  induction i with
  | zero => intro h; rw [Nat.add_zero, sq_ps0 w G t4 h]; omega
  | succ i ih =>
    intro h
    rw [sq_psn w G t4 h]
    have := ih (by omega)
    split <;> omega
theorem sq_sz6 (w : sq_wf P n sz) {t : Nat} (t4 : t < 4) : sz t ≤ 6 := by
  have h1 := sq_of_le sz (t := t + 1) (u := 4) (by omega)
  rw [sq_of_s] at h1
  have := w.1
  have := w.2.1
  omega
theorem sq_ps11 (w : sq_wf P n sz) (G : Nat → Bool) {j : Nat} (hj : j < n) : sq_ps P G j ≤ 10 := by
  obtain ⟨t, i, h1, h2, h3, _⟩ := sq_wf_loc w hj
  have := sq_ps2 w G h1 i h2
  have := sq_sz6 w h1
  rw [h3]; omega
end
/-- which instruction stands at a place -/
def xj_j (P : sq_PG) (G : Nat → Bool) (q : Nat) : Nat → Option Nat
  | 0 => none
  | j + 1 => if 12 * sq_th P j + sq_ps P G j = q then some j else xj_j P G q j
def xj_f (f : Nat → Nat) (d : Nat) : Option Nat → Nat
  | some j => f j
  | none => d
def xj_K (P : sq_PG) (n : Nat) (G : Nat → Bool) (q : Nat) : Nat := xj_f (sq_kd P) 2 (xj_j P G q n)
def xj_X (P : sq_PG) (n : Nat) (G : Nat → Bool) (q : Nat) : Nat := xj_f (sq_vr P) 0 (xj_j P G q n)
def xj_V (P : sq_PG) (n : Nat) (G : Nat → Bool) (q : Nat) : Nat := xj_f (sq_vl P) 0 (xj_j P G q n)
def xj_N (P : sq_PG) (n : Nat) (G : Nat → Bool) (q : Nat) : Nat := xj_f (sq_ln P) 0 (xj_j P G q n)
def xj_len (P : sq_PG) (G : Nat → Bool) (sz : Nat → Nat) (t : Nat) : Nat := if sz t = 0 then 0 else sq_ps P G (sq_of sz t + (sz t - 1)) + 1
theorem xj_none {P : sq_PG} {G : Nat → Bool} {q : Nat} : ∀ {k : Nat}, (∀ j, j < k → 12 * sq_th P j + sq_ps P G j ≠ q) → xj_j P G q k = none := by
  intro k
  induction k with
  | zero => intro _; rfl
  | succ k ih =>
    intro h
    show (if _ then _ else _) = _
    rw [if_neg (h k (by omega))]
    exact ih (fun j hj => h j (by omega))
theorem xj_some {P : sq_PG} {G : Nat → Bool} {q j : Nat} : ∀ {k : Nat}, j < k → 12 * sq_th P j + sq_ps P G j = q → (∀ i, i < k → 12 * sq_th P i + sq_ps P G i = q → i = j) → xj_j P G q k = some j := by
  intro k
  induction k with
  | zero => intro h; omega
  | succ k ih =>
    intro h e u
    show (if _ then _ else _) = _
    by_cases c : 12 * sq_th P k + sq_ps P G k = q
    · rw [if_pos c, u k (by omega) c]
    · rw [if_neg c]
      exact ih (by
        by_cases d : j = k
        · subst d; exact absurd e c
        · omega) e (fun i hi => u i (by omega))
section
variable {P : sq_PG} {n : Nat} {sz : Nat → Nat} {G : Nat → Bool}
theorem xj_at (w : sq_wf P n sz) {j : Nat} (hj : j < n) : xj_j P G (12 * sq_th P j + sq_ps P G j) n = some j := by
  refine xj_some hj rfl (fun i hi e => ?_)
  have h1 := sq_ps11 w G hi
  have h2 := sq_ps11 w G hj
  have e1 : sq_th P i = sq_th P j := by omega
  exact sq_ps_inj (G := G) (sq_wf_ok w) hi hj e1 (by omega)
theorem xj_gap (w : sq_wf P n sz) {j : Nat} (hj : j + 1 < n) (e : sq_th P (j + 1) = sq_th P j) (g : G j = true) : xj_j P G (12 * sq_th P j + (sq_ps P G j + 1)) n = none := by
  refine xj_none (fun i hi c => ?_)
  have h1 := sq_ps11 w G hi
  have h2 := sq_ps11 w G (j := j) (by omega)
  have e1 : sq_th P i = sq_th P j := by omega
  exact sq_ps_nf (sq_wf_ok w) hj hi e e1 g (by omega)
/-- the places below an instruction's -/
theorem xj_low (w : sq_wf P n sz) {t : Nat} (t4 : t < 4) : ∀ i, i < sz t → ∀ q, q ≤ sq_ps P G (sq_of sz t + i) → (∃ j, j < n ∧ sq_th P j = t ∧ sq_ps P G j = q) ∨
    (∃ j, j + 1 < n ∧ sq_th P j = t ∧ sq_th P (j + 1) = t ∧ G j = true ∧ q = sq_ps P G j + 1) := by
  intro i
  induction i with
  | zero =>
    intro h q hq
    rw [Nat.add_zero, sq_ps0 w G t4 h] at hq
    exact Or.inl ⟨sq_of sz t, sq_wf_lt w t4 h, (w.2.2 t 0 t4 h).1, by rw [sq_ps0 w G t4 h]; omega⟩
  | succ i ih =>
    intro h q hq
    have hl := sq_wf_lt w t4 h
    have h1 := (w.2.2 t (i + 1) t4 h).1
    have h2 := (w.2.2 t i t4 (by omega)).1
    by_cases c : q = sq_ps P G (sq_of sz t + (i + 1))
    · exact Or.inl ⟨_, hl, h1, c.symm⟩
    · rw [sq_psn w G t4 h] at hq c
      by_cases d : q ≤ sq_ps P G (sq_of sz t + i)
      · exact ih (by omega) q d
      · refine Or.inr ⟨sq_of sz t + i, by omega, h2, by rw [Nat.add_assoc]; exact h1, ?_, ?_⟩
        · apply Classical.byContradiction
          intro z
          rw [if_neg z] at hq c
          omega
        · have : (if G (sq_of sz t + i) = true then 1 else 0) ≤ 1 := by split <;> omega
          omega
theorem xj_lk (w : sq_wf P n sz) : sq_lk P n G (xj_len P G sz) (xj_K P n G) (xj_X P n G) (xj_V P n G) (xj_N P n G) := by
  have ok := sq_wf_ok w
  refine ⟨fun j hj => ?_, fun t q t4 hq => ?_, fun t t4 => ?_⟩
  · obtain ⟨t, i, h1, h2, h3, h4⟩ := sq_wf_loc w hj
    refine ⟨?_, ?_, ?_, ?_, fun _ => ?_⟩
    · rw [h4]
      unfold xj_len
      rw [if_neg (by omega)]
      have hl := sq_wf_lt w h1 (i := sz t - 1) (by omega)
      have h5 := (w.2.2 t (sz t - 1) h1 (by omega)).1
      by_cases c : i = sz t - 1
      · rw [h3, c]; omega
      · have := sq_ps_lt (G := G) ok (a := j) (b := sq_of sz t + (sz t - 1)) (by omega) hl (by rw [h4, h5])
        omega
    · unfold xj_K; rw [xj_at w hj]; rfl
    · unfold xj_X; rw [xj_at w hj]; rfl
    · unfold xj_V; rw [xj_at w hj]; rfl
    · unfold xj_N; rw [xj_at w hj]; rfl
  · unfold xj_len at hq
    by_cases c : sz t = 0
    · rw [if_pos c] at hq; omega
    · rw [if_neg c] at hq
      rcases xj_low (G := G) w t4 (sz t - 1) (by omega) q (by omega) with r | ⟨j, j1, j2, j3, j4, j5⟩
      · exact Or.inl r
      · refine Or.inr ⟨?_, j, j1, j2, j3, j4, j5⟩
        unfold xj_K
        rw [j5, ← j2, xj_gap w j1 (j3.trans j2.symm) j4]; rfl
  · unfold xj_len
    split
    · omega
    · have := sq_ps2 w G t4 (sz t - 1) (by omega)
      have := sq_sz6 w t4
      omega
end
/-- how many gaps stand ahead of an instruction -/
def sq_gn (P : sq_PG) (n : Nat) : Nat → Nat
  | 0 => 0
  | j + 1 => sq_gn P n j + (if j + 1 < n ∧ sq_th P (j + 1) = sq_th P j then 1 else 0)
theorem sq_gn_le (P : sq_PG) (n : Nat) : ∀ j, sq_gn P n j ≤ j := by
  intro j
  induction j with
  | zero => exact Nat.le_refl _
  | succ j ih => show sq_gn P n j + _ ≤ _; split <;> omega
/-- the fences that a set of gaps puts in -/
def sq_G (P : sq_PG) (n g j : Nat) : Bool := decide (g / 2 ^ sq_gn P n j % 2 = 1)
end
section
/-! X: prepare -/
/-- the program in X's arrays -/
def xw_P (P : sq_PG) (n : Nat) (sz : Nat → Nat) (f_total : Int32) (a_size a_kind a_variable a_value : Nat → Int32) : Prop :=
  f_total = nI n ∧ (∀ t, t < 4 → a_size t = nI (sz t)) ∧ ∀ t i, t < 4 → i < sz t → a_kind (6 * t + i) = nI (sq_kd P (sq_of sz t + i)) ∧ a_variable (6 * t + i) = nI (sq_vr P (sq_of sz t + i)) ∧ a_value (6 * t + i) = nI (sq_vl P (sq_of sz t + i))
theorem xw_i6 (t i : Nat) : nI t * 6 + nI i = nI (6 * t + i) := by
  rw [show (6 : Int32) = nI 6 from rfl, pk_mul, nI_add, Nat.mul_comm]
/-- one place of the program under trial, as it shall be -/
def xw_K1 (P : sq_PG) (n : Nat) (G : Nat → Bool) (a_tryKind a_tryVariable a_tryValue a_loadNumber : Nat → Int32) (q : Nat) : Prop :=
  a_tryKind q = nI (xj_K P n G q) ∧ a_tryVariable q = nI (xj_X P n G q) ∧ a_tryValue q = nI (xj_V P n G q) ∧ (xj_K P n G q = 1 → a_loadNumber q = nI (xj_N P n G q))
def xw_PI (P : sq_PG) (n : Nat) (G : Nat → Bool) (sz : Nat → Nat) (t cur : Nat) (a_length a_tryKind a_tryVariable a_tryValue a_loadNumber : Nat → Int32) : Prop :=
  (∀ u, u < t → a_length u = nI (xj_len P G sz u)) ∧ a_length t = nI cur ∧ ∀ u q, (u < t ∧ q < xj_len P G sz u) ∨ (u = t ∧ q < cur) → xw_K1 P n G a_tryKind a_tryVariable a_tryValue a_loadNumber (12 * u + q)
theorem xw_bit {g k : Nat} (hg : g < 2 ^ 31) (hk : k < 32) : ((nI g >>> (nI k &&& 31)) &&& 1) = 1 ↔ g / 2 ^ k % 2 = 1 := by
  rw [pk_shrN hg _ _ (s_l k hk), pk_andN (Nat.lt_of_le_of_lt (Nat.div_le_self _ _) (by omega)) 1 (by decide), show (1 : Int32) = nI 1 from rfl, nI_eq (by omega) (by omega)]
theorem xj_lt {P : sq_PG} {G : Nat → Bool} {q j : Nat} : ∀ {k : Nat}, xj_j P G q k = some j → j < k := by
  intro k
  induction k with
  | zero => intro h; cases h
  | succ k ih =>
    intro h
    unfold xj_j at h
    split at h
    · cases h; omega
    · have := ih h; omega
section
variable {P : sq_PG} {n : Nat} {sz : Nat → Nat} {G : Nat → Bool}
theorem xj_bd (w : sq_wf P n sz) (q : Nat) : xj_K P n G q ≤ 2 ∧ xj_X P n G q ≤ 2 ∧ xj_V P n G q ≤ 3 ∧ xj_N P n G q < 6 := by
  unfold xj_K xj_X xj_V xj_N
  cases e : xj_j P G q n with
  | none => exact ⟨Nat.le_refl _, Nat.zero_le _, Nat.zero_le _, by show 0 < 6; omega⟩
  | some j =>
    have hj := xj_lt e
    obtain ⟨_, h1, h2, h3⟩ := (sq_wf_ok w).2.1 j hj
    have := sq_ln_le P j
    have := w.2.1
    exact ⟨h1, h2, h3, by show sq_ln P j < 6; omega⟩
theorem xj_len11 (w : sq_wf P n sz) (G : Nat → Bool) {t : Nat} (t4 : t < 4) : xj_len P G sz t ≤ 11 := (xj_lk (G := G) w).2.2 t t4
/-- writing the next place -/
theorem xw_PI_s (w : sq_wf P n sz) {t cur : Nat} (t4 : t < 4) (hc : cur < 12) {a_length a_tryKind a_tryVariable a_tryValue a_loadNumber : Nat → Int32} (I : xw_PI P n G sz t cur a_length a_tryKind a_tryVariable a_tryValue a_loadNumber) {a_loadNumber' : Nat → Int32}
    (hl : ∀ q, q ≠ 12 * t + cur → a_loadNumber' q = a_loadNumber q) (hl' : xj_K P n G (12 * t + cur) = 1 → a_loadNumber' (12 * t + cur) = nI (xj_N P n G (12 * t + cur))) :
    xw_PI P n G sz t (cur + 1) (upd a_length t (nI (cur + 1))) (upd a_tryKind (12 * t + cur) (nI (xj_K P n G (12 * t + cur)))) (upd a_tryVariable (12 * t + cur) (nI (xj_X P n G (12 * t + cur)))) (upd a_tryValue (12 * t + cur) (nI (xj_V P n G (12 * t + cur)))) a_loadNumber' := by
  refine ⟨fun u hu => ?_, pk_us, fun u q h => ?_⟩
  · rw [pk_un (by omega)]; exact I.1 u hu
  · by_cases c : 12 * u + q = 12 * t + cur
    · rw [c]
      exact ⟨pk_us, pk_us, pk_us, hl'⟩
    · have h' : (u < t ∧ q < xj_len P G sz u) ∨ (u = t ∧ q < cur) := by
        rcases h with h | ⟨h1, h2⟩
        · exact Or.inl h
        · exact Or.inr ⟨h1, by subst h1; omega⟩
      obtain ⟨q1, q2, q3, q4⟩ := I.2.2 u q h'
      refine ⟨?_, ?_, ?_, fun k => ?_⟩
      · rw [pk_un c]; exact q1
      · rw [pk_un c]; exact q2
      · rw [pk_un c]; exact q3
      · rw [hl _ c]; exact q4 k
end
section
variable {f_total f_loads f_states f_memory f_known f_many f_strictMany : Int32} {a_size a_kind a_variable a_value a_length a_tryKind a_tryVariable a_tryValue a_loadNumber a_position a_content a_table a_at a_done a_list a_strictList : Nat → Int32}
theorem xw_emit {t l w x v ld : Nat} (t4 : t < 4) (l12 : l < 12) (w2 : w ≤ 2) (el : a_length t = nI l) (eld : f_loads = nI ld) {post : SX → Prop}
    (h1 : w = 1 → post (f_total, nI (ld + 1), f_states, f_memory, f_known, f_many, f_strictMany, a_size, a_kind, a_variable, a_value, upd a_length t (nI (l + 1)), upd a_tryKind (12 * t + l) (nI w), upd a_tryVariable (12 * t + l) (nI x), upd a_tryValue (12 * t + l) (nI v), upd a_loadNumber (12 * t + l) (nI ld), a_position, a_content, a_table, a_at, a_done, a_list, a_strictList))
    (h0 : w ≠ 1 → post (f_total, f_loads, f_states, f_memory, f_known, f_many, f_strictMany, a_size, a_kind, a_variable, a_value, upd a_length t (nI (l + 1)), upd a_tryKind (12 * t + l) (nI w), upd a_tryVariable (12 * t + l) (nI x), upd a_tryValue (12 * t + l) (nI v), a_loadNumber, a_position, a_content, a_table, a_at, a_done, a_list, a_strictList)) :
    wpX_emit post (f_total, f_loads, f_states, f_memory, f_known, f_many, f_strictMany, a_size, a_kind, a_variable, a_value, a_length, a_tryKind, a_tryVariable, a_tryValue, a_loadNumber, a_position, a_content, a_table, a_at, a_done, a_list, a_strictList) (nI t) (nI w) (nI x) (nI v) := by
  have vt : vp_in (nI t) 4 := vp_in_nI t4 (by omega)
  have vi : vp_in (nI (12 * t + l)) 48 := vp_in_nI (by omega) (by omega)
  have ct : (nI t).toNatClampNeg = t := nI_clamp (by omega)
  have ci : (nI (12 * t + l)).toNatClampNeg = 12 * t + l := nI_clamp (by omega)
  unfold wpX_emit
  refine And.intro vt ?_
  rw [ct, el]
  refine nm_r (xw_ix t l) (And.intro vi ?_)
  rw [ci]
  refine nm_e (And.intro vi (nm_e (And.intro vi (nm_e ?_))))
  by_cases c : w = 1
  · refine br_t ((xw_k1 w2).mpr c) (And.intro vi ?_)
    rw [eld]
    refine nm_e (nm_r (nI_1 _) (And.intro vt (And.intro vt ?_)))
    rw [ct, el]
    exact nm_r (congrArg (upd a_length t) (nI_1 _)) (h1 c)
  · refine br_f (fun z => c ((xw_k1 w2).mp z)) (And.intro vt (And.intro vt ?_))
    rw [ct, el]
    exact nm_r (congrArg (upd a_length t) (nI_1 _)) (h0 c)
variable {P : sq_PG} {n : Nat} {sz : Nat → Nat}
theorem xw_pr24 (w : sq_wf P n sz) (A : xw_P P n sz f_total a_size a_kind a_variable a_value) {t g : Nat} (t4 : t < 4) (hg : g < 2 ^ 31) {post : SX → Prop} {J9 : Int32 → Int32 → Int32 → Int32 → Int32 → Int32 → Int32 → Int32 → Int32 → (Nat → Int32) → (Nat → Int32) → (Nat → Int32) → (Nat → Int32) → (Nat → Int32) → (Nat → Int32) → (Nat → Int32) → (Nat → Int32) → (Nat → Int32) → (Nat → Int32) → (Nat → Int32) → (Nat → Int32) → (Nat → Int32) → (Nat → Int32) → (Nat → Int32) → (Nat → Int32) → Prop}
    (hJ : ∀ f_loads a_length a_tryKind a_tryVariable a_tryValue a_loadNumber, xw_PI P n (sq_G P n g) sz t (xj_len P (sq_G P n g) sz t) a_length a_tryKind a_tryVariable a_tryValue a_loadNumber → f_loads = nI (sq_ln P (sq_of sz t + sz t)) →
      J9 (nI (sq_gn P n (sq_of sz t + sz t))) (nI (t + 1)) f_total f_loads f_states f_memory f_known f_many f_strictMany a_size a_kind a_variable a_value a_length a_tryKind a_tryVariable a_tryValue a_loadNumber a_position a_content a_table a_at a_done a_list a_strictList) :
    ∀ d i k f_loads a_length a_tryKind a_tryVariable a_tryValue a_loadNumber, i + d = sz t → d < k → xw_PI P n (sq_G P n g) sz t (if i < sz t then sq_ps P (sq_G P n g) (sq_of sz t + i) else xj_len P (sq_G P n g) sz t) a_length a_tryKind a_tryVariable a_tryValue a_loadNumber →
      f_loads = nI (sq_ln P (sq_of sz t + i)) → wX_prepare_24 post J9 (nI g) (nI t) k (nI (sq_gn P n (sq_of sz t + i))) (nI i) f_total f_loads f_states f_memory f_known f_many f_strictMany a_size a_kind a_variable a_value a_length a_tryKind a_tryVariable a_tryValue a_loadNumber a_position a_content a_table a_at a_done a_list a_strictList := by
  have vt : vp_in (nI t) 4 := vp_in_nI t4 (by omega)
  have s6 := sq_sz6 w t4
  have cs : a_size (nI t).toNatClampNeg = nI (sz t) := xw_r t (by omega) rfl (A.2.1 t t4)
  intro d
  induction d with
  | zero =>
    intro i k f_loads a_length a_tryKind a_tryVariable a_tryValue a_loadNumber e hk I el
    obtain ⟨k, rfl⟩ : ∃ m, k = m + 1 := ⟨k - 1, by omega⟩
    obtain rfl : i = sz t := by omega
    rw [if_neg (Nat.lt_irrefl _)] at I
    refine And.intro vt (br_t (by rw [cs]; exact nI_le (Nat.le_refl _) (by omega)) (nm_r (nI_1 _) (hJ _ _ _ _ _ _ I el)))
  | succ d ih =>
    intro i k f_loads a_length a_tryKind a_tryVariable a_tryValue a_loadNumber e hk I el
    obtain ⟨k, rfl⟩ : ∃ m, k = m + 1 := ⟨k - 1, by omega⟩
    have hi : i < sz t := by omega
    rw [if_pos hi] at I
    have jn := sq_wf_lt w t4 hi
    obtain ⟨j1, j2, j3, j4⟩ := w.2.2 t i t4 hi
    have p10 := sq_ps11 w (sq_G P n g) jn
    have v6 : vp_in (nI (6 * t + i)) 24 := vp_in_nI (by omega) (by omega)
    have c6 : (nI (6 * t + i)).toNatClampNeg = 6 * t + i := nI_clamp (by omega)
    obtain ⟨a1, a2, a3⟩ := A.2.2 t i t4 hi
    refine And.intro vt (br_f (by rw [cs]; exact nI_ge (by omega) (by omega)) (nm_r (xw_i6 t i) (And.intro v6 (And.intro v6 (And.intro v6 ?_)))))
    rw [c6, a1, a2, a3]
    have xa := xj_at (G := sq_G P n g) w jn
    rw [j1] at xa
    have eK : xj_K P n (sq_G P n g) (12 * t + sq_ps P (sq_G P n g) (sq_of sz t + i)) = sq_kd P (sq_of sz t + i) := by unfold xj_K; rw [xa]; rfl
    have eX : xj_X P n (sq_G P n g) (12 * t + sq_ps P (sq_G P n g) (sq_of sz t + i)) = sq_vr P (sq_of sz t + i) := by unfold xj_X; rw [xa]; rfl
    have eV : xj_V P n (sq_G P n g) (12 * t + sq_ps P (sq_G P n g) (sq_of sz t + i)) = sq_vl P (sq_of sz t + i) := by unfold xj_V; rw [xa]; rfl
    have eN : xj_N P n (sq_G P n g) (12 * t + sq_ps P (sq_G P n g) (sq_of sz t + i)) = sq_ln P (sq_of sz t + i) := by unfold xj_N; rw [xa]; rfl
    -- behind the instruction
    have rest : ∀ f_loads a_length a_tryKind a_tryVariable a_tryValue a_loadNumber, xw_PI P n (sq_G P n g) sz t (sq_ps P (sq_G P n g) (sq_of sz t + i) + 1) a_length a_tryKind a_tryVariable a_tryValue a_loadNumber → f_loads = nI (sq_ln P (sq_of sz t + i + 1)) →
        (vp_in (nI t) 4 ∧ (((a_size (nI t).toNatClampNeg ≤ nI i + 1 → ∀ x4 : Int32, x4 = nI i + 1 → wX_prepare_24 post J9 (nI g) (nI t) k (nI (sq_gn P n (sq_of sz t + i))) x4 f_total f_loads f_states f_memory f_known f_many f_strictMany a_size a_kind a_variable a_value a_length a_tryKind a_tryVariable a_tryValue a_loadNumber a_position a_content a_table a_at a_done a_list a_strictList) ∧
          (¬ a_size (nI t).toNatClampNeg ≤ nI i + 1 → ((((nI g >>> (nI (sq_gn P n (sq_of sz t + i)) &&& 31)) &&& 1) = 1 → wpX_emit (fun u => match u with | (f_total, f_loads, f_states, f_memory, f_known, f_many, f_strictMany, a_size, a_kind, a_variable, a_value, a_length, a_tryKind, a_tryVariable, a_tryValue, a_loadNumber, a_position, a_content, a_table, a_at, a_done, a_list, a_strictList) => ∀ x2 : Int32, x2 = nI (sq_gn P n (sq_of sz t + i)) + 1 → ∀ x4 : Int32, x4 = nI i + 1 → wX_prepare_24 post J9 (nI g) (nI t) k x2 x4 f_total f_loads f_states f_memory f_known f_many f_strictMany a_size a_kind a_variable a_value a_length a_tryKind a_tryVariable a_tryValue a_loadNumber a_position a_content a_table a_at a_done a_list a_strictList) (f_total, f_loads, f_states, f_memory, f_known, f_many, f_strictMany, a_size, a_kind, a_variable, a_value, a_length, a_tryKind, a_tryVariable, a_tryValue, a_loadNumber, a_position, a_content, a_table, a_at, a_done, a_list, a_strictList) (nI t) 2 0 0) ∧
            (¬ ((nI g >>> (nI (sq_gn P n (sq_of sz t + i)) &&& 31)) &&& 1) = 1 → ∀ x2 : Int32, x2 = nI (sq_gn P n (sq_of sz t + i)) + 1 → ∀ x4 : Int32, x4 = nI i + 1 → wX_prepare_24 post J9 (nI g) (nI t) k x2 x4 f_total f_loads f_states f_memory f_known f_many f_strictMany a_size a_kind a_variable a_value a_length a_tryKind a_tryVariable a_tryValue a_loadNumber a_position a_content a_table a_at a_done a_list a_strictList)))))) := by
      intro f_loads a_length a_tryKind a_tryVariable a_tryValue a_loadNumber I' el'
      refine And.intro vt ?_
      rw [cs, nI_1]
      have g6 := sq_gn_le P n (sq_of sz t + i)
      have n6 := w.2.1
      have gs : sq_gn P n (sq_of sz t + (i + 1)) = sq_gn P n (sq_of sz t + i) + (if sq_of sz t + i + 1 < n ∧ sq_th P (sq_of sz t + i + 1) = sq_th P (sq_of sz t + i) then 1 else 0) := rfl
      by_cases c : i + 1 < sz t
      · have pn := sq_psn w (sq_G P n g) t4 c
        have jn1 := sq_wf_lt w t4 c
        have th1 := (w.2.2 t (i + 1) t4 c).1
        have thn : sq_th P (sq_of sz t + i + 1) = sq_th P (sq_of sz t + i) := by rw [j1, Nat.add_assoc]; exact th1
        rw [if_pos ⟨by omega, thn⟩] at gs
        refine br_f (nI_ge (by omega) (by omega)) ?_
        have bt1 := xw_bit (g := g) (k := sq_gn P n (sq_of sz t + i)) hg (by omega)
        by_cases z : sq_G P n g (sq_of sz t + i) = true
        · have z' : g / 2 ^ sq_gn P n (sq_of sz t + i) % 2 = 1 := by unfold sq_G at z; simpa using z
          rw [if_pos z] at pn
          refine br_t (bt1.mpr z') ?_
          have xg := xj_gap w (j := sq_of sz t + i) (by omega) thn z
          rw [j1] at xg
          have fK : xj_K P n (sq_G P n g) (12 * t + (sq_ps P (sq_G P n g) (sq_of sz t + i) + 1)) = 2 := by unfold xj_K; rw [xg]; rfl
          have fX : xj_X P n (sq_G P n g) (12 * t + (sq_ps P (sq_G P n g) (sq_of sz t + i) + 1)) = 0 := by unfold xj_X; rw [xg]; rfl
          have fV : xj_V P n (sq_G P n g) (12 * t + (sq_ps P (sq_G P n g) (sq_of sz t + i) + 1)) = 0 := by unfold xj_V; rw [xg]; rfl
          have I2 := xw_PI_s (a_loadNumber' := a_loadNumber) w t4 (by omega) I' (fun q _ => rfl) (fun k1 => by omega)
          rw [fK, fX, fV] at I2
          refine xw_emit (w := 2) (x := 0) (v := 0) t4 (by omega) (by omega) I'.2.1 el' (fun z => by omega) (fun _ => ?_)
          refine nm_r (nI_1 _) (nm_r rfl ?_)
          rw [← gs]
          refine ih (i + 1) k _ _ _ _ _ _ (by omega) (by omega) ?_ el'
          rw [if_pos c, pn]
          exact I2
        · have z' : ¬ g / 2 ^ sq_gn P n (sq_of sz t + i) % 2 = 1 := by unfold sq_G at z; simpa using z
          rw [if_neg z, Nat.add_zero] at pn
          refine br_f (fun y => z' (bt1.mp y)) (nm_r (nI_1 _) (nm_r rfl ?_))
          rw [← gs]
          refine ih (i + 1) k _ _ _ _ _ _ (by omega) (by omega) ?_ el'
          rw [if_pos c, pn]
          exact I'
      · have e0 : ¬ (sq_of sz t + i + 1 < n ∧ sq_th P (sq_of sz t + i + 1) = sq_th P (sq_of sz t + i)) := by
          rintro ⟨y1, y2⟩
          have := ((sq_wf_sz w).1 t t4 (sq_of sz t + i + 1)).mp ⟨y1, by rw [y2, j1]⟩
          omega
        have gs' : sq_gn P n (sq_of sz t + (i + 1)) = sq_gn P n (sq_of sz t + i) := by rw [gs, if_neg e0]; rfl
        refine br_t (nI_le (by omega) (by omega)) (nm_r rfl ?_)
        rw [← gs']
        refine ih (i + 1) k _ _ _ _ _ _ (by omega) (by omega) ?_ el'
        rw [if_neg c]
        have : xj_len P (sq_G P n g) sz t = sq_ps P (sq_G P n g) (sq_of sz t + i) + 1 := by
          unfold xj_len
          rw [if_neg (by omega), show sz t - 1 = i by omega]
        rw [this]
        exact I'
    refine xw_emit t4 (by omega) j2 I.2.1 el (fun k1 => ?_) (fun k1 => ?_)
    · have I2 := xw_PI_s (a_loadNumber' := upd a_loadNumber (12 * t + sq_ps P (sq_G P n g) (sq_of sz t + i)) (nI (sq_ln P (sq_of sz t + i)))) w t4 (by omega) I (fun q hq => pk_un hq) (fun _ => by rw [eN]; exact pk_us)
      rw [eK, eX, eV] at I2
      refine rest _ _ _ _ _ _ I2 ?_
      show nI (sq_ln P (sq_of sz t + i) + 1) = nI (sq_ln P (sq_of sz t + i) + (if sq_kd P (sq_of sz t + i) = 1 then 1 else 0))
      rw [if_pos k1]
    · have I2 := xw_PI_s (a_loadNumber' := a_loadNumber) w t4 (by omega) I (fun q _ => rfl) (fun y => by rw [eK] at y; exact absurd y k1)
      rw [eK, eX, eV] at I2
      refine rest _ _ _ _ _ _ I2 ?_
      rw [el]
      show _ = nI (sq_ln P (sq_of sz t + i) + (if sq_kd P (sq_of sz t + i) = 1 then 1 else 0))
      rw [if_neg k1]; rfl
theorem xw_pr9 (w : sq_wf P n sz) (A : xw_P P n sz f_total a_size a_kind a_variable a_value) {g : Nat} (hg : g < 2 ^ 31) {post : SX → Prop}
    (h : ∀ f_loads a_length a_tryKind a_tryVariable a_tryValue a_loadNumber, xw_T (xj_len P (sq_G P n g) sz) (xj_K P n (sq_G P n g)) (xj_X P n (sq_G P n g)) (xj_V P n (sq_G P n g)) (xj_N P n (sq_G P n g)) a_length a_tryKind a_tryVariable a_tryValue a_loadNumber →
      f_loads = nI (sq_ln P n) → post (f_total, f_loads, f_states, f_memory, f_known, f_many, f_strictMany, a_size, a_kind, a_variable, a_value, a_length, a_tryKind, a_tryVariable, a_tryValue, a_loadNumber, a_position, a_content, a_table, a_at, a_done, a_list, a_strictList)) :
    ∀ d t k f_loads a_length a_tryKind a_tryVariable a_tryValue a_loadNumber, t + d = 4 → d < k → (∀ u, u < t → a_length u = nI (xj_len P (sq_G P n g) sz u)) → (∀ u q, u < t → q < xj_len P (sq_G P n g) sz u → xw_K1 P n (sq_G P n g) a_tryKind a_tryVariable a_tryValue a_loadNumber (12 * u + q)) →
      f_loads = nI (sq_ln P (sq_of sz t)) → wX_prepare_9 post (nI g) k (nI (sq_gn P n (sq_of sz t))) (nI t) f_total f_loads f_states f_memory f_known f_many f_strictMany a_size a_kind a_variable a_value a_length a_tryKind a_tryVariable a_tryValue a_loadNumber a_position a_content a_table a_at a_done a_list a_strictList := by
  intro d
  induction d with
  | zero =>
    intro t k f_loads a_length a_tryKind a_tryVariable a_tryValue a_loadNumber e hk h1 h2 el
    obtain ⟨k, rfl⟩ : ∃ m, k = m + 1 := ⟨k - 1, by omega⟩
    obtain rfl : t = 4 := by omega
    refine br_t (nI_le (a := 4) (b := 4) (by omega) (by omega)) (h _ _ _ _ _ _ ⟨fun t t4 => ⟨h1 t t4, xj_len11 w _ t4⟩, fun t i t4 hi => ?_⟩ (by rw [w.1]; exact el))
    obtain ⟨q1, q2, q3, q4⟩ := h2 t i t4 hi
    obtain ⟨b1, b2, b3, b4⟩ := xj_bd (G := sq_G P n g) w (12 * t + i)
    exact ⟨q1, q2, q3, b1, b2, b3, fun k1 => ⟨q4 k1, b4⟩⟩
  | succ d ih =>
    intro t k f_loads a_length a_tryKind a_tryVariable a_tryValue a_loadNumber e hk h1 h2 el
    obtain ⟨k, rfl⟩ : ∃ m, k = m + 1 := ⟨k - 1, by omega⟩
    have t4 : t < 4 := by omega
    refine br_f (nI_ge (b := 4) (by omega) (by omega)) (And.intro (vp_in_nI t4 (by omega)) (nm_e ?_))
    rw [nI_clamp (n := t) (by omega)]
    have main := xw_pr24 (f_states := f_states) (f_memory := f_memory) (f_known := f_known) (f_many := f_many) (f_strictMany := f_strictMany) (a_position := a_position) (a_content := a_content) (a_table := a_table) (a_at := a_at) (a_done := a_done) (a_list := a_list) (a_strictList := a_strictList)
      (post := post) (J9 := wX_prepare_9 post (nI g) k) w A t4 hg (fun f_loads a_length a_tryKind a_tryVariable a_tryValue a_loadNumber I el => ?_) (sz t) 0 (sz t + 1) f_loads (upd a_length t 0) a_tryKind a_tryVariable a_tryValue a_loadNumber (by omega) (by omega) ?_ el
    · exact ⟨sz t + 1, main⟩
    · refine ih (t + 1) k _ _ _ _ _ _ (by omega) (by omega) (fun u hu => ?_) (fun u q hu hq => ?_) el
      · by_cases c : u = t
        · subst c; exact I.2.1
        · exact I.1 u (by omega)
      · by_cases c : u = t
        · subst c; exact I.2.2 u q (Or.inr ⟨rfl, hq⟩)
        · exact I.2.2 u q (Or.inl ⟨by omega, hq⟩)
    · have z : (if 0 < sz t then sq_ps P (sq_G P n g) (sq_of sz t + 0) else xj_len P (sq_G P n g) sz t) = 0 := by
        by_cases c : 0 < sz t
        · rw [if_pos c]; exact sq_ps0 w _ t4 c
        · rw [if_neg c]; unfold xj_len; rw [if_pos (by omega)]
      rw [z]
      refine ⟨fun u hu => ?_, by rw [pk_us]; exact nI_0.symm, fun u q hq => ?_⟩
      · rw [pk_un (by omega)]; exact h1 u hu
      · rcases hq with ⟨a, b⟩ | ⟨a, b⟩
        · exact h2 u q a b
        · omega
theorem xw_prepare (w : sq_wf P n sz) (A : xw_P P n sz f_total a_size a_kind a_variable a_value) {g : Nat} (hg : g < 2 ^ 31) {post : SX → Prop}
    (h : ∀ f_loads a_length a_tryKind a_tryVariable a_tryValue a_loadNumber, xw_T (xj_len P (sq_G P n g) sz) (xj_K P n (sq_G P n g)) (xj_X P n (sq_G P n g)) (xj_V P n (sq_G P n g)) (xj_N P n (sq_G P n g)) a_length a_tryKind a_tryVariable a_tryValue a_loadNumber →
      f_loads = nI (sq_ln P n) → post (f_total, f_loads, f_states, f_memory, f_known, f_many, f_strictMany, a_size, a_kind, a_variable, a_value, a_length, a_tryKind, a_tryVariable, a_tryValue, a_loadNumber, a_position, a_content, a_table, a_at, a_done, a_list, a_strictList)) : wpX_prepare post (f_total, f_loads, f_states, f_memory, f_known, f_many, f_strictMany, a_size, a_kind, a_variable, a_value, a_length, a_tryKind, a_tryVariable, a_tryValue, a_loadNumber, a_position, a_content, a_table, a_at, a_done, a_list, a_strictList) (nI g) :=
  ⟨5, xw_pr9 w A hg h 4 0 5 0 a_length a_tryKind a_tryVariable a_tryValue a_loadNumber (by omega) (by omega) (fun u hu => by omega) (fun u q hu => by omega) nI_0.symm⟩
end
end
section
/-! X: work, and what reads the outcomes -/
/-- m is an outcome -/
def sq_mid (P : sq_PG) (n : Nat) (G : Nat → Bool) (str : Prop) (m : Nat) : Prop := ∃ H, sq_full n (sq_pp P G str) H ∧ m = sx_en 9 (sq_dg P H)
/-- c outcomes o are those of the program -/
def sq_so (P : sq_PG) (n : Nat) (G : Nat → Bool) (str : Prop) (o : Nat → Nat) (c : Nat) : Prop := ∀ m, (∃ i, i < c ∧ o i = m) ↔ sq_mid P n G str m
theorem sq_so_192 {P : sq_PG} {n : Nat} {G : Nat → Bool} {str : Prop} {L : List Nat} (ok : sq_ok P n) (nd : L.Nodup) (h : ∀ m, m ∈ L → sq_mid P n G str m) : L.length ≤ 192 :=
  ct_outs ok nd (fun m hm => by
    obtain ⟨H, f, e⟩ := h m hm
    exact ⟨H, f.1, f.2.1, e⟩)
theorem sq_mid_lt {P : sq_PG} {n : Nat} {G : Nat → Bool} {str : Prop} {m : Nat} (ok : sq_ok P n) (h : sq_mid P n G str m) : m < 4 ^ 9 := by
  obtain ⟨H, f, e⟩ := h
  rw [e]
  exact sx_en_lt (fun i _ => by have := sq_dg_le ok (h := H) (fun e he => (f.2.1 e).mp he) i; omega)
section
variable {f_total f_loads f_states f_memory f_known f_many f_strictMany : Int32} {a_size a_kind a_variable a_value a_length a_tryKind a_tryVariable a_tryValue a_loadNumber a_position a_content a_table a_at a_done a_list a_strictList : Nat → Int32}
variable {P : sq_PG} {n : Nat} {sz : Nat → Nat}
theorem xw_run (w : sq_wf P n sz) {g str : Nat} (hs : str < 2)
    (T : xw_T (xj_len P (sq_G P n g) sz) (xj_K P n (sq_G P n g)) (xj_X P n (sq_G P n g)) (xj_V P n (sq_G P n g)) (xj_N P n (sq_G P n g)) a_length a_tryKind a_tryVariable a_tryValue a_loadNumber) {post : SX → Prop}
    (h : ∀ o c f_states f_memory f_many a_position a_content a_table a_at a_done a_list, xw_O o c f_many a_list → sq_so P n (sq_G P n g) (str = 1) o c → post (f_total, f_loads, f_states, f_memory, f_known, f_many, f_strictMany, a_size, a_kind, a_variable, a_value, a_length, a_tryKind, a_tryVariable, a_tryValue, a_loadNumber, a_position, a_content, a_table, a_at, a_done, a_list, a_strictList)) :
    wpX_explore post (f_total, f_loads, f_states, f_memory, f_known, f_many, f_strictMany, a_size, a_kind, a_variable, a_value, a_length, a_tryKind, a_tryVariable, a_tryValue, a_loadNumber, a_position, a_content, a_table, a_at, a_done, a_list, a_strictList) (nI str) := by
  have ok := sq_wf_ok w
  have lk := xj_lk (G := sq_G P n g) w
  refine xw_explore T (fun t t4 => sx_is6 ok lk t4 (Nat.le_refl _)) hs (fun s r => ?_) (fun L nd hL => ct_states ok lk (sq_wf_sz w) nd hL) (fun L nd hL => ?_) (fun o c f_states f_memory f_many a_position a_content a_table a_at a_done a_list O hm => ?_)
  · obtain ⟨H, J, e2, _, _⟩ := sq_RI ok lk r
    refine ⟨J.2.2.1, ?_⟩
    rw [e2]
    exact sx_en_lt (fun i _ => by have := sq_dg_le ok (h := H) J.2.1 i; omega)
  · refine Nat.le_trans (sq_so_192 (G := sq_G P n g) (str := str = 1) ok nd (fun m hm => ?_)) (by omega)
    obtain ⟨s, r, e, es⟩ := hL m hm
    obtain ⟨H, f, eH⟩ := sq_XtoM ok lk r e
    exact ⟨H, f, by rw [← es]; exact eH⟩
  · refine h o c _ _ _ _ _ _ _ _ _ O (fun m => (hm m).trans ⟨?_, ?_⟩)
    · rintro ⟨s, r, e, es⟩
      obtain ⟨H, f, eH⟩ := sq_XtoM ok lk r e
      exact ⟨H, f, by rw [← es]; exact eH⟩
    · rintro ⟨H, f, eH⟩
      obtain ⟨s, r, e, es⟩ := sq_MtoX ok lk f
      exact ⟨s, r, e, by rw [eH]; exact es⟩
/-- what X knows when it is known -/
def xw_kn (P : sq_PG) (n : Nat) (f_loads f_many f_strictMany : Int32) (a_list a_strictList : Nat → Int32) : Prop :=
  f_loads = nI (sq_ln P n) ∧ (∃ o c, xw_O o c f_many a_list ∧ sq_so P n (sq_G P n 0) False o c) ∧ ∃ o c, xw_O o c f_strictMany a_strictList ∧ sq_so P n (sq_G P n 0) True o c
theorem xw_w28 {o : Nat → Nat} {c : Nat} (O : xw_O o c f_many a_list) {post : SX → Prop}
    (h : ∀ a_strictList, xw_O o c f_many a_strictList → wpX_explore (fun u => match u with | (f_total, f_loads, f_states, f_memory, f_known, f_many, f_strictMany, a_size, a_kind, a_variable, a_value, a_length, a_tryKind, a_tryVariable, a_tryValue, a_loadNumber, a_position, a_content, a_table, a_at, a_done, a_list, a_strictList) => post (f_total, f_loads, f_states, f_memory, 1, f_many, f_strictMany, a_size, a_kind, a_variable, a_value, a_length, a_tryKind, a_tryVariable, a_tryValue, a_loadNumber, a_position, a_content, a_table, a_at, a_done, a_list, a_strictList)) (f_total, f_loads, f_states, f_memory, f_known, f_many, f_strictMany, a_size, a_kind, a_variable, a_value, a_length, a_tryKind, a_tryVariable, a_tryValue, a_loadNumber, a_position, a_content, a_table, a_at, a_done, a_list, a_strictList) 0) :
    ∀ d i k a_strictList, i + d = c → d < k → (∀ j, j < i → a_strictList j = nI (o j)) → wX_work_28 post f_total f_loads f_states f_memory f_known f_many f_strictMany k (nI i) a_size a_kind a_variable a_value a_length a_tryKind a_tryVariable a_tryValue a_loadNumber a_position a_content a_table a_at a_done a_list a_strictList := by
  obtain ⟨q1, q2, q3, q4⟩ := O
  intro d
  induction d with
  | zero =>
    intro i k a_strictList e hk hj
    obtain ⟨k, rfl⟩ : ∃ m, k = m + 1 := ⟨k - 1, by omega⟩
    obtain rfl : i = c := by omega
    exact br_t (by rw [q1]; exact nI_le (Nat.le_refl _) (by omega)) (h a_strictList ⟨q1, q2, q3, fun j hj' => ⟨hj j hj', (q4 j hj').2⟩⟩)
  | succ d ih =>
    intro i k a_strictList e hk hj
    obtain ⟨k, rfl⟩ : ∃ m, k = m + 1 := ⟨k - 1, by omega⟩
    have vi : vp_in (nI i) 512 := vp_in_nI (by omega) (by omega)
    refine br_f (by rw [q1]; exact nI_ge (by omega) (by omega)) (And.intro vi (And.intro vi (nm_e (nm_r (nI_1 _) (ih (i + 1) k _ (by omega) (by omega) (fun j hj' => ?_))))))
    rw [nI_clamp (n := i) (by omega)]
    by_cases z : j = i
    · subst z; rw [pk_us]; exact (q4 j (by omega)).1
    · rw [pk_un z]; exact hj j (by omega)
theorem xw_work (w : sq_wf P n sz) (A : xw_P P n sz f_total a_size a_kind a_variable a_value) (hk : f_known = 0 ∨ (f_known = 1 ∧ xw_kn P n f_loads f_many f_strictMany a_list a_strictList)) {post : SX → Prop}
    (h : ∀ f_loads f_states f_memory f_known f_many f_strictMany a_length a_tryKind a_tryVariable a_tryValue a_loadNumber a_position a_content a_table a_at a_done a_list a_strictList, f_known = 1 → xw_kn P n f_loads f_many f_strictMany a_list a_strictList → post (f_total, f_loads, f_states, f_memory, f_known, f_many, f_strictMany, a_size, a_kind, a_variable, a_value, a_length, a_tryKind, a_tryVariable, a_tryValue, a_loadNumber, a_position, a_content, a_table, a_at, a_done, a_list, a_strictList)) :
    wpX_work post (f_total, f_loads, f_states, f_memory, f_known, f_many, f_strictMany, a_size, a_kind, a_variable, a_value, a_length, a_tryKind, a_tryVariable, a_tryValue, a_loadNumber, a_position, a_content, a_table, a_at, a_done, a_list, a_strictList) := by
  rcases hk with hk | ⟨hk, kn⟩
  · refine br_t hk (xw_prepare (g := 0) w A (by omega) (fun f_loads a_length a_tryKind a_tryVariable a_tryValue a_loadNumber T el => ?_))
    refine xw_run (str := 1) (g := 0) w (by omega) T (fun o c f_states f_memory f_many a_position a_content a_table a_at a_done a_list O hm => ?_)
    refine ⟨c + 1, xw_w28 (f_strictMany := f_many) O (fun a_strictList O' => ?_) c 0 (c + 1) a_strictList (by omega) (by omega) (fun j hj => by omega)⟩
    refine xw_run (str := 0) (g := 0) w (by omega) T (fun o2 c2 f_states f_memory f_many2 a_position a_content a_table a_at a_done a_list O2 hm2 => ?_)
    refine h _ _ _ _ _ _ _ _ _ _ _ _ _ _ _ _ _ _ rfl ⟨el, ⟨o2, c2, O2, ?_⟩, ⟨o, c, O', ?_⟩⟩
    · have : (0 = 1) = False := by simp
      rw [← this]; exact hm2
    · have : (1 = 1) = True := by simp
      rw [← this]; exact hm
  · exact br_f (by rw [hk]; decide) (h _ _ _ _ _ _ _ _ _ _ _ _ _ _ _ _ _ _ hk kn)
/-- the first outcome that isn't strict -/
def so_sur (o : Nat → Nat) (c : Nat) (o' : Nat → Nat) (c' : Nat) (r : Int32) : Prop :=
  ((∀ i, i < c → ∃ j, j < c' ∧ o' j = o i) ∧ r = -4) ∨ ∃ i, i < c ∧ (¬ ∃ j, j < c' ∧ o' j = o i) ∧ (∀ k, k < i → ∃ j, j < c' ∧ o' j = o k) ∧ r = nI (o i)
theorem so_sur1 {o o' : Nat → Nat} {c c' : Nat} {r r' : Int32} (h : so_sur o c o' c' r) (h' : so_sur o c o' c' r') : r' = r := by
  rcases h with ⟨h1, h2⟩ | ⟨i, h1, h2, h3, h4⟩
  · rcases h' with ⟨g1, g2⟩ | ⟨j, g1, g2, g3, g4⟩
    · rw [h2, g2]
    · exact absurd (h1 j g1) g2
  · rcases h' with ⟨g1, g2⟩ | ⟨j, g1, g2, g3, g4⟩
    · exact absurd (g1 i h1) h2
    · rcases Nat.lt_trichotomy i j with q | q | q
      · exact absurd (g3 i q) h2
      · rw [h4, g4, q]
      · exact absurd (h3 j q) g2
theorem so_surT (o : Nat → Nat) (c : Nat) (o' : Nat → Nat) (c' : Nat) : ∃ r, so_sur o c o' c' r := by
  by_cases h : ∀ i, i < c → ∃ j, j < c' ∧ o' j = o i
  · exact ⟨_, Or.inl ⟨h, rfl⟩⟩
  · have : ∃ i, i < c ∧ ¬ ∃ j, j < c' ∧ o' j = o i := by
      apply Classical.byContradiction
      intro z
      exact h (fun i hi => Classical.byContradiction fun y => z ⟨i, hi, y⟩)
    obtain ⟨i, ⟨i1, i2⟩, i3⟩ := pk_least (fun i => i < c ∧ ¬ ∃ j, j < c' ∧ o' j = o i) this
    exact ⟨_, Or.inr ⟨i, i1, i2, fun k hk => Classical.byContradiction fun y => i3 k hk ⟨by omega, y⟩, rfl⟩⟩
theorem xw_sur2 {o o' : Nat → Nat} {c c' : Nat} (O : xw_O o c f_many a_list) (O' : xw_O o' c' f_strictMany a_strictList) {post : Int32 → Prop} {r : Int32} (hr : so_sur o c o' c' r) (h : post r) :
    ∀ d i k, i + d = c → d < k → (∀ j, j < i → ∃ q, q < c' ∧ o' q = o j) → wX_surpriseNow_2 post f_total f_loads f_states f_memory f_known f_many f_strictMany a_size a_kind a_variable a_value a_length a_tryKind a_tryVariable a_tryValue a_loadNumber a_position a_content a_table a_at a_done a_list a_strictList k (nI i) := by
  have Oc := O
  obtain ⟨q1, q2, q3, q4⟩ := O
  intro d
  induction d with
  | zero =>
    intro i k e hk hj
    obtain ⟨k, rfl⟩ : ∃ m, k = m + 1 := ⟨k - 1, by omega⟩
    obtain rfl : i = c := by omega
    refine br_t (by rw [q1]; exact nI_le (Nat.le_refl _) (by omega)) ?_
    have : r = -4 := so_sur1 (Or.inl ⟨hj, rfl⟩) hr
    rw [← this]; exact h
  | succ d ih =>
    intro i k e hk hj
    obtain ⟨k, rfl⟩ : ∃ m, k = m + 1 := ⟨k - 1, by omega⟩
    have vi : vp_in (nI i) 512 := vp_in_nI (by omega) (by omega)
    have oi := q4 i (by omega)
    have ci : a_list (nI i).toNatClampNeg = nI (o i) := xw_r i (by omega) rfl oi.1
    refine br_f (by rw [q1]; exact nI_ge (by omega) (by omega)) (And.intro vi ?_)
    rw [ci]
    have conv : (∃ j, j < c' ∧ nI (o' j) = nI (o i)) ↔ ∃ j, j < c' ∧ o' j = o i := by
      constructor
      · rintro ⟨j, j1, j2⟩
        have := (O'.2.2.2 j j1).2
        exact ⟨j, j1, (nI_eq (by omega) (by omega)).mp j2⟩
      · rintro ⟨j, j1, j2⟩
        exact ⟨j, j1, congrArg nI j2⟩
    refine xw_has1 O' (fun t => br_f (by decide) (nm_r (nI_1 _) (ih (i + 1) k (by omega) (by omega) (fun j hj' => ?_)))) (fun t => br_t rfl (And.intro vi ?_))
    · by_cases z : j = i
      · subst z; exact conv.mp t
      · exact hj j (by omega)
    · have : r = nI (o i) := so_sur1 (Or.inr ⟨i, by omega, fun z => t (conv.mpr z), hj, rfl⟩) hr
      rw [← this]; exact h
theorem xw_surpriseNow {o o' : Nat → Nat} {c c' : Nat} (O : xw_O o c f_many a_list) (O' : xw_O o' c' f_strictMany a_strictList) {post : Int32 → Prop} {r : Int32} (hr : so_sur o c o' c' r) (h : post r) : wpX_surpriseNow post (f_total, f_loads, f_states, f_memory, f_known, f_many, f_strictMany, a_size, a_kind, a_variable, a_value, a_length, a_tryKind, a_tryVariable, a_tryValue, a_loadNumber, a_position, a_content, a_table, a_at, a_done, a_list, a_strictList) :=
  ⟨c + 1, xw_sur2 O O' hr h c 0 (c + 1) (by omega) (by omega) (fun j hj => by omega)⟩
/-- which values stand at a digit -/
def so_set (o : Nat → Nat) (k : Nat) : Nat → Int32
  | 0 => 0
  | i + 1 => so_set o k i ||| ((1 : Int32) <<< (nI (sx_md (o i) k) &&& 31))
theorem xw_fi23 {o : Nat → Nat} {c x : Nat} (hx : x < 6) (O : xw_O o c f_many a_list) {post : Int32 → SX → Prop} (h : post (so_set o x c) (f_total, f_loads, f_states, f_memory, f_known, f_many, f_strictMany, a_size, a_kind, a_variable, a_value, a_length, a_tryKind, a_tryVariable, a_tryValue, a_loadNumber, a_position, a_content, a_table, a_at, a_done, a_list, a_strictList)) :
    ∀ d i k, i + d = c → d < k → wX_finds_23 post (nI x) f_total f_loads f_states f_memory f_known f_many f_strictMany a_size a_kind a_variable a_value a_length a_tryKind a_tryVariable a_tryValue a_loadNumber a_position a_content a_table a_at a_done a_list a_strictList k (so_set o x i) (nI i) := by
  obtain ⟨q1, q2, q3, q4⟩ := O
  intro d
  induction d with
  | zero =>
    intro i k e hk
    obtain ⟨k, rfl⟩ : ∃ m, k = m + 1 := ⟨k - 1, by omega⟩
    obtain rfl : i = c := by omega
    exact br_t (by rw [q1]; exact nI_le (Nat.le_refl _) (by omega)) h
  | succ d ih =>
    intro i k e hk
    obtain ⟨k, rfl⟩ : ∃ m, k = m + 1 := ⟨k - 1, by omega⟩
    have oi := q4 i (by omega)
    refine br_f (by rw [q1]; exact nI_ge (by omega) (by omega)) (And.intro (vp_in_nI (by omega) (by omega)) ?_)
    rw [xw_r i (by omega) rfl oi.1, bx_in2 (by omega) hx]
    exact nm_r rfl (nm_r (nI_1 _) (ih (i + 1) k (by omega) (by omega)))
theorem xw_en19 {o : Nat → Nat} {c x : Nat} (hx : x < 3) (O : xw_O o c f_many a_list) {post : Int32 → SX → Prop} (h : post (so_set o (6 + x) c) (f_total, f_loads, f_states, f_memory, f_known, f_many, f_strictMany, a_size, a_kind, a_variable, a_value, a_length, a_tryKind, a_tryVariable, a_tryValue, a_loadNumber, a_position, a_content, a_table, a_at, a_done, a_list, a_strictList)) :
    ∀ d i k, i + d = c → d < k → wX_ends_19 post (nI x) f_total f_loads f_states f_memory f_known f_many f_strictMany a_size a_kind a_variable a_value a_length a_tryKind a_tryVariable a_tryValue a_loadNumber a_position a_content a_table a_at a_done a_list a_strictList k (so_set o (6 + x) i) (nI i) := by
  obtain ⟨q1, q2, q3, q4⟩ := O
  intro d
  induction d with
  | zero =>
    intro i k e hk
    obtain ⟨k, rfl⟩ : ∃ m, k = m + 1 := ⟨k - 1, by omega⟩
    obtain rfl : i = c := by omega
    exact br_t (by rw [q1]; exact nI_le (Nat.le_refl _) (by omega)) h
  | succ d ih =>
    intro i k e hk
    obtain ⟨k, rfl⟩ : ∃ m, k = m + 1 := ⟨k - 1, by omega⟩
    have oi := q4 i (by omega)
    refine br_f (by rw [q1]; exact nI_ge (by omega) (by omega)) (And.intro (vp_in_nI (by omega) (by omega)) ?_)
    rw [xw_r i (by omega) rfl oi.1, bx_in (by omega) hx]
    exact nm_r rfl (nm_r (nI_1 _) (ih (i + 1) k (by omega) (by omega)))
/-- whether a value at one digit brings a value at another -/
def so_imp (o : Nat → Nat) (x y : Nat) (v v' : Int32) (c : Nat) : Prop := ∀ i, i < c → nI (sx_md (o i) x) = v → nI (sx_md (o i) y) = v'
theorem xw_im36 {o : Nat → Nat} {c x y : Nat} {v v' : Int32} (hx : x < 6) (hy : y < 6) (O : xw_O o c f_many a_list) {post : Int32 → SX → Prop} (h1 : so_imp o x y v v' c → post 1 (f_total, f_loads, f_states, f_memory, f_known, f_many, f_strictMany, a_size, a_kind, a_variable, a_value, a_length, a_tryKind, a_tryVariable, a_tryValue, a_loadNumber, a_position, a_content, a_table, a_at, a_done, a_list, a_strictList)) (h0 : ¬ so_imp o x y v v' c → post 0 (f_total, f_loads, f_states, f_memory, f_known, f_many, f_strictMany, a_size, a_kind, a_variable, a_value, a_length, a_tryKind, a_tryVariable, a_tryValue, a_loadNumber, a_position, a_content, a_table, a_at, a_done, a_list, a_strictList)) :
    ∀ d i k a, i + d = c → d < k → a < 2 → (a = 1 ↔ so_imp o x y v v' i) → wX_implies_36 post (nI x) v (nI y) v' f_total f_loads f_states f_memory f_known f_many f_strictMany a_size a_kind a_variable a_value a_length a_tryKind a_tryVariable a_tryValue a_loadNumber a_position a_content a_table a_at a_done a_list a_strictList k (nI a) (nI i) := by
  obtain ⟨q1, q2, q3, q4⟩ := O
  intro d
  induction d with
  | zero =>
    intro i k a e hk ha hi
    obtain ⟨k, rfl⟩ : ∃ m, k = m + 1 := ⟨k - 1, by omega⟩
    obtain rfl : i = c := by omega
    refine br_t (by rw [q1]; exact nI_le (Nat.le_refl _) (by omega)) ?_
    rcases (by omega : a = 0 ∨ a = 1) with r | r
    · subst r; exact And.intro rfl (h0 (fun z => by have := hi.mpr z; omega))
    · subst r; exact And.intro rfl (h1 (hi.mp rfl))
  | succ d ih =>
    intro i k a e hk ha hi
    obtain ⟨k, rfl⟩ : ∃ m, k = m + 1 := ⟨k - 1, by omega⟩
    have oi := q4 i (by omega)
    have vi : vp_in (nI i) 512 := vp_in_nI (by omega) (by omega)
    have step : ∀ a', a' < 2 → (a' = 1 ↔ a = 1 ∧ (nI (sx_md (o i) x) = v → nI (sx_md (o i) y) = v')) → wX_implies_36 post (nI x) v (nI y) v' f_total f_loads f_states f_memory f_known f_many f_strictMany a_size a_kind a_variable a_value a_length a_tryKind a_tryVariable a_tryValue a_loadNumber a_position a_content a_table a_at a_done a_list a_strictList k (nI a') (nI (i + 1)) := by
      intro a' ha' e'
      refine ih (i + 1) k a' (by omega) (by omega) ha' (e'.trans ⟨?_, ?_⟩)
      · rintro ⟨y1, y2⟩ j hj z
        by_cases w : j = i
        · subst w; exact y2 z
        · exact (hi.mp y1) j (by omega) z
      · intro z
        exact ⟨hi.mpr (fun j hj => z j (by omega)), z i (by omega)⟩
    refine br_f (by rw [q1]; exact nI_ge (by omega) (by omega)) (And.intro vi ?_)
    rw [xw_r i (by omega) rfl oi.1, bx_in2 (by omega) hx]
    -- the join: all && (!first || second)
    have join : ∀ f s : Nat, f < 2 → s < 2 → (f = 1 ↔ nI (sx_md (o i) x) = v) → (s = 1 ↔ nI (sx_md (o i) y) = v') → wX_implies_92 post (wX_implies_36 post (nI x) v (nI y) v' f_total f_loads f_states f_memory f_known f_many f_strictMany a_size a_kind a_variable a_value a_length a_tryKind a_tryVariable a_tryValue a_loadNumber a_position a_content a_table a_at a_done a_list a_strictList k) (nI x) v (nI y) v' (nI a) (nI i) (nI f) (nI s) f_total f_loads f_states f_memory f_known f_many f_strictMany a_size a_kind a_variable a_value a_length a_tryKind a_tryVariable a_tryValue a_loadNumber a_position a_content a_table a_at a_done a_list a_strictList := by
      intro f s hf hs ef es
      by_cases a0 : a = 0
      · exact br_t (by rw [a0]; exact nI_0) (nm_r (nI_1 _) (step 0 (by omega) ⟨fun z => by omega, fun z => by have := z.1; omega⟩))
      · refine br_f (nI_ne0 (by omega) (by omega)) ?_
        by_cases f0 : f = 0
        · exact br_t (by rw [f0]; exact nI_0) (nm_r (nI_1 _) (step 1 (by omega) ⟨fun _ => ⟨by omega, fun z => by have := ef.mpr z; omega⟩, fun _ => rfl⟩))
        · refine br_f (nI_ne0 (by omega) (by omega)) ?_
          by_cases s0 : s = 0
          · exact br_t (by rw [s0]; exact nI_0) (nm_r (nI_1 _) (step 0 (by omega) ⟨fun z => by omega, fun z => by have := es.mpr (z.2 (ef.mp (by omega))); omega⟩))
          · exact br_f (nI_ne0 (by omega) (by omega)) (nm_r (nI_1 _) (step 1 (by omega) ⟨fun _ => ⟨by omega, fun _ => es.mp (by omega)⟩, fun _ => rfl⟩))
    have mid : ∀ f : Nat, f < 2 → (f = 1 ↔ nI (sx_md (o i) x) = v) → wX_implies_67 post (wX_implies_36 post (nI x) v (nI y) v' f_total f_loads f_states f_memory f_known f_many f_strictMany a_size a_kind a_variable a_value a_length a_tryKind a_tryVariable a_tryValue a_loadNumber a_position a_content a_table a_at a_done a_list a_strictList k) (nI x) v (nI y) v' (nI a) (nI i) (nI f) f_total f_loads f_states f_memory f_known f_many f_strictMany a_size a_kind a_variable a_value a_length a_tryKind a_tryVariable a_tryValue a_loadNumber a_position a_content a_table a_at a_done a_list a_strictList := by
      intro f hf ef
      refine And.intro vi ?_
      rw [xw_r i (by omega) rfl oi.1, bx_in2 (by omega) hy]
      by_cases z : nI (sx_md (o i) y) = v'
      · exact br_t z (join f 1 hf (by omega) ef ⟨fun _ => z, fun _ => rfl⟩)
      · exact br_f z (join f 0 hf (by omega) ef ⟨fun y => by omega, fun y => absurd y z⟩)
    by_cases z : nI (sx_md (o i) x) = v
    · exact br_t z (mid 1 (by omega) ⟨fun _ => z, fun _ => rfl⟩)
    · exact br_f z (mid 0 (by omega) ⟨fun y => by omega, fun y => absurd y z⟩)
end
end
section
/-! Y: numbers of stores and loads; orders and choices by number; the closure -/
def sy_cn (P : sq_PG) (k : Nat) : Nat → Nat
  | 0 => 0
  | j + 1 => sy_cn P k j + (if sq_kd P j = k then 1 else 0)
theorem sy_ln (P : sq_PG) : ∀ j, sy_cn P 1 j = sq_ln P j := by
  intro j
  induction j with
  | zero => rfl
  | succ j ih => show sy_cn P 1 j + _ = sq_ln P j + _; rw [ih]
theorem sy_cn_s {P : sq_PG} {k j : Nat} (h : sq_kd P j = k) : sy_cn P k (j + 1) = sy_cn P k j + 1 := by
  show sy_cn P k j + (if sq_kd P j = k then 1 else 0) = _
  rw [if_pos h]
theorem sy_cn_n {P : sq_PG} {k j : Nat} (h : ¬ sq_kd P j = k) : sy_cn P k (j + 1) = sy_cn P k j := by
  show sy_cn P k j + (if sq_kd P j = k then 1 else 0) = _
  rw [if_neg h]; rfl
theorem sy_cn_mono {P : sq_PG} {k a : Nat} : ∀ {b : Nat}, a ≤ b → sy_cn P k a ≤ sy_cn P k b := by
  intro b
  induction b with
  | zero => intro h; have : a = 0 := by omega
            subst this; exact Nat.le_refl _
  | succ b ih =>
    intro h
    by_cases e : a = b + 1
    · subst e; exact Nat.le_refl _
    · have := ih (by omega)
      show _ ≤ sy_cn P k b + _
      omega
theorem sy_cn_le (P : sq_PG) (k : Nat) : ∀ j, sy_cn P k j ≤ j := by
  intro j
  induction j with
  | zero => exact Nat.le_refl _
  | succ j ih => show sy_cn P k j + _ ≤ _; split <;> omega
theorem sy_cn_lt {P : sq_PG} {k a b : Nat} (h : sq_kd P a = k) (ab : a < b) : sy_cn P k a < sy_cn P k b := by
  have h1 := sy_cn_s h
  have h2 := sy_cn_mono (P := P) (k := k) (a := a + 1) (b := b) ab
  omega
theorem sy_cn_inj {P : sq_PG} {k a b : Nat} (ha : sq_kd P a = k) (hb : sq_kd P b = k) (e : sy_cn P k a = sy_cn P k b) : a = b := by
  rcases Nat.lt_trichotomy a b with c | c | c
  · have := sy_cn_lt ha c; omega
  · exact c
  · have := sy_cn_lt hb c; omega
/-- the s-th instruction of kind k below n -/
def sy_at (P : sq_PG) (k : Nat) : Nat → Nat → Nat
  | 0, _ => 0
  | n + 1, s => if sq_kd P n = k ∧ sy_cn P k n = s then n else sy_at P k n s
theorem sy_at_p {P : sq_PG} {k s : Nat} : ∀ {n : Nat}, s < sy_cn P k n → sy_at P k n s < n ∧ sq_kd P (sy_at P k n s) = k ∧ sy_cn P k (sy_at P k n s) = s := by
  intro n
  induction n with
  | zero => intro h; exact absurd h (Nat.not_lt_zero _)
  | succ n ih =>
    intro h
    show (if _ then _ else _) < _ ∧ sq_kd P (if _ then _ else _) = k ∧ sy_cn P k (if _ then _ else _) = s
    by_cases c : sq_kd P n = k ∧ sy_cn P k n = s
    · rw [if_pos c]; exact ⟨by omega, c.1, c.2⟩
    · rw [if_neg c]
      have : s < sy_cn P k n := by
        by_cases d : sq_kd P n = k
        · rw [sy_cn_s d] at h
          have : sy_cn P k n ≠ s := fun z => c ⟨d, z⟩
          omega
        · rw [sy_cn_n d] at h; exact h
      obtain ⟨h1, h2, h3⟩ := ih this
      exact ⟨by omega, h2, h3⟩
theorem sy_at_cn {P : sq_PG} {k n j : Nat} (hj : j < n) (h : sq_kd P j = k) : sy_at P k n (sy_cn P k j) = j := by
  obtain ⟨h1, h2, h3⟩ := sy_at_p (P := P) (k := k) (s := sy_cn P k j) (n := n) (sy_cn_lt h hj)
  exact sy_cn_inj h2 h h3
theorem sy_two (P : sq_PG) : ∀ n, sy_cn P 0 n + sy_cn P 1 n ≤ n := by
  intro n
  induction n with
  | zero => exact Nat.le_refl _
  | succ n ih =>
    show sy_cn P 0 n + (if sq_kd P n = 0 then 1 else 0) + (sy_cn P 1 n + (if sq_kd P n = 1 then 1 else 0)) ≤ n + 1
    by_cases c : sq_kd P n = 0
    · rw [if_pos c, if_neg (by omega)]; omega
    · rw [if_neg c]; split <;> omega
/-! orders -/
def yo_cn (f : Nat → Bool) : Nat → Nat
  | 0 => 0
  | a + 1 => yo_cn f a + (if f a = true then 1 else 0)
def yo_sel (f : Nat → Bool) : Nat → Nat → Nat
  | 0, _ => 0
  | n + 1, s => if f n = true ∧ yo_cn f n = s then n else yo_sel f n s
theorem yo_cn_s {f : Nat → Bool} {a : Nat} (h : f a = true) : yo_cn f (a + 1) = yo_cn f a + 1 := by
  show yo_cn f a + (if f a = true then 1 else 0) = _
  rw [if_pos h]
theorem yo_cn_n {f : Nat → Bool} {a : Nat} (h : ¬ f a = true) : yo_cn f (a + 1) = yo_cn f a := by
  show yo_cn f a + (if f a = true then 1 else 0) = _
  rw [if_neg h]; rfl
theorem yo_cn_mono {f : Nat → Bool} {a : Nat} : ∀ {b : Nat}, a ≤ b → yo_cn f a ≤ yo_cn f b := by
  intro b
  induction b with
  | zero => intro h; have : a = 0 := by omega
            subst this; exact Nat.le_refl _
  | succ b ih =>
    intro h
    by_cases e : a = b + 1
    · subst e; exact Nat.le_refl _
    · have := ih (by omega)
      show _ ≤ yo_cn f b + _
      omega
theorem yo_cn_lt {f : Nat → Bool} {a b : Nat} (h : f a = true) (ab : a < b) : yo_cn f a < yo_cn f b := by
  have h1 := yo_cn_s h
  have h2 := yo_cn_mono (f := f) (a := a + 1) (b := b) ab
  omega
theorem yo_cn_inj {f : Nat → Bool} {a b : Nat} (ha : f a = true) (hb : f b = true) (e : yo_cn f a = yo_cn f b) : a = b := by
  rcases Nat.lt_trichotomy a b with c | c | c
  · have := yo_cn_lt ha c; omega
  · exact c
  · have := yo_cn_lt hb c; omega
theorem yo_sel_p {f : Nat → Bool} {s : Nat} : ∀ {n : Nat}, s < yo_cn f n → yo_sel f n s < n ∧ f (yo_sel f n s) = true ∧ yo_cn f (yo_sel f n s) = s := by
  intro n
  induction n with
  | zero => intro h; exact absurd h (Nat.not_lt_zero _)
  | succ n ih =>
    intro h
    show (if _ then _ else _) < _ ∧ f (if _ then _ else _) = true ∧ yo_cn f (if _ then _ else _) = s
    by_cases c : f n = true ∧ yo_cn f n = s
    · rw [if_pos c]; exact ⟨by omega, c.1, c.2⟩
    · rw [if_neg c]
      have : s < yo_cn f n := by
        by_cases d : f n = true
        · rw [yo_cn_s d] at h
          have : yo_cn f n ≠ s := fun z => c ⟨d, z⟩
          omega
        · rw [yo_cn_n d] at h; exact h
      obtain ⟨h1, h2, h3⟩ := ih this
      exact ⟨by omega, h2, h3⟩
theorem yo_sel_cn {f : Nat → Bool} {n j : Nat} (hj : j < n) (h : f j = true) : yo_sel f n (yo_cn f j) = j := by
  obtain ⟨h1, h2, h3⟩ := yo_sel_p (f := f) (s := yo_cn f j) (n := n) (yo_cn_lt h hj)
  exact yo_cn_inj h2 h h3
def yo_rm (f : Nat → Bool) (p : Nat) : Nat → Bool := fun a => if a = p then false else f a
theorem yo_rm_t {f : Nat → Bool} {p a : Nat} : yo_rm f p a = true ↔ f a = true ∧ a ≠ p := by
  unfold yo_rm
  by_cases c : a = p
  · rw [if_pos c]; exact ⟨fun z => (by cases z), fun z => absurd c z.2⟩
  · rw [if_neg c]; exact ⟨fun z => ⟨z, c⟩, fun z => z.1⟩
theorem yo_rm_cn {f : Nat → Bool} {p : Nat} (h : f p = true) : ∀ b, yo_cn (yo_rm f p) b + (if p < b then 1 else 0) = yo_cn f b := by
  intro b
  induction b with
  | zero => rw [if_neg (Nat.not_lt_zero _)]; rfl
  | succ b ih =>
    by_cases c : b = p
    · subst c
      rw [if_neg (Nat.lt_irrefl _)] at ih
      rw [if_pos (Nat.lt_succ_self _), yo_cn_n (fun z => (yo_rm_t.mp z).2 rfl), yo_cn_s h]; omega
    · have e : (if p < b + 1 then 1 else 0) = (if p < b then 1 else 0) := by
        by_cases d : p < b
        · rw [if_pos d, if_pos (by omega)]
        · rw [if_neg d, if_neg (by omega)]
      rw [e]
      by_cases d : f b = true
      · rw [yo_cn_s (yo_rm_t.mpr ⟨d, c⟩), yo_cn_s d]; omega
      · rw [yo_cn_n (fun z => d (yo_rm_t.mp z).1), yo_cn_n d]; exact ih
/-- the places of m stores by a number, from the free places f below 6 -/
def yo_pl : Nat → (Nat → Bool) → Nat → Nat → Nat
  | 0, _, _ => fun _ => 0
  | m + 1, f, r => fun i => match i with
    | 0 => yo_sel f 6 (r % (m + 1))
    | i + 1 => yo_pl m (yo_rm f (yo_sel f 6 (r % (m + 1)))) (r / (m + 1)) i
def yo_fa : Nat → Nat
  | 0 => 1
  | m + 1 => (m + 1) * yo_fa m
theorem yo_pl_p : ∀ (m : Nat) (f : Nat → Bool) (r : Nat), yo_cn f 6 = m → (∀ i, i < m → yo_pl m f r i < 6 ∧ f (yo_pl m f r i) = true) ∧ ∀ i j, i < m → j < m → yo_pl m f r i = yo_pl m f r j → i = j := by
  intro m
  induction m with
  | zero => intro f r _; exact ⟨fun i hi => by omega, fun i j hi => by omega⟩
  | succ m ih =>
    intro f r e
    obtain ⟨s1, s2, s3⟩ := yo_sel_p (f := f) (s := r % (m + 1)) (n := 6) (by rw [e]; exact Nat.mod_lt _ (by omega))
    have e' : yo_cn (yo_rm f (yo_sel f 6 (r % (m + 1)))) 6 = m := by
      have := yo_rm_cn s2 6
      rw [if_pos s1] at this
      omega
    obtain ⟨h1, h2⟩ := ih _ (r / (m + 1)) e'
    refine ⟨fun i hi => ?_, fun i j hi hj q => ?_⟩
    · cases i with
      | zero => exact ⟨s1, s2⟩
      | succ i =>
        obtain ⟨a, b⟩ := h1 i (by omega)
        exact ⟨a, (yo_rm_t.mp b).1⟩
    · cases i with
      | zero =>
        cases j with
        | zero => rfl
        | succ j =>
          exfalso
          obtain ⟨a, b⟩ := h1 j (by omega)
          exact (yo_rm_t.mp b).2 q.symm
      | succ i =>
        cases j with
        | zero =>
          exfalso
          obtain ⟨a, b⟩ := h1 i (by omega)
          exact (yo_rm_t.mp b).2 q
        | succ j => rw [h2 i j (by omega) (by omega) q]
theorem yo_pl_all : ∀ (m : Nat) (f : Nat → Bool) (q : Nat → Nat), yo_cn f 6 = m → (∀ i, i < m → q i < 6 ∧ f (q i) = true) → (∀ i j, i < m → j < m → q i = q j → i = j) → ∃ r, r < yo_fa m ∧ ∀ i, i < m → yo_pl m f r i = q i := by
  intro m
  induction m with
  | zero => intro f q _ _ _; exact ⟨0, Nat.one_pos, fun i hi => by omega⟩
  | succ m ih =>
    intro f q e h1 h2
    obtain ⟨a, b⟩ := h1 0 (by omega)
    have lt : yo_cn f (q 0) < m + 1 := by rw [← e]; exact yo_cn_lt b a
    have e' : yo_cn (yo_rm f (q 0)) 6 = m := by
      have := yo_rm_cn b 6
      rw [if_pos a] at this
      omega
    obtain ⟨r, r1, r2⟩ := ih (yo_rm f (q 0)) (fun i => q (i + 1)) e' (fun i hi => by
        obtain ⟨x, y⟩ := h1 (i + 1) (by omega)
        exact ⟨x, yo_rm_t.mpr ⟨y, fun z => by have := h2 (i + 1) 0 (by omega) (by omega) z; omega⟩⟩) (fun i j hi hj z => by
        have := h2 (i + 1) (j + 1) (by omega) (by omega) z
        omega)
    have m1 : (yo_cn f (q 0) + (m + 1) * r) % (m + 1) = yo_cn f (q 0) := by rw [Nat.add_mul_mod_self_left, Nat.mod_eq_of_lt lt]
    have m2 : (yo_cn f (q 0) + (m + 1) * r) / (m + 1) = r := by rw [Nat.add_mul_div_left _ _ (by omega), Nat.div_eq_of_lt lt, Nat.zero_add]
    have sel : yo_sel f 6 (yo_cn f (q 0)) = q 0 := yo_sel_cn a b
    refine ⟨yo_cn f (q 0) + (m + 1) * r, ?_, fun i hi => ?_⟩
    · show _ < (m + 1) * yo_fa m
      have : (m + 1) * (r + 1) ≤ (m + 1) * yo_fa m := Nat.mul_le_mul_left _ r1
      rw [Nat.mul_add, Nat.mul_one] at this
      omega
    · cases i with
      | zero =>
        show yo_sel f 6 ((yo_cn f (q 0) + (m + 1) * r) % (m + 1)) = q 0
        rw [m1, sel]
      | succ i =>
        show yo_pl m (yo_rm f (yo_sel f 6 ((yo_cn f (q 0) + (m + 1) * r) % (m + 1)))) ((yo_cn f (q 0) + (m + 1) * r) / (m + 1)) i = q (i + 1)
        rw [m1, m2, sel]; exact r2 i (by omega)
/-! choices -/
def yo_dg (b : Nat) : Nat → Nat → Nat
  | r, 0 => r % b
  | r, k + 1 => yo_dg b (r / b) k
theorem yo_dg_lt {b : Nat} (hb : 0 < b) : ∀ k r, yo_dg b r k < b := by
  intro k
  induction k with
  | zero => intro r; exact Nat.mod_lt _ hb
  | succ k ih => intro r; exact ih (r / b)
theorem yo_dg_all {b : Nat} (hb : 0 < b) : ∀ (m : Nat) (q : Nat → Nat), (∀ i, i < m → q i < b) → ∃ r, r < b ^ m ∧ ∀ i, i < m → yo_dg b r i = q i := by
  intro m
  induction m with
  | zero => intro q _; exact ⟨0, Nat.one_pos, fun i hi => by omega⟩
  | succ m ih =>
    intro q h
    obtain ⟨r, r1, r2⟩ := ih (fun i => q (i + 1)) (fun i hi => h (i + 1) (by omega))
    have h0 := h 0 (by omega)
    refine ⟨q 0 + b * r, ?_, fun i hi => ?_⟩
    · rw [Nat.pow_succ, Nat.mul_comm (b ^ m) b]
      have : b * (r + 1) ≤ b * b ^ m := Nat.mul_le_mul_left _ r1
      rw [Nat.mul_add, Nat.mul_one] at this
      omega
    · cases i with
      | zero =>
        show (q 0 + b * r) % b = q 0
        rw [Nat.add_mul_mod_self_left, Nat.mod_eq_of_lt h0]
      | succ i =>
        show yo_dg b ((q 0 + b * r) / b) i = q (i + 1)
        rw [Nat.add_mul_div_left _ _ hb, Nat.div_eq_of_lt h0, Nat.zero_add]; exact r2 i (by omega)
/-! the closure -/
def yo_wa (R : Nat → Nat → Prop) : Nat → Nat → Nat → Prop
  | 0 => R
  | k + 1 => fun a b => yo_wa R k a b ∨ (yo_wa R k a k ∧ yo_wa R k k b)
theorem yo_wa_tr {R : Nat → Nat → Prop} : ∀ k c, c < k → ∀ a b, yo_wa R k a c → yo_wa R k c b → yo_wa R k a b := by
  intro k
  induction k with
  | zero => intro c hc; omega
  | succ k ih =>
    intro c hc a b h1 h2
    by_cases e : c = k
    · subst e
      have x : yo_wa R c a c := h1.elim id (fun z => z.1)
      have y : yo_wa R c c b := h2.elim id (fun z => z.2)
      exact Or.inr ⟨x, y⟩
    · have ck : c < k := by omega
      rcases h1 with h1 | ⟨h1, h1'⟩
      · rcases h2 with h2 | ⟨h2, h2'⟩
        · exact Or.inl (ih c ck a b h1 h2)
        · exact Or.inr ⟨ih c ck a k h1 h2, h2'⟩
      · rcases h2 with h2 | ⟨h2, h2'⟩
        · exact Or.inr ⟨h1, ih c ck k b h1' h2⟩
        · exact Or.inr ⟨h1, h2'⟩
theorem yo_wa_sub {R : Nat → Nat → Prop} {a b : Nat} (h : R a b) : ∀ k, yo_wa R k a b := by
  intro k
  induction k with
  | zero => exact h
  | succ k ih => exact Or.inl ih
theorem yo_wa_in {R S : Nat → Nat → Prop} (h : ∀ a b, R a b → S a b) (tr : ∀ a b c, S a b → S b c → S a c) : ∀ k a b, yo_wa R k a b → S a b := by
  intro k
  induction k with
  | zero => exact h
  | succ k ih =>
    intro a b q
    rcases q with q | ⟨q1, q2⟩
    · exact ih a b q
    · exact tr _ _ _ (ih _ _ q1) (ih _ _ q2)
/-- no ring: a strict order holds the relation -/
def yo_ac (n : Nat) (R : Nat → Nat → Prop) : Prop := ∃ S : Nat → Nat → Prop, (∀ a b c, S a b → S b c → S a c) ∧ (∀ a, ¬ S a a) ∧ ∀ a b, a < n → b < n → R a b → S a b
theorem yo_ac_iff {n : Nat} {R : Nat → Nat → Prop} (hR : ∀ a b, R a b → a < n ∧ b < n) : yo_ac n R ↔ ∀ a, a < n → ¬ yo_wa R n a a := by
  have hb : ∀ k a b, yo_wa R k a b → a < n ∧ b < n := by
    intro k
    induction k with
    | zero => exact hR
    | succ k ih =>
      intro a b q
      rcases q with q | ⟨q1, q2⟩
      · exact ih a b q
      · exact ⟨(ih _ _ q1).1, (ih _ _ q2).2⟩
  constructor
  · rintro ⟨S, tr, ir, h⟩ a _ q
    exact ir a (yo_wa_in (fun a b r => h a b (hR a b r).1 (hR a b r).2 r) tr n a a q)
  · intro h
    refine ⟨yo_wa R n, fun a b c x y => yo_wa_tr n b (hb n _ _ x).2 a c x y, fun a q => h a (hb n _ _ q).1 q, fun a b _ _ q => yo_wa_sub q n⟩
/-- a choice's digits are one -/
theorem sq_out_uq {P : sq_PG} {n : Nat} {Pl : Nat → Nat} {F : Nat → Option Nat} {g g' : Nat → Nat} (h : sq_out P n Pl F g) (h' : sq_out P n Pl F g') : sx_en 9 g = sx_en 9 g' := by
  apply sx_en_cg
  intro i hi
  by_cases c : i < 6
  · by_cases d : ∃ l, l < n ∧ sq_kd P l = 1 ∧ sq_ln P l = i
    · obtain ⟨l, l1, l2, l3⟩ := d
      rw [← l3, h.1 l l1 l2, h'.1 l l1 l2]
    · have z : ∀ l, l < n → sq_kd P l = 1 → sq_ln P l ≠ i := fun l l1 l2 l3 => d ⟨l, l1, l2, l3⟩
      rw [h.2.1 i c z, h'.2.1 i c z]
  · obtain ⟨x, rfl⟩ : ∃ x, i = 6 + x := ⟨i - 6, by omega⟩
    by_cases d : ∃ j, j < n ∧ sq_kd P j = 0 ∧ sq_vr P j = x
    · -- the store with the greatest place
      have mx : ∀ k, (∃ j, j < k ∧ j < n ∧ sq_kd P j = 0 ∧ sq_vr P j = x) → ∃ m, m < n ∧ sq_kd P m = 0 ∧ sq_vr P m = x ∧ ∀ j, j < k → j < n → sq_kd P j = 0 → sq_vr P j = x → Pl j ≤ Pl m := by
        intro k
        induction k with
        | zero => rintro ⟨j, j1, _⟩; omega
        | succ k ih =>
          intro hk
          by_cases e : ∃ j, j < k ∧ j < n ∧ sq_kd P j = 0 ∧ sq_vr P j = x
          · obtain ⟨m, m1, m2, m3, m4⟩ := ih e
            by_cases kk : k < n ∧ sq_kd P k = 0 ∧ sq_vr P k = x ∧ Pl m < Pl k
            · refine ⟨k, kk.1, kk.2.1, kk.2.2.1, fun j j1 j2 j3 j4 => ?_⟩
              by_cases q : j = k
              · subst q; exact Nat.le_refl _
              · have := m4 j (by omega) j2 j3 j4
                have := kk.2.2.2
                omega
            · refine ⟨m, m1, m2, m3, fun j j1 j2 j3 j4 => ?_⟩
              by_cases q : j = k
              · subst q
                apply Classical.byContradiction
                intro y
                exact kk ⟨j2, j3, j4, by omega⟩
              · exact m4 j (by omega) j2 j3 j4
          · obtain ⟨j, j1, j2, j3, j4⟩ := hk
            have : j = k := by
              apply Classical.byContradiction
              intro y
              exact e ⟨j, by omega, j2, j3, j4⟩
            subst this
            refine ⟨j, j2, j3, j4, fun i i1 i2 i3 i4 => ?_⟩
            by_cases q : i = j
            · subst q; exact Nat.le_refl _
            · exact absurd ⟨i, by omega, i2, i3, i4⟩ e
      obtain ⟨j, j1, j2, j3⟩ := d
      obtain ⟨m, m1, m2, m3, m4⟩ := mx n ⟨j, j1, j1, j2, j3⟩
      have q1 := h.2.2.2 m m1 m2 (fun j j1 j2 j3 => m4 j j1 j1 j2 (j3.trans m3))
      have q2 := h'.2.2.2 m m1 m2 (fun j j1 j2 j3 => m4 j j1 j1 j2 (j3.trans m3))
      rw [m3] at q1 q2
      rw [q1, q2]
    · have z : ∀ j, j < n → ¬ (sq_kd P j = 0 ∧ sq_vr P j = x) := fun j j1 j2 => d ⟨j, j1, j2.1, j2.2⟩
      rw [h.2.2.1 x z, h'.2.2.1 x z]
end
section
/-! Y: the program, stores and loads sorted out, the relation of the program's order -/
def yw_P (P : sq_PG) (n : Nat) (f_size : Int32) (a_kinds a_threads a_variables a_values : Nat → Int32) : Prop :=
  f_size = nI n ∧ ∀ j, j < n → a_kinds j = nI (sq_kd P j) ∧ a_threads j = nI (sq_th P j) ∧ a_variables j = nI (sq_vr P j) ∧ a_values j = nI (sq_vl P j)
def yw_S (P : sq_PG) (n : Nat) (f_storeCount f_loadCount : Int32) (a_stores a_loads : Nat → Int32) : Prop :=
  f_storeCount = nI (sy_cn P 0 n) ∧ f_loadCount = nI (sq_ln P n) ∧ (∀ s, s < sy_cn P 0 n → a_stores s = nI (sy_at P 0 n s)) ∧ ∀ k, k < sq_ln P n → a_loads k = nI (sy_at P 1 n k)
def yw_G (g i : Nat) : Bool := decide (g / 2 ^ i % 2 = 1)
/-- the first k rows of the relation R in the array -/
def yw_A (k : Nat) (R : Nat → Nat → Prop) (a_after : Nat → Int32) : Prop := ∀ a, a < k → ∃ m, m < 64 ∧ a_after a = nI m ∧ ∀ b, b < 6 → (m.testBit b = true ↔ R a b)
theorem yw_upd_id (f : Nat → Int32) (k : Nat) : upd f k (f k) = f := by
  funext j
  by_cases c : j = k
  · subst c; rw [pk_us]
  · rw [pk_un c]
theorem yw_A_cg {k : Nat} {R R' : Nat → Nat → Prop} {a_after : Nat → Int32} (h : yw_A k R a_after) (e : ∀ a b, a < k → b < 6 → (R a b ↔ R' a b)) : yw_A k R' a_after := by
  intro a ha
  obtain ⟨m, m1, m2, m3⟩ := h a ha
  exact ⟨m, m1, m2, fun b hb => (m3 b hb).trans (e a b ha hb)⟩
theorem yw_or1 {m b : Nat} (hm : m < 64) (hb : b < 6) : nI m ||| ((1 : Int32) <<< (nI b &&& 31)) = nI (m ||| 2 ^ b) ∧ m ||| 2 ^ b < 64 := by
  have p : 2 ^ b < 64 := by
    have : 2 ^ b ≤ 2 ^ 5 := Nat.pow_le_pow_right (by omega) (by omega)
    omega
  refine ⟨?_, Nat.or_lt_two_pow (n := 6) hm p⟩
  rw [show (1 : Int32) = nI 1 from rfl, pk_shlN _ _ (s_l b (by omega)) (by omega), bx_or, Nat.one_mul]
theorem yw_A_set {k : Nat} {R : Nat → Nat → Prop} {a_after : Nat → Int32} (h : yw_A k R a_after) {a b : Nat} (ha : a < k) (hb : b < 6) : yw_A k (fun x y => R x y ∨ (x = a ∧ y = b)) (upd a_after a (a_after a ||| ((1 : Int32) <<< (nI b &&& 31)))) := by
  intro x hx
  by_cases c : x = a
  · subst c
    obtain ⟨m, m1, m2, m3⟩ := h x hx
    obtain ⟨e1, e2⟩ := yw_or1 m1 hb
    refine ⟨m ||| 2 ^ b, e2, by rw [pk_us, m2, e1], fun y hy => ?_⟩
    rw [Nat.testBit_or, Nat.testBit_two_pow, Bool.or_eq_true, m3 y hy]
    constructor
    · rintro (r | r)
      · exact Or.inl r
      · exact Or.inr ⟨rfl, by simpa using (of_decide_eq_true r).symm⟩
    · rintro (r | ⟨_, r⟩)
      · exact Or.inl r
      · exact Or.inr (by simp [r])
  · obtain ⟨m, m1, m2, m3⟩ := h x hx
    refine ⟨m, m1, by rw [pk_un c]; exact m2, fun y hy => (m3 y hy).trans ⟨Or.inl, fun z => z.elim id (fun w => absurd w.1 c)⟩⟩
theorem yw_A_0 {k : Nat} {R : Nat → Nat → Prop} {a_after : Nat → Int32} (h : yw_A k R a_after) : yw_A (k + 1) (fun x y => x < k ∧ R x y) (upd a_after k 0) := by
  intro x hx
  by_cases c : x = k
  · subst c
    refine ⟨0, by omega, by rw [pk_us]; exact nI_0.symm, fun y hy => ?_⟩
    rw [Nat.zero_testBit]
    exact ⟨fun z => (by cases z), fun z => absurd z.1 (Nat.lt_irrefl _)⟩
  · obtain ⟨m, m1, m2, m3⟩ := h x (by omega)
    exact ⟨m, m1, by rw [pk_un c]; exact m2, fun y hy => (m3 y hy).trans ⟨fun z => ⟨by omega, z⟩, fun z => z.2⟩⟩
section
variable {f_size f_fences f_storeCount f_loadCount f_listed f_strictListed : Int32} {a_kinds a_threads a_variables a_values a_stores a_loads a_found a_place a_after a_list a_strictList : Nat → Int32}
variable {P : sq_PG} {n : Nat}
theorem yw_so12 (n6 : n ≤ 6) (A : yw_P P n f_size a_kinds a_threads a_variables a_values) (hkd : ∀ j, j < n → sq_kd P j ≤ 2) {post : SY → Prop}
    (h : ∀ f_storeCount f_loadCount a_stores a_loads, yw_S P n f_storeCount f_loadCount a_stores a_loads → post (f_size, f_fences, f_storeCount, f_loadCount, f_listed, f_strictListed, a_kinds, a_threads, a_variables, a_values, a_stores, a_loads, a_found, a_place, a_after, a_list, a_strictList)) :
    ∀ d i k f_storeCount f_loadCount a_stores a_loads, i + d = n → d < k → f_storeCount = nI (sy_cn P 0 i) → f_loadCount = nI (sq_ln P i) → (∀ j, j < i → sq_kd P j = 0 → a_stores (sy_cn P 0 j) = nI j) → (∀ j, j < i → sq_kd P j = 1 → a_loads (sq_ln P j) = nI j) →
      wY_sortOut_12 post f_size f_fences f_listed f_strictListed k (nI i) f_storeCount f_loadCount a_kinds a_threads a_variables a_values a_stores a_loads a_found a_place a_after a_list a_strictList := by
  intro d
  induction d with
  | zero =>
    intro i k f_storeCount f_loadCount a_stores a_loads e hk e1 e2 h1 h2
    obtain ⟨k, rfl⟩ : ∃ m, k = m + 1 := ⟨k - 1, by omega⟩
    obtain rfl : i = n := by omega
    refine br_t (by rw [A.1]; exact nI_le (Nat.le_refl _) (by omega)) (h _ _ _ _ ⟨e1, e2, fun s hs => ?_, fun s hs => ?_⟩)
    · obtain ⟨q1, q2, q3⟩ := sy_at_p (P := P) (k := 0) (s := s) (n := i) hs
      have := h1 _ q1 q2
      rw [q3] at this
      exact this
    · rw [← sy_ln] at hs
      obtain ⟨q1, q2, q3⟩ := sy_at_p (P := P) (k := 1) (s := s) (n := i) hs
      have := h2 _ q1 q2
      rw [← sy_ln, q3] at this
      exact this
  | succ d ih =>
    intro i k f_storeCount f_loadCount a_stores a_loads e hk e1 e2 h1 h2
    obtain ⟨k, rfl⟩ : ∃ m, k = m + 1 := ⟨k - 1, by omega⟩
    have hi : i < n := by omega
    have vi : vp_in (nI i) 6 := vp_in_nI (by omega) (by omega)
    have ck : a_kinds (nI i).toNatClampNeg = nI (sq_kd P i) := xw_r i (by omega) rfl (A.2 i hi).1
    have c6 := sy_cn_le P 0 i
    have l6 := sq_ln_le P i
    have k2 := hkd i hi
    refine br_f (by rw [A.1]; exact nI_ge (by omega) (by omega)) (And.intro vi ?_)
    rw [ck]
    -- the loads' half
    have half : ∀ f_storeCount a_stores, f_storeCount = nI (sy_cn P 0 (i + 1)) → (∀ j, j < i + 1 → sq_kd P j = 0 → a_stores (sy_cn P 0 j) = nI j) → wY_sortOut_49 post (wY_sortOut_12 post f_size f_fences f_listed f_strictListed k) (nI i) f_size f_fences f_storeCount f_loadCount f_listed f_strictListed a_kinds a_threads a_variables a_values a_stores a_loads a_found a_place a_after a_list a_strictList := by
      intro f_storeCount a_stores e1' h1'
      refine And.intro vi ?_
      rw [ck]
      by_cases c : sq_kd P i = 1
      · refine br_t ((xw_k1 k2).mpr c) (And.intro (by rw [e2]; exact vp_in_nI (by omega) (by omega)) ?_)
        rw [e2, nI_clamp (n := sq_ln P i) (by omega)]
        have el : sq_ln P (i + 1) = sq_ln P i + 1 := by
          show sq_ln P i + (if sq_kd P i = 1 then 1 else 0) = _
          rw [if_pos c]
        refine nm_e (nm_r (nI_1 _) (nm_r (nI_1 _) ?_))
        rw [← el]
        refine ih (i + 1) k _ _ _ _ (by omega) (by omega) e1' rfl h1' (fun j hj kj => ?_)
        by_cases z : j = i
        · subst z; exact pk_us
        · rw [pk_un (fun y => z (sq_ln_inj P kj c y))]; exact h2 j (by omega) kj
      · refine br_f (fun z => c ((xw_k1 k2).mp z)) (nm_r (nI_1 _) ?_)
        have el : sq_ln P (i + 1) = sq_ln P i := by
          show sq_ln P i + (if sq_kd P i = 1 then 1 else 0) = _
          rw [if_neg c]; rfl
        refine ih (i + 1) k _ _ _ _ (by omega) (by omega) e1' (by rw [el]; exact e2) h1' (fun j hj kj => ?_)
        by_cases z : j = i
        · subst z; exact absurd kj c
        · exact h2 j (by omega) kj
    by_cases c : sq_kd P i = 0
    · refine br_t ((xw_k0 k2).mpr c) (And.intro (by rw [e1]; exact vp_in_nI (by omega) (by omega)) ?_)
      rw [e1, nI_clamp (n := sy_cn P 0 i) (by omega)]
      refine nm_e (nm_r (nI_1 _) (half _ _ (by rw [sy_cn_s c]) (fun j hj kj => ?_)))
      by_cases z : j = i
      · subst z; exact pk_us
      · rw [pk_un (fun y => z (sy_cn_inj kj c y))]; exact h1 j (by omega) kj
    · refine br_f (fun z => c ((xw_k0 k2).mp z)) (half _ _ (by rw [sy_cn_n c]; exact e1) (fun j hj kj => ?_))
      by_cases z : j = i
      · subst z; exact absurd kj c
      · exact h1 j (by omega) kj
theorem yw_sortOut (n6 : n ≤ 6) (A : yw_P P n f_size a_kinds a_threads a_variables a_values) (hkd : ∀ j, j < n → sq_kd P j ≤ 2) {post : SY → Prop}
    (h : ∀ f_storeCount f_loadCount a_stores a_loads, yw_S P n f_storeCount f_loadCount a_stores a_loads → post (f_size, f_fences, f_storeCount, f_loadCount, f_listed, f_strictListed, a_kinds, a_threads, a_variables, a_values, a_stores, a_loads, a_found, a_place, a_after, a_list, a_strictList)) : wpY_sortOut post (f_size, f_fences, f_storeCount, f_loadCount, f_listed, f_strictListed, a_kinds, a_threads, a_variables, a_values, a_stores, a_loads, a_found, a_place, a_after, a_list, a_strictList) :=
  ⟨n + 1, yw_so12 n6 A hkd h n 0 (n + 1) 0 0 a_stores a_loads (by omega) (by omega) nI_0.symm nI_0.symm (fun j hj => by omega) (fun j hj => by omega)⟩
theorem yw_if2 (n6 : n ≤ 6) (A : yw_P P n f_size a_kinds a_threads a_variables a_values) (hkd : ∀ j, j < n → sq_kd P j ≤ 2) {g a b : Nat} (hg : g < 64) (ef : f_fences = nI g) (hb : b ≤ n) {post : Int32 → Prop}
    (h1 : (∃ i, a ≤ i ∧ i < b ∧ (yw_G g i = true ∨ sq_kd P i = 2)) → post 1) (h0 : (¬ ∃ i, a ≤ i ∧ i < b ∧ (yw_G g i = true ∨ sq_kd P i = 2)) → post 0) :
    ∀ d c k, c + d = b → d < k → a ≤ c → (∀ i, a ≤ i → i < c → ¬ (yw_G g i = true ∨ sq_kd P i = 2)) → wY_isFenced_2 post (nI b) f_size f_fences f_storeCount f_loadCount f_listed f_strictListed a_kinds a_threads a_variables a_values a_stores a_loads a_found a_place a_after a_list a_strictList k (nI c) := by
  intro d
  induction d with
  | zero =>
    intro c k e hk hc hn
    obtain ⟨k, rfl⟩ : ∃ m, k = m + 1 := ⟨k - 1, by omega⟩
    obtain rfl : c = b := by omega
    refine br_t (nI_le (Nat.le_refl _) (by omega)) (h0 ?_)
    rintro ⟨i, i1, i2, i3⟩
    exact hn i i1 i2 i3
  | succ d ih =>
    intro c k e hk hc hn
    obtain ⟨k, rfl⟩ : ∃ m, k = m + 1 := ⟨k - 1, by omega⟩
    refine br_f (nI_ge (by omega) (by omega)) ?_
    rw [ef]
    have bt1 := xw_bit (g := g) (k := c) (by omega) (by omega)
    by_cases z : g / 2 ^ c % 2 = 1
    · exact br_t (bt1.mpr z) (h1 ⟨c, hc, by omega, Or.inl (by unfold yw_G; simpa using z)⟩)
    · refine br_f (fun y => z (bt1.mp y)) (And.intro (vp_in_nI (by omega) (by omega)) ?_)
      rw [xw_r c (by omega) rfl (A.2 c (by omega)).1]
      by_cases y : sq_kd P c = 2
      · exact br_t ((xw_k2 (hkd c (by omega))).mpr y) (h1 ⟨c, hc, by omega, Or.inr y⟩)
      · refine br_f (fun q => y ((xw_k2 (hkd c (by omega))).mp q)) (nm_r (nI_1 _) ?_)
        rw [← ef]
        refine ih (c + 1) k (by omega) (by omega) (by omega) (fun i i1 i2 => ?_)
        by_cases q : i = c
        · subst q
          rintro (r | r)
          · unfold yw_G at r; exact z (by simpa using r)
          · exact y r
        · exact hn i i1 (by omega)
theorem yw_isFenced (n6 : n ≤ 6) (A : yw_P P n f_size a_kinds a_threads a_variables a_values) (hkd : ∀ j, j < n → sq_kd P j ≤ 2) {g a b : Nat} (hg : g < 64) (ef : f_fences = nI g) (ab : a ≤ b) (hb : b ≤ n) {post : Int32 → Prop}
    (h1 : (∃ i, a ≤ i ∧ i < b ∧ (yw_G g i = true ∨ sq_kd P i = 2)) → post 1) (h0 : (¬ ∃ i, a ≤ i ∧ i < b ∧ (yw_G g i = true ∨ sq_kd P i = 2)) → post 0) : wpY_isFenced post (f_size, f_fences, f_storeCount, f_loadCount, f_listed, f_strictListed, a_kinds, a_threads, a_variables, a_values, a_stores, a_loads, a_found, a_place, a_after, a_list, a_strictList) (nI a) (nI b) :=
  ⟨b - a + 1, yw_if2 n6 A hkd hg ef hb h1 h0 (b - a) a (b - a + 1) (by omega) (by omega) (Nat.le_refl _) (fun i i1 i2 => by omega)⟩
theorem yw_sr21 (n6 : n ≤ 6) (A : yw_P P n f_size a_kinds a_threads a_variables a_values) (hkd : ∀ j, j < n → sq_kd P j ≤ 2) (hth : ∀ j, j < n → sq_th P j < 4) {g str a : Nat} (hg : g < 64) (ef : f_fences = nI g) (hs : str < 2) (han : a < n) {post : SY → Prop}
    {J2 : Int32 → (Nat → Int32) → (Nat → Int32) → (Nat → Int32) → (Nat → Int32) → (Nat → Int32) → (Nat → Int32) → (Nat → Int32) → (Nat → Int32) → (Nat → Int32) → (Nat → Int32) → (Nat → Int32) → Prop}
    (hJ : ∀ a_after, yw_A (a + 1) (fun x y => y < n ∧ sq_pp P (yw_G g) (str = 1) x y) a_after → J2 (nI (a + 1)) a_kinds a_threads a_variables a_values a_stores a_loads a_found a_place a_after a_list a_strictList) :
    ∀ d b k a_after, b + d = n → d < k → a < b → yw_A (a + 1) (fun x y => y < n ∧ sq_pp P (yw_G g) (str = 1) x y ∧ (x < a ∨ y < b)) a_after → wY_startRelation_21 post J2 (nI str) (nI a) f_size f_fences f_storeCount f_loadCount f_listed f_strictListed k (nI b) a_kinds a_threads a_variables a_values a_stores a_loads a_found a_place a_after a_list a_strictList := by
  have va : vp_in (nI a) 6 := vp_in_nI (by omega) (by omega)
  have cka : a_kinds (nI a).toNatClampNeg = nI (sq_kd P a) := xw_r a (by omega) rfl (A.2 a han).1
  have cta : a_threads (nI a).toNatClampNeg = nI (sq_th P a) := xw_r a (by omega) rfl (A.2 a han).2.1
  have ca : (nI a).toNatClampNeg = a := nI_clamp (by omega)
  intro d
  induction d with
  | zero =>
    intro b k a_after e hk hab I
    obtain ⟨k, rfl⟩ : ∃ m, k = m + 1 := ⟨k - 1, by omega⟩
    obtain rfl : b = n := by omega
    refine br_t (by rw [A.1]; exact nI_le (Nat.le_refl _) (by omega)) (nm_r (nI_1 _) (hJ a_after (yw_A_cg I (fun x y _ _ => ⟨fun z => ⟨z.1, z.2.1⟩, fun z => ⟨z.1, z.2, Or.inr z.1⟩⟩))))
  | succ d ih =>
    intro b k a_after e hk hab I
    obtain ⟨k, rfl⟩ : ∃ m, k = m + 1 := ⟨k - 1, by omega⟩
    have hb : b < n := by omega
    have vb : vp_in (nI b) 6 := vp_in_nI (by omega) (by omega)
    have ckb : a_kinds (nI b).toNatClampNeg = nI (sq_kd P b) := xw_r b (by omega) rfl (A.2 b hb).1
    have ctb : a_threads (nI b).toNatClampNeg = nI (sq_th P b) := xw_r b (by omega) rfl (A.2 b hb).2.1
    have ta := hth a han
    have tb := hth b hb
    -- keeping the row
    have keep : ¬ sq_pp P (yw_G g) (str = 1) a b → yw_A (a + 1) (fun x y => y < n ∧ sq_pp P (yw_G g) (str = 1) x y ∧ (x < a ∨ y < b + 1)) (upd a_after (nI a).toNatClampNeg (a_after (nI a).toNatClampNeg)) := by
      intro np
      rw [yw_upd_id]
      refine yw_A_cg I (fun x y hx hy => ⟨fun z => ⟨z.1, z.2.1, z.2.2.elim Or.inl (fun w => Or.inr (by omega))⟩, fun z => ⟨z.1, z.2.1, ?_⟩⟩)
      rcases z.2.2 with r | r
      · exact Or.inl r
      · by_cases q : y = b
        · subst q
          by_cases q' : x = a
          · subst q'; exact absurd z.2.1 np
          · exact Or.inl (by omega)
        · exact Or.inr (by omega)
    have put : sq_pp P (yw_G g) (str = 1) a b → yw_A (a + 1) (fun x y => y < n ∧ sq_pp P (yw_G g) (str = 1) x y ∧ (x < a ∨ y < b + 1)) (upd a_after (nI a).toNatClampNeg (a_after (nI a).toNatClampNeg ||| ((1 : Int32) <<< (nI b &&& 31)))) := by
      intro pp
      rw [ca]
      refine yw_A_cg (yw_A_set I (a := a) (b := b) (by omega) (by omega)) (fun x y hx hy => ⟨?_, fun z => ?_⟩)
      · rintro (z | ⟨z1, z2⟩)
        · exact ⟨z.1, z.2.1, z.2.2.elim Or.inl (fun w => Or.inr (by omega))⟩
        · subst z1; subst z2; exact ⟨hb, pp, Or.inr (by omega)⟩
      · by_cases q : x = a ∧ y = b
        · exact Or.inr q
        · refine Or.inl ⟨z.1, z.2.1, ?_⟩
          rcases z.2.2 with r | r
          · exact Or.inl r
          · by_cases q' : y = b
            · subst q'
              by_cases q2 : x = a
              · exact absurd ⟨q2, rfl⟩ q
              · exact Or.inl (by omega)
            · exact Or.inr (by omega)
    have join : ∀ z : Nat, z < 2 → (z = 1 ↔ (sq_kd P a = 0 ∧ sq_kd P b = 1 ∧ ¬ str = 1 ∧ ¬ ∃ i, a ≤ i ∧ i < b ∧ (yw_G g i = true ∨ sq_kd P i = 2))) →
        wY_startRelation_66 post J2 (wY_startRelation_21 post J2 (nI str) (nI a) f_size f_fences f_storeCount f_loadCount f_listed f_strictListed k) (nI str) (nI a) (nI b) (nI z) f_size f_fences f_storeCount f_loadCount f_listed f_strictListed a_kinds a_threads a_variables a_values a_stores a_loads a_found a_place a_after a_list a_strictList := by
      intro z hz ez
      refine And.intro va (And.intro vb ?_)
      rw [cta, ctb]
      by_cases c : sq_th P a = sq_th P b
      · refine br_t (congrArg nI c) ?_
        by_cases z0 : z = 0
        · refine br_t (by rw [z0]; exact nI_0) (And.intro va (And.intro va (nm_e (nm_r (nI_1 _) (ih (b + 1) k _ (by omega) (by omega) (by omega) (put ⟨hab, c, fun w => ?_⟩))))))
          have := ez.mpr w
          omega
        · refine br_f (nI_ne0 (by omega) (by omega)) (And.intro va (And.intro va (nm_e (nm_r (nI_1 _) (ih (b + 1) k _ (by omega) (by omega) (by omega) (keep (fun w => w.2.2 (ez.mp (by omega)))))))))
      · exact br_f (fun w => c ((nI_eq (by omega) (by omega)).mp w)) (And.intro va (And.intro va (nm_e (nm_r (nI_1 _) (ih (b + 1) k _ (by omega) (by omega) (by omega) (keep (fun w => c w.2.1)))))))
    have no : ¬ (sq_kd P a = 0 ∧ sq_kd P b = 1 ∧ ¬ str = 1 ∧ ¬ ∃ i, a ≤ i ∧ i < b ∧ (yw_G g i = true ∨ sq_kd P i = 2)) → wY_startRelation_65 post J2 (wY_startRelation_21 post J2 (nI str) (nI a) f_size f_fences f_storeCount f_loadCount f_listed f_strictListed k) (nI str) (nI a) (nI b) f_size f_fences f_storeCount f_loadCount f_listed f_strictListed a_kinds a_threads a_variables a_values a_stores a_loads a_found a_place a_after a_list a_strictList :=
      fun w => join 0 (by omega) ⟨fun z => by omega, fun z => absurd z w⟩
    refine br_f (by rw [A.1]; exact nI_ge (by omega) (by omega)) (And.intro va ?_)
    rw [cka]
    by_cases k0 : sq_kd P a = 0
    · refine br_t ((xw_k0 (hkd a han)).mpr k0) (And.intro vb ?_)
      rw [ckb]
      by_cases k1 : sq_kd P b = 1
      · refine br_t ((xw_k1 (hkd b hb)).mpr k1) ?_
        by_cases s0 : str = 0
        · refine br_t (by rw [s0]; exact nI_0) ?_
          refine yw_isFenced n6 A hkd hg ef (by omega) (by omega) (fun w => br_f (by decide) (no (fun z => z.2.2.2 w))) (fun w => br_t rfl ?_)
          exact join 1 (by omega) ⟨fun _ => ⟨k0, k1, by omega, w⟩, fun _ => rfl⟩
        · exact br_f (nI_ne0 (by omega) (by omega)) (no (fun z => z.2.2.1 (by omega)))
      · exact br_f (fun w => k1 ((xw_k1 (hkd b hb)).mp w)) (no (fun z => k1 z.2.1))
    · exact br_f (fun w => k0 ((xw_k0 (hkd a han)).mp w)) (no (fun z => k0 z.1))
theorem yw_sr2 (n6 : n ≤ 6) (A : yw_P P n f_size a_kinds a_threads a_variables a_values) (hkd : ∀ j, j < n → sq_kd P j ≤ 2) (hth : ∀ j, j < n → sq_th P j < 4) {g str : Nat} (hg : g < 64) (ef : f_fences = nI g) (hs : str < 2) {post : SY → Prop}
    (h : ∀ a_after, yw_A n (fun x y => y < n ∧ sq_pp P (yw_G g) (str = 1) x y) a_after → post (f_size, f_fences, f_storeCount, f_loadCount, f_listed, f_strictListed, a_kinds, a_threads, a_variables, a_values, a_stores, a_loads, a_found, a_place, a_after, a_list, a_strictList)) :
    ∀ d a k a_after, a + d = n → d < k → yw_A a (fun x y => y < n ∧ sq_pp P (yw_G g) (str = 1) x y) a_after → wY_startRelation_2 post (nI str) f_size f_fences f_storeCount f_loadCount f_listed f_strictListed k (nI a) a_kinds a_threads a_variables a_values a_stores a_loads a_found a_place a_after a_list a_strictList := by
  intro d
  induction d with
  | zero =>
    intro a k a_after e hk I
    obtain ⟨k, rfl⟩ : ∃ m, k = m + 1 := ⟨k - 1, by omega⟩
    obtain rfl : a = n := by omega
    exact br_t (by rw [A.1]; exact nI_le (Nat.le_refl _) (by omega)) (h a_after I)
  | succ d ih =>
    intro a k a_after e hk I
    obtain ⟨k, rfl⟩ : ∃ m, k = m + 1 := ⟨k - 1, by omega⟩
    have han : a < n := by omega
    refine br_f (by rw [A.1]; exact nI_ge (by omega) (by omega)) (And.intro (vp_in_nI (by omega) (by omega)) (nm_e (nm_r (nI_1 _) ?_)))
    rw [nI_clamp (n := a) (by omega)]
    refine ⟨n - (a + 1) + 1, yw_sr21 n6 A hkd hth hg ef hs han (fun a_after I' => ih (a + 1) k a_after (by omega) (by omega) I') (n - (a + 1)) (a + 1) (n - (a + 1) + 1) _ (by omega) (by omega) (by omega) ?_⟩
    refine yw_A_cg (yw_A_0 I) (fun x y hx hy => ⟨fun z => ⟨z.2.1, z.2.2, Or.inl z.1⟩, fun z => ⟨?_, z.1, z.2.1⟩⟩)
    rcases z.2.2 with r | r
    · exact r
    · have := z.2.1.1; omega
theorem yw_startRelation (n6 : n ≤ 6) (A : yw_P P n f_size a_kinds a_threads a_variables a_values) (hkd : ∀ j, j < n → sq_kd P j ≤ 2) (hth : ∀ j, j < n → sq_th P j < 4) {g str : Nat} (hg : g < 64) (ef : f_fences = nI g) (hs : str < 2) {post : SY → Prop}
    (h : ∀ a_after, yw_A n (fun x y => y < n ∧ sq_pp P (yw_G g) (str = 1) x y) a_after → post (f_size, f_fences, f_storeCount, f_loadCount, f_listed, f_strictListed, a_kinds, a_threads, a_variables, a_values, a_stores, a_loads, a_found, a_place, a_after, a_list, a_strictList)) : wpY_startRelation post (f_size, f_fences, f_storeCount, f_loadCount, f_listed, f_strictListed, a_kinds, a_threads, a_variables, a_values, a_stores, a_loads, a_found, a_place, a_after, a_list, a_strictList) (nI str) :=
  ⟨n + 1, yw_sr2 n6 A hkd hth hg ef hs h n 0 (n + 1) a_after (by omega) (by omega) (fun a ha => by omega)⟩
end
end
section
/-! Y: a choice; orderStores, mayFind, relateLoad -/
def yw_C (P : sq_PG) (n : Nat) (pl fo : Nat → Nat) (a_place a_found : Nat → Int32) : Prop :=
  (∀ s, s < sy_cn P 0 n → a_place s = nI (pl s) ∧ pl s < 6) ∧ ∀ k, k < sq_ln P n → a_found k = nI (fo k) - 1 ∧ fo k ≤ sy_cn P 0 n
def sy_Pl (P : sq_PG) (pl : Nat → Nat) (j : Nat) : Nat := pl (sy_cn P 0 j)
def sy_op (P : sq_PG) (n : Nat) : Nat → Option Nat
  | 0 => none
  | s + 1 => some (sy_at P 0 n s)
def sy_F (P : sq_PG) (n : Nat) (fo : Nat → Nat) (l : Nat) : Option Nat := sy_op P n (fo (sq_ln P l))
def sy_co (P : sq_PG) (n : Nat) (Pl : Nat → Nat) (a b : Nat) : Prop := a < n ∧ b < n ∧ sq_kd P a = 0 ∧ sq_kd P b = 0 ∧ sq_vr P a = sq_vr P b ∧ Pl a < Pl b
def sq_mf1 (P : sq_PG) (n : Nat) (Pl : Nat → Nat) (F : Nat → Option Nat) (l : Nat) : Prop :=
  (F l = none → sq_own P (sq_th P l) (sq_vr P l) l = none) ∧
    (∀ s, F l = some s → s < n ∧ sq_kd P s = 0 ∧ sq_vr P s = sq_vr P l ∧ ¬ (sq_th P s = sq_th P l ∧ l < s) ∧ ∀ o, sq_own P (sq_th P l) (sq_vr P l) l = some o → Pl o ≤ Pl s)
theorem yw_neg : ((nI 0 : Int32) - 1 < 0) ∧ (nI 0 : Int32) - 1 = -1 := by decide
section
variable {f_size f_fences f_storeCount f_loadCount f_listed f_strictListed : Int32} {a_kinds a_threads a_variables a_values a_stores a_loads a_found a_place a_after a_list a_strictList : Nat → Int32}
variable {P : sq_PG} {n : Nat}
theorem yw_st (S : yw_S P n f_storeCount f_loadCount a_stores a_loads) (ok : sq_ok P n) {s : Nat} (hs : s < sy_cn P 0 n) : a_stores (nI s).toNatClampNeg = nI (sy_at P 0 n s) ∧ sy_at P 0 n s < n ∧ sq_kd P (sy_at P 0 n s) = 0 ∧ sy_cn P 0 (sy_at P 0 n s) = s ∧ vp_in (nI s) 6 ∧ vp_in (nI (sy_at P 0 n s)) 6 ∧ (nI (sy_at P 0 n s)).toNatClampNeg = sy_at P 0 n s := by
  have n6 := ok.1
  have c6 := sy_cn_le P 0 n
  obtain ⟨q1, q2, q3⟩ := sy_at_p (P := P) (k := 0) (s := s) (n := n) hs
  exact ⟨xw_r s (by omega) rfl (S.2.2.1 s hs), q1, q2, q3, vp_in_nI (by omega) (by omega), vp_in_nI (by omega) (by omega), nI_clamp (by omega)⟩
theorem yw_os12 (ok : sq_ok P n) (A : yw_P P n f_size a_kinds a_threads a_variables a_values) (S : yw_S P n f_storeCount f_loadCount a_stores a_loads) {pl fo : Nat → Nat} (C : yw_C P n pl fo a_place a_found) {R : Nat → Nat → Prop} {s : Nat} (hs : s < sy_cn P 0 n) {post : SY → Prop}
    {J2 : Int32 → (Nat → Int32) → (Nat → Int32) → (Nat → Int32) → (Nat → Int32) → (Nat → Int32) → (Nat → Int32) → (Nat → Int32) → (Nat → Int32) → (Nat → Int32) → (Nat → Int32) → (Nat → Int32) → Prop}
    (hJ : ∀ a_after, yw_A n (fun x y => R x y ∨ (sy_co P n (sy_Pl P pl) x y ∧ sy_cn P 0 x < s + 1)) a_after → J2 (nI (s + 1)) a_kinds a_threads a_variables a_values a_stores a_loads a_found a_place a_after a_list a_strictList) :
    ∀ d t k a_after, t + d = sy_cn P 0 n → d < k → yw_A n (fun x y => R x y ∨ (sy_co P n (sy_Pl P pl) x y ∧ (sy_cn P 0 x < s ∨ (sy_cn P 0 x = s ∧ sy_cn P 0 y < t)))) a_after → wY_orderStores_12 post J2 (nI s) f_size f_fences f_storeCount f_loadCount f_listed f_strictListed k (nI t) a_kinds a_threads a_variables a_values a_stores a_loads a_found a_place a_after a_list a_strictList := by
  have n6 := ok.1
  have c6 := sy_cn_le P 0 n
  obtain ⟨s1, s2, s3, s4, s5, s6, s7⟩ := yw_st (P := P) (n := n) S ok hs
  intro d
  induction d with
  | zero =>
    intro t k a_after e hk I
    obtain ⟨k, rfl⟩ : ∃ m, k = m + 1 := ⟨k - 1, by omega⟩
    obtain rfl : t = sy_cn P 0 n := by omega
    refine br_t (by rw [S.1]; exact nI_le (Nat.le_refl _) (by omega)) (nm_r (nI_1 _) (hJ a_after (yw_A_cg I (fun x y hx hy => ⟨?_, ?_⟩))))
    · rintro (z | ⟨z1, z2⟩)
      · exact Or.inl z
      · exact Or.inr ⟨z1, by omega⟩
    · rintro (z | ⟨z1, z2⟩)
      · exact Or.inl z
      · have := sy_cn_lt z1.2.2.2.1 z1.2.1
        exact Or.inr ⟨z1, by omega⟩
  | succ d ih =>
    intro t k a_after e hk I
    obtain ⟨k, rfl⟩ : ∃ m, k = m + 1 := ⟨k - 1, by omega⟩
    have ht : t < sy_cn P 0 n := by omega
    obtain ⟨t1, t2, t3, t4, t5, t6, t7⟩ := yw_st (P := P) (n := n) S ok ht
    have p1 : a_place (nI s).toNatClampNeg = nI (pl s) := xw_r s (by omega) rfl (C.1 s hs).1
    have p2 : a_place (nI t).toNatClampNeg = nI (pl t) := xw_r t (by omega) rfl (C.1 t ht).1
    have p3 := (C.1 s hs).2
    have p4 := (C.1 t ht).2
    have v1 : a_variables (nI (sy_at P 0 n s)).toNatClampNeg = nI (sq_vr P (sy_at P 0 n s)) := xw_r _ (by omega) rfl (A.2 _ s2).2.2.1
    have v2 : a_variables (nI (sy_at P 0 n t)).toNatClampNeg = nI (sq_vr P (sy_at P 0 n t)) := xw_r _ (by omega) rfl (A.2 _ t2).2.2.1
    have v3 := (ok.2.1 _ s2).2.2.1
    have v4 := (ok.2.1 _ t2).2.2.1
    -- the pair (s, t)
    have pair : ∀ x y, sy_co P n (sy_Pl P pl) x y → sy_cn P 0 x = s → sy_cn P 0 y = t → x = sy_at P 0 n s ∧ y = sy_at P 0 n t := by
      intro x y z e1 e2
      exact ⟨sy_cn_inj z.2.2.1 s3 (e1.trans s4.symm), sy_cn_inj z.2.2.2.1 t3 (e2.trans t4.symm)⟩
    have keep : ¬ sy_co P n (sy_Pl P pl) (sy_at P 0 n s) (sy_at P 0 n t) → yw_A n (fun x y => R x y ∨ (sy_co P n (sy_Pl P pl) x y ∧ (sy_cn P 0 x < s ∨ (sy_cn P 0 x = s ∧ sy_cn P 0 y < t + 1)))) a_after := by
      intro np
      refine yw_A_cg I (fun x y hx hy => ⟨?_, ?_⟩)
      · rintro (z | ⟨z1, z2⟩)
        · exact Or.inl z
        · exact Or.inr ⟨z1, by omega⟩
      · rintro (z | ⟨z1, z2⟩)
        · exact Or.inl z
        · by_cases q : sy_cn P 0 x = s ∧ sy_cn P 0 y = t
          · obtain ⟨q1, q2⟩ := pair x y z1 q.1 q.2
            subst q1; subst q2; exact absurd z1 np
          · exact Or.inr ⟨z1, by omega⟩
    have e103 : ¬ sy_co P n (sy_Pl P pl) (sy_at P 0 n s) (sy_at P 0 n t) → wY_orderStores_103 post J2 (wY_orderStores_12 post J2 (nI s) f_size f_fences f_storeCount f_loadCount f_listed f_strictListed k) (nI s) (nI t) (nI (sy_at P 0 n s)) f_size f_fences f_storeCount f_loadCount f_listed f_strictListed a_kinds a_threads a_variables a_values a_stores a_loads a_found a_place a_after a_list a_strictList := by
      intro np
      refine And.intro s5 ?_
      rw [s1]
      refine And.intro s6 (And.intro s6 (nm_r (yw_upd_id _ _) (nm_r (nI_1 _) ?_)))
      exact ih (t + 1) k _ (by omega) (by omega) (keep np)
    refine br_f (by rw [S.1]; exact nI_ge (by omega) (by omega)) (And.intro s5 ?_)
    rw [s1]
    refine And.intro s6 (And.intro t5 ?_)
    rw [t1]
    refine And.intro t6 ?_
    rw [v1, v2]
    by_cases c : sq_vr P (sy_at P 0 n s) = sq_vr P (sy_at P 0 n t)
    · refine br_t (congrArg nI c) (And.intro s5 (br_f (by decide) (And.intro s5 (And.intro t5 ?_))))
      rw [p1, p2, s1]
      by_cases q : pl t ≤ pl s
      · refine br_t (nI_le q (by omega)) (e103 (fun z => ?_))
        have := z.2.2.2.2.2
        unfold sy_Pl at this
        rw [s4, t4] at this
        omega
      · refine br_f (nI_ge (by omega) (by omega)) (And.intro s5 ?_)
        refine And.intro s6 (And.intro t5 (And.intro s6 (nm_e (nm_r (nI_1 _) ?_))))
        rw [t1, s7]
        refine ih (t + 1) k _ (by omega) (by omega) (yw_A_cg (yw_A_set I s2 (by omega : sy_at P 0 n t < 6)) (fun x y hx hy => ⟨?_, ?_⟩))
        · rintro ((z | ⟨z1, z2⟩) | ⟨z1, z2⟩)
          · exact Or.inl z
          · exact Or.inr ⟨z1, by omega⟩
          · subst z1; subst z2
            refine Or.inr ⟨⟨s2, t2, s3, t3, c, ?_⟩, by omega⟩
            unfold sy_Pl; rw [s4, t4]; omega
        · rintro (z | ⟨z1, z2⟩)
          · exact Or.inl (Or.inl z)
          · by_cases y' : sy_cn P 0 x = s ∧ sy_cn P 0 y = t
            · exact Or.inr (pair x y z1 y'.1 y'.2)
            · exact Or.inl (Or.inr ⟨z1, by omega⟩)
    · refine br_f (fun z => c ((nI_eq (by omega) (by omega)).mp z)) (And.intro s5 ?_)
      rw [s1]
      exact br_t rfl (e103 (fun z => c z.2.2.2.2.1))
theorem yw_os2 (ok : sq_ok P n) (A : yw_P P n f_size a_kinds a_threads a_variables a_values) (S : yw_S P n f_storeCount f_loadCount a_stores a_loads) {pl fo : Nat → Nat} (C : yw_C P n pl fo a_place a_found) {R : Nat → Nat → Prop} {post : SY → Prop}
    (h : ∀ a_after, yw_A n (fun x y => R x y ∨ sy_co P n (sy_Pl P pl) x y) a_after → post (f_size, f_fences, f_storeCount, f_loadCount, f_listed, f_strictListed, a_kinds, a_threads, a_variables, a_values, a_stores, a_loads, a_found, a_place, a_after, a_list, a_strictList)) :
    ∀ d s k a_after, s + d = sy_cn P 0 n → d < k → yw_A n (fun x y => R x y ∨ (sy_co P n (sy_Pl P pl) x y ∧ sy_cn P 0 x < s)) a_after → wY_orderStores_2 post f_size f_fences f_storeCount f_loadCount f_listed f_strictListed k (nI s) a_kinds a_threads a_variables a_values a_stores a_loads a_found a_place a_after a_list a_strictList := by
  have n6 := ok.1
  have c6 := sy_cn_le P 0 n
  intro d
  induction d with
  | zero =>
    intro s k a_after e hk I
    obtain ⟨k, rfl⟩ : ∃ m, k = m + 1 := ⟨k - 1, by omega⟩
    obtain rfl : s = sy_cn P 0 n := by omega
    refine br_t (by rw [S.1]; exact nI_le (Nat.le_refl _) (by omega)) (h a_after (yw_A_cg I (fun x y hx hy => ⟨?_, ?_⟩)))
    · rintro (z | ⟨z1, z2⟩)
      · exact Or.inl z
      · exact Or.inr z1
    · rintro (z | z1)
      · exact Or.inl z
      · exact Or.inr ⟨z1, sy_cn_lt z1.2.2.1 z1.1⟩
  | succ d ih =>
    intro s k a_after e hk I
    obtain ⟨k, rfl⟩ : ∃ m, k = m + 1 := ⟨k - 1, by omega⟩
    refine br_f (by rw [S.1]; exact nI_ge (by omega) (by omega)) ?_
    refine ⟨sy_cn P 0 n + 1, yw_os12 ok A S C (by omega) (fun a_after I' => ih (s + 1) k a_after (by omega) (by omega) I') (sy_cn P 0 n) 0 (sy_cn P 0 n + 1) _ (by omega) (by omega) (yw_A_cg I (fun x y hx hy => ⟨?_, ?_⟩))⟩
    · rintro (z | ⟨z1, z2⟩)
      · exact Or.inl z
      · exact Or.inr ⟨z1, Or.inl z2⟩
    · rintro (z | ⟨z1, z2⟩)
      · exact Or.inl z
      · exact Or.inr ⟨z1, by omega⟩
theorem yw_orderStores (ok : sq_ok P n) (A : yw_P P n f_size a_kinds a_threads a_variables a_values) (S : yw_S P n f_storeCount f_loadCount a_stores a_loads) {pl fo : Nat → Nat} (C : yw_C P n pl fo a_place a_found) {R : Nat → Nat → Prop} (I : yw_A n R a_after) {post : SY → Prop}
    (h : ∀ a_after, yw_A n (fun x y => R x y ∨ sy_co P n (sy_Pl P pl) x y) a_after → post (f_size, f_fences, f_storeCount, f_loadCount, f_listed, f_strictListed, a_kinds, a_threads, a_variables, a_values, a_stores, a_loads, a_found, a_place, a_after, a_list, a_strictList)) : wpY_orderStores post (f_size, f_fences, f_storeCount, f_loadCount, f_listed, f_strictListed, a_kinds, a_threads, a_variables, a_values, a_stores, a_loads, a_found, a_place, a_after, a_list, a_strictList) :=
  ⟨sy_cn P 0 n + 1, yw_os2 ok A S C h (sy_cn P 0 n) 0 (sy_cn P 0 n + 1) a_after (by omega) (by omega) (yw_A_cg I (fun x y hx hy => ⟨Or.inl, fun z => z.elim id (fun w => by omega)⟩))⟩
/-- the own store seen so far, by its number -/
def sy_ow (P : sq_PG) (n l i : Nat) (x : Int32) : Prop :=
  (x = -1 ∧ ∀ s, s < i → ¬ (sq_th P (sy_at P 0 n s) = sq_th P l ∧ sy_at P 0 n s < l ∧ sq_vr P (sy_at P 0 n s) = sq_vr P l)) ∨
  ∃ s, s < i ∧ (sq_th P (sy_at P 0 n s) = sq_th P l ∧ sy_at P 0 n s < l ∧ sq_vr P (sy_at P 0 n s) = sq_vr P l) ∧ x = nI s ∧ ∀ s', s' < i → (sq_th P (sy_at P 0 n s') = sq_th P l ∧ sy_at P 0 n s' < l ∧ sq_vr P (sy_at P 0 n s') = sq_vr P l) → s' ≤ s
theorem sy_ow_end {l : Nat} (hl : l < n) {x : Int32} (h : sy_ow P n l (sy_cn P 0 n) x) : (x = -1 ∧ sq_own P (sq_th P l) (sq_vr P l) l = none) ∨ ∃ s, s < sy_cn P 0 n ∧ x = nI s ∧ sq_own P (sq_th P l) (sq_vr P l) l = some (sy_at P 0 n s) := by
  rcases h with ⟨h1, h2⟩ | ⟨s, h1, h2, h3, h4⟩
  · refine Or.inl ⟨h1, ?_⟩
    cases e : sq_own P (sq_th P l) (sq_vr P l) l with
    | none => rfl
    | some o =>
      exfalso
      obtain ⟨o1, o2, o3, o4, _⟩ := sq_own_some e
      have := h2 (sy_cn P 0 o) (sy_cn_lt o3 (by omega))
      rw [sy_at_cn (by omega) o3] at this
      exact this ⟨o2, o1, o4⟩
  · refine Or.inr ⟨s, h1, h3, ?_⟩
    obtain ⟨q1, q2, q3⟩ := sy_at_p (P := P) (k := 0) (s := s) (n := n) h1
    cases e : sq_own P (sq_th P l) (sq_vr P l) l with
    | none => exact absurd ⟨h2.1, q2, h2.2.2⟩ (sq_own_none e _ h2.2.1)
    | some o =>
      obtain ⟨o1, o2, o3, o4, o5⟩ := sq_own_some e
      have a := h4 (sy_cn P 0 o) (sy_cn_lt o3 (by omega)) (by rw [sy_at_cn (by omega) o3]; exact ⟨o2, o1, o4⟩)
      have b := o5 _ h2.2.1 h2.1 q2 h2.2.2
      have c := sy_cn_mono (P := P) (k := 0) b
      rw [q3] at c
      exact congrArg some (sy_cn_inj o3 q2 (by omega))
theorem yw_mf12 (ok : sq_ok P n) (A : yw_P P n f_size a_kinds a_threads a_variables a_values) (S : yw_S P n f_storeCount f_loadCount a_stores a_loads) {pl fo : Nat → Nat} (C : yw_C P n pl fo a_place a_found) {q l : Nat} (hq : q < sq_ln P n) (el : sy_at P 1 n q = l) {post : Int32 → Prop}
    (h1 : sq_mf1 P n (sy_Pl P pl) (sy_F P n fo) l → post 1) (h0 : ¬ sq_mf1 P n (sy_Pl P pl) (sy_F P n fo) l → post 0) :
    ∀ d s k x, s + d = sy_cn P 0 n → d < k → sy_ow P n l s x → wY_mayFind_12 post (nI q) (nI l) f_size f_fences f_storeCount f_loadCount f_listed f_strictListed a_kinds a_threads a_variables a_values a_stores a_loads a_found a_place a_after a_list a_strictList k x (nI s) := by
  have n6 := ok.1
  have c6 := sy_cn_le P 0 n
  have l6 := sq_ln_le P n
  have hq1 := hq
  rw [← sy_ln] at hq1
  obtain ⟨ql1, ql2, ql3⟩ := sy_at_p (P := P) (k := 1) (s := q) (n := n) hq1
  rw [el] at ql1 ql2 ql3
  rw [sy_ln] at ql3
  have vl : vp_in (nI l) 6 := vp_in_nI (by omega) (by omega)
  have vq : vp_in (nI q) 6 := vp_in_nI (by omega) (by omega)
  have tl : a_threads (nI l).toNatClampNeg = nI (sq_th P l) := xw_r l (by omega) rfl (A.2 l ql1).2.1
  have xl : a_variables (nI l).toNatClampNeg = nI (sq_vr P l) := xw_r l (by omega) rfl (A.2 l ql1).2.2.1
  have ol := ok.2.1 l ql1
  intro d
  induction d with
  | zero =>
    intro s k x e hk I
    obtain ⟨k, rfl⟩ : ∃ m, k = m + 1 := ⟨k - 1, by omega⟩
    obtain rfl : s = sy_cn P 0 n := by omega
    have I' := sy_ow_end ql1 I
    obtain ⟨f1, f2⟩ := C.2 q hq
    refine br_t (by rw [S.1]; exact nI_le (Nat.le_refl _) (by omega)) (And.intro vq (nm_r (xw_r q (by omega) rfl f1) ?_))
    have eF : sy_F P n fo l = sy_op P n (fo q) := by unfold sy_F; rw [ql3]
    cases ef : fo q with
    | zero =>
      rw [ef] at eF
      refine br_f (Int32.not_le.mpr yw_neg.1) ?_
      rcases I' with ⟨z1, z2⟩ | ⟨s, z1, z2, z3⟩
      · exact br_f (by rw [z1]; decide) (h1 ⟨fun _ => z2, fun s hs => by rw [eF] at hs; cases hs⟩)
      · refine br_t (by rw [z2]; exact nI_pos' (by omega)) (h0 (fun w => ?_))
        have := w.1 eF
        rw [z3] at this
        cases this
    | succ s =>
      rw [ef] at eF f2
      rw [nI_pred]
      have hs : s < sy_cn P 0 n := by omega
      obtain ⟨s1, s2, s3, s4, s5, s6, s7⟩ := yw_st (P := P) (n := n) S ok hs
      have ts : a_threads (nI (sy_at P 0 n s)).toNatClampNeg = nI (sq_th P (sy_at P 0 n s)) := xw_r _ (by omega) rfl (A.2 _ s2).2.1
      have xs : a_variables (nI (sy_at P 0 n s)).toNatClampNeg = nI (sq_vr P (sy_at P 0 n s)) := xw_r _ (by omega) rfl (A.2 _ s2).2.2.1
      have os := ok.2.1 _ s2
      have eF' : sy_F P n fo l = some (sy_at P 0 n s) := eF
      -- the end, with 'later' known
      have fin : ∀ z : Nat, z < 2 → (z = 1 ↔ (sq_th P (sy_at P 0 n s) = sq_th P l ∧ l < sy_at P 0 n s)) → wY_mayFind_159 post (nI l) x (nI s) (nI z) f_size f_fences f_storeCount f_loadCount f_listed f_strictListed a_kinds a_threads a_variables a_values a_stores a_loads a_found a_place a_after a_list a_strictList := by
        intro z hz ez
        refine And.intro s5 ?_
        rw [s1]
        refine And.intro s6 (And.intro vl ?_)
        rw [xs, xl]
        by_cases c : sq_vr P (sy_at P 0 n s) = sq_vr P l
        · refine br_t (congrArg nI c) ?_
          by_cases z0 : z = 0
          · refine br_t (by rw [z0]; exact nI_0) ?_
            have nl : ¬ (sq_th P (sy_at P 0 n s) = sq_th P l ∧ l < sy_at P 0 n s) := fun w => by have := ez.mpr w; omega
            rcases I' with ⟨z1, z2⟩ | ⟨o, z1, z2, z3⟩
            · refine br_t (by rw [z1]; decide) (h1 ⟨fun w => (by rw [eF'] at w; cases w), fun s' hs' => ?_⟩)
              rw [eF'] at hs'
              cases hs'
              exact ⟨s2, s3, c, nl, fun o ho => by rw [z2] at ho; cases ho⟩
            · obtain ⟨o1, o2, o3, o4, o5, o6, o7⟩ := yw_st (P := P) (n := n) S ok z1
              have p1 := C.1 s hs
              have p2 := C.1 o z1
              refine br_f (by rw [z2]; exact nI_pos (by omega)) (And.intro s5 (And.intro (by rw [z2]; exact o5) ?_))
              rw [z2, xw_r s (by omega) rfl p1.1, xw_r o (by omega) rfl p2.1]
              have eP : sy_Pl P pl (sy_at P 0 n s) = pl s := by unfold sy_Pl; rw [s4]
              have eO : sy_Pl P pl (sy_at P 0 n o) = pl o := by unfold sy_Pl; rw [o4]
              by_cases y : pl s < pl o
              · refine br_t (nI_lt y (by omega)) (h0 (fun w => ?_))
                have := (w.2 _ eF').2.2.2.2 _ z3
                rw [eP, eO] at this
                omega
              · refine br_f (nI_nlt (by omega) (by omega)) (h1 ⟨fun w => (by rw [eF'] at w; cases w), fun s' hs' => ?_⟩)
                rw [eF'] at hs'
                cases hs'
                refine ⟨s2, s3, c, nl, fun o' ho' => ?_⟩
                rw [z3] at ho'
                cases ho'
                rw [eP, eO]; omega
          · refine br_f (nI_ne0 (by omega) (by omega)) (h0 (fun w => (w.2 _ eF').2.2.2.1 (ez.mp (by omega))))
        · exact br_f (fun w => c ((nI_eq (by omega) (by omega)).mp w)) (h0 (fun w => c (w.2 _ eF').2.2.1))
      refine br_t (nI_pos' (by omega)) (And.intro s5 ?_)
      rw [s1]
      refine And.intro s6 (And.intro vl ?_)
      rw [ts, tl]
      by_cases c : sq_th P (sy_at P 0 n s) = sq_th P l
      · refine br_t (congrArg nI c) (And.intro s5 ?_)
        by_cases y : sy_at P 0 n s ≤ l
        · exact br_t (nI_le y (by omega)) (fin 0 (by omega) ⟨fun w => by omega, fun w => by omega⟩)
        · exact br_f (nI_ge (by omega) (by omega)) (fin 1 (by omega) ⟨fun _ => ⟨c, by omega⟩, fun _ => rfl⟩)
      · exact br_f (fun w => c ((nI_eq (by omega) (by omega)).mp w)) (fin 0 (by omega) ⟨fun w => by omega, fun w => absurd w.1 c⟩)
  | succ d ih =>
    intro s k x e hk I
    obtain ⟨k, rfl⟩ : ∃ m, k = m + 1 := ⟨k - 1, by omega⟩
    have hs : s < sy_cn P 0 n := by omega
    obtain ⟨s1, s2, s3, s4, s5, s6, s7⟩ := yw_st (P := P) (n := n) S ok hs
    have ts : a_threads (nI (sy_at P 0 n s)).toNatClampNeg = nI (sq_th P (sy_at P 0 n s)) := xw_r _ (by omega) rfl (A.2 _ s2).2.1
    have xs : a_variables (nI (sy_at P 0 n s)).toNatClampNeg = nI (sq_vr P (sy_at P 0 n s)) := xw_r _ (by omega) rfl (A.2 _ s2).2.2.1
    have os := ok.2.1 _ s2
    have no : ¬ (sq_th P (sy_at P 0 n s) = sq_th P l ∧ sy_at P 0 n s < l ∧ sq_vr P (sy_at P 0 n s) = sq_vr P l) → wY_mayFind_78 post (wY_mayFind_12 post (nI q) (nI l) f_size f_fences f_storeCount f_loadCount f_listed f_strictListed a_kinds a_threads a_variables a_values a_stores a_loads a_found a_place a_after a_list a_strictList k) (nI q) (nI l) x (nI s) f_size f_fences f_storeCount f_loadCount f_listed f_strictListed a_kinds a_threads a_variables a_values a_stores a_loads a_found a_place a_after a_list a_strictList := by
      intro w
      refine br_t rfl (nm_r (nI_1 _) (ih (s + 1) k x (by omega) (by omega) ?_))
      rcases I with ⟨z1, z2⟩ | ⟨o, z1, z2, z3, z4⟩
      · refine Or.inl ⟨z1, fun s' hs' => ?_⟩
        by_cases y : s' = s
        · subst y; exact w
        · exact z2 s' (by omega)
      · refine Or.inr ⟨o, by omega, z2, z3, fun s' hs' c => ?_⟩
        by_cases y : s' = s
        · subst y; exact absurd c w
        · exact z4 s' (by omega) c
    refine br_f (by rw [S.1]; exact nI_ge (by omega) (by omega)) (And.intro s5 ?_)
    rw [s1]
    refine And.intro s6 (And.intro vl ?_)
    rw [ts, tl]
    by_cases c : sq_th P (sy_at P 0 n s) = sq_th P l
    · refine br_t (congrArg nI c) (And.intro s5 ?_)
      by_cases y : l ≤ sy_at P 0 n s
      · exact br_t (nI_le y (by omega)) (no (fun w => by omega))
      · refine br_f (nI_ge (by omega) (by omega)) (And.intro s5 (And.intro s6 (And.intro vl ?_)))
        rw [xs, xl]
        by_cases z : sq_vr P (sy_at P 0 n s) = sq_vr P l
        · refine br_t (congrArg nI z) (br_f (by decide) (nm_r (nI_1 _) (ih (s + 1) k (nI s) (by omega) (by omega) (Or.inr ⟨s, by omega, ⟨c, by omega, z⟩, rfl, fun s' hs' _ => by omega⟩))))
        · exact br_f (fun w => z ((nI_eq (by omega) (by omega)).mp w)) (no (fun w => z w.2.2))
    · exact br_f (fun w => c ((nI_eq (by omega) (by omega)).mp w)) (no (fun w => c w.1))
theorem yw_mayFind (ok : sq_ok P n) (A : yw_P P n f_size a_kinds a_threads a_variables a_values) (S : yw_S P n f_storeCount f_loadCount a_stores a_loads) {pl fo : Nat → Nat} (C : yw_C P n pl fo a_place a_found) {q : Nat} (hq : q < sq_ln P n) {post : Int32 → Prop}
    (h1 : sq_mf1 P n (sy_Pl P pl) (sy_F P n fo) (sy_at P 1 n q) → post 1) (h0 : ¬ sq_mf1 P n (sy_Pl P pl) (sy_F P n fo) (sy_at P 1 n q) → post 0) : wpY_mayFind post (f_size, f_fences, f_storeCount, f_loadCount, f_listed, f_strictListed, a_kinds, a_threads, a_variables, a_values, a_stores, a_loads, a_found, a_place, a_after, a_list, a_strictList) (nI q) := by
  have n6 := ok.1
  have l6 := sq_ln_le P n
  refine And.intro (vp_in_nI (by omega) (by omega)) (nm_r (xw_r q (by omega) rfl (S.2.2.2 q hq)) ⟨sy_cn P 0 n + 1, ?_⟩)
  exact yw_mf12 ok A S C hq rfl h1 h0 (sy_cn P 0 n) 0 (sy_cn P 0 n + 1) (-1) (by omega) (by omega) (Or.inl ⟨rfl, fun s hs => by omega⟩)
end
end
section
/-! Y: relateLoad, hasRing, isAllowed -/
def sy_fr (P : sq_PG) (n : Nat) (Pl : Nat → Nat) (F : Nat → Option Nat) (l x y : Nat) : Prop := x = l ∧ y < n ∧ sq_kd P y = 0 ∧ sq_vr P l = sq_vr P y ∧ ∀ s, F l = some s → Pl s < Pl y
def sy_rf (P : sq_PG) (F : Nat → Option Nat) (str : Prop) (l x y : Nat) : Prop := y = l ∧ F l = some x ∧ (str ∨ sq_th P x ≠ sq_th P l)
theorem yw_tb (m k : Nat) : m / 2 ^ k % 2 = 1 ↔ m.testBit k = true := by
  rw [Nat.testBit_eq_decide_div_mod_eq]; simp
section
variable {f_size f_fences f_storeCount f_loadCount f_listed f_strictListed : Int32} {a_kinds a_threads a_variables a_values a_stores a_loads a_found a_place a_after a_list a_strictList : Nat → Int32}
variable {P : sq_PG} {n : Nat}
theorem yw_rl76 (ok : sq_ok P n) (A : yw_P P n f_size a_kinds a_threads a_variables a_values) (S : yw_S P n f_storeCount f_loadCount a_stores a_loads) {pl fo : Nat → Nat} (C : yw_C P n pl fo a_place a_found) {R : Nat → Nat → Prop} {q l : Nat} (hl : l < n) (hf : fo q ≤ sy_cn P 0 n)
    (eF : sy_F P n fo l = sy_op P n (fo q)) {post : SY → Prop}
    (h : ∀ a_after, yw_A n (fun x y => R x y ∨ sy_fr P n (sy_Pl P pl) (sy_F P n fo) l x y) a_after → post (f_size, f_fences, f_storeCount, f_loadCount, f_listed, f_strictListed, a_kinds, a_threads, a_variables, a_values, a_stores, a_loads, a_found, a_place, a_after, a_list, a_strictList)) :
    ∀ d t k a_after, t + d = sy_cn P 0 n → d < k → yw_A n (fun x y => R x y ∨ (sy_fr P n (sy_Pl P pl) (sy_F P n fo) l x y ∧ sy_cn P 0 y < t)) a_after → wY_relateLoad_76 post (nI l) (nI (fo q) - 1) f_size f_fences f_storeCount f_loadCount f_listed f_strictListed k (nI t) a_kinds a_threads a_variables a_values a_stores a_loads a_found a_place a_after a_list a_strictList := by
  have n6 := ok.1
  have c6 := sy_cn_le P 0 n
  have vl : vp_in (nI l) 6 := vp_in_nI (by omega) (by omega)
  have cl : (nI l).toNatClampNeg = l := nI_clamp (by omega)
  have xl : a_variables (nI l).toNatClampNeg = nI (sq_vr P l) := xw_r l (by omega) rfl (A.2 l hl).2.2.1
  have ol := ok.2.1 l hl
  intro d
  induction d with
  | zero =>
    intro t k a_after e hk I
    obtain ⟨k, rfl⟩ : ∃ m, k = m + 1 := ⟨k - 1, by omega⟩
    obtain rfl : t = sy_cn P 0 n := by omega
    refine br_t (by rw [S.1]; exact nI_le (Nat.le_refl _) (by omega)) (h a_after (yw_A_cg I (fun x y hx hy => ⟨?_, ?_⟩)))
    · rintro (z | ⟨z1, z2⟩)
      · exact Or.inl z
      · exact Or.inr z1
    · rintro (z | z1)
      · exact Or.inl z
      · exact Or.inr ⟨z1, sy_cn_lt z1.2.2.1 z1.2.1⟩
  | succ d ih =>
    intro t k a_after e hk I
    obtain ⟨k, rfl⟩ : ∃ m, k = m + 1 := ⟨k - 1, by omega⟩
    have ht : t < sy_cn P 0 n := by omega
    obtain ⟨t1, t2, t3, t4, t5, t6, t7⟩ := yw_st (P := P) (n := n) S ok ht
    have v2 : a_variables (nI (sy_at P 0 n t)).toNatClampNeg = nI (sq_vr P (sy_at P 0 n t)) := xw_r _ (by omega) rfl (A.2 _ t2).2.2.1
    have v4 := (ok.2.1 _ t2).2.2.1
    have uq : ∀ y, sq_kd P y = 0 → sy_cn P 0 y = t → y = sy_at P 0 n t := fun y k0 c => sy_cn_inj k0 t3 (c.trans t4.symm)
    have keep : ¬ sy_fr P n (sy_Pl P pl) (sy_F P n fo) l l (sy_at P 0 n t) → yw_A n (fun x y => R x y ∨ (sy_fr P n (sy_Pl P pl) (sy_F P n fo) l x y ∧ sy_cn P 0 y < t + 1)) (upd a_after (nI l).toNatClampNeg (a_after (nI l).toNatClampNeg)) := by
      intro np
      rw [yw_upd_id]
      refine yw_A_cg I (fun x y hx hy => ⟨?_, ?_⟩)
      · rintro (z | ⟨z1, z2⟩)
        · exact Or.inl z
        · exact Or.inr ⟨z1, by omega⟩
      · rintro (z | ⟨z1, z2⟩)
        · exact Or.inl z
        · by_cases w : sy_cn P 0 y = t
          · have e1 := uq y z1.2.2.1 w
            have e2 := z1.1
            subst e1; subst e2; exact absurd z1 np
          · exact Or.inr ⟨z1, by omega⟩
    have put : sy_fr P n (sy_Pl P pl) (sy_F P n fo) l l (sy_at P 0 n t) → yw_A n (fun x y => R x y ∨ (sy_fr P n (sy_Pl P pl) (sy_F P n fo) l x y ∧ sy_cn P 0 y < t + 1)) (upd a_after (nI l).toNatClampNeg (a_after (nI l).toNatClampNeg ||| ((1 : Int32) <<< (nI (sy_at P 0 n t) &&& 31)))) := by
      intro np
      rw [cl]
      refine yw_A_cg (yw_A_set I hl (by omega : sy_at P 0 n t < 6)) (fun x y hx hy => ⟨?_, ?_⟩)
      · rintro ((z | ⟨z1, z2⟩) | ⟨z1, z2⟩)
        · exact Or.inl z
        · exact Or.inr ⟨z1, by omega⟩
        · subst z1; subst z2; exact Or.inr ⟨np, by omega⟩
      · rintro (z | ⟨z1, z2⟩)
        · exact Or.inl (Or.inl z)
        · by_cases w : sy_cn P 0 y = t
          · exact Or.inr ⟨z1.1, uq y z1.2.2.1 w⟩
          · exact Or.inl (Or.inr ⟨z1, by omega⟩)
    -- 'later' known
    have fin : ∀ z : Nat, z < 2 → (z = 1 ↔ ∀ s, sy_F P n fo l = some s → sy_Pl P pl s < sy_Pl P pl (sy_at P 0 n t)) → wY_relateLoad_112 post (wY_relateLoad_76 post (nI l) (nI (fo q) - 1) f_size f_fences f_storeCount f_loadCount f_listed f_strictListed k) (nI l) (nI (fo q) - 1) (nI t) (nI z) f_size f_fences f_storeCount f_loadCount f_listed f_strictListed a_kinds a_threads a_variables a_values a_stores a_loads a_found a_place a_after a_list a_strictList := by
      intro z hz ez
      refine And.intro t5 ?_
      rw [t1]
      refine And.intro t6 (And.intro vl ?_)
      rw [v2, xl]
      by_cases c : sq_vr P (sy_at P 0 n t) = sq_vr P l
      · refine br_t (congrArg nI c) (br_f (by decide) ?_)
        by_cases z0 : z = 0
        · refine br_t (by rw [z0]; exact nI_0) (And.intro vl (And.intro vl (nm_e (nm_r (nI_1 _) (ih (t + 1) k _ (by omega) (by omega) (keep (fun w => ?_)))))))
          have := ez.mpr w.2.2.2.2
          omega
        · refine br_f (nI_ne0 (by omega) (by omega)) (And.intro vl (And.intro t5 ?_))
          rw [t1]
          exact And.intro vl (nm_e (nm_r (nI_1 _) (ih (t + 1) k _ (by omega) (by omega) (put ⟨rfl, t2, t3, c.symm, ez.mp (by omega)⟩))))
      · refine br_f (fun w => c ((nI_eq (by omega) (by omega)).mp w)) (br_t rfl (And.intro vl (And.intro vl (nm_e (nm_r (nI_1 _) (ih (t + 1) k _ (by omega) (by omega) (keep (fun w => c w.2.2.2.1.symm))))))))
    refine br_f (by rw [S.1]; exact nI_ge (by omega) (by omega)) ?_
    cases ef : fo q with
    | zero =>
      rw [ef] at eF fin
      exact br_t yw_neg.1 (fin 1 (by omega) ⟨fun _ s hs => (by rw [eF] at hs; cases hs), fun _ => rfl⟩)
    | succ s =>
      rw [ef] at eF hf fin
      rw [nI_pred] at fin ⊢
      have hs : s < sy_cn P 0 n := by omega
      obtain ⟨s1, s2, s3, s4, s5, s6, s7⟩ := yw_st (P := P) (n := n) S ok hs
      have p1 := C.1 s hs
      have p2 := C.1 t ht
      have eP : sy_Pl P pl (sy_at P 0 n s) = pl s := by unfold sy_Pl; rw [s4]
      have eO : sy_Pl P pl (sy_at P 0 n t) = pl t := by unfold sy_Pl; rw [t4]
      have eF' : sy_F P n fo l = some (sy_at P 0 n s) := eF
      refine br_f (nI_pos (by omega)) (And.intro t5 (And.intro s5 ?_))
      rw [xw_r t (by omega) rfl p2.1, xw_r s (by omega) rfl p1.1]
      by_cases y : pl t ≤ pl s
      · refine br_t (nI_le y (by omega)) (fin 0 (by omega) ⟨fun w => by omega, fun w => ?_⟩)
        have := w _ eF'
        rw [eP, eO] at this
        omega
      · refine br_f (nI_ge (by omega) (by omega)) (fin 1 (by omega) ⟨fun _ s' hs' => ?_, fun _ => rfl⟩)
        rw [eF'] at hs'
        cases hs'
        rw [eP, eO]; omega
theorem yw_relateLoad (ok : sq_ok P n) (A : yw_P P n f_size a_kinds a_threads a_variables a_values) (S : yw_S P n f_storeCount f_loadCount a_stores a_loads) {pl fo : Nat → Nat} (C : yw_C P n pl fo a_place a_found) {R : Nat → Nat → Prop} (I : yw_A n R a_after) {q str : Nat} (hq : q < sq_ln P n) (hs2 : str < 2) {post : SY → Prop}
    (h : ∀ a_after, yw_A n (fun x y => (R x y ∨ sy_rf P (sy_F P n fo) (str = 1) (sy_at P 1 n q) x y) ∨ sy_fr P n (sy_Pl P pl) (sy_F P n fo) (sy_at P 1 n q) x y) a_after → post (f_size, f_fences, f_storeCount, f_loadCount, f_listed, f_strictListed, a_kinds, a_threads, a_variables, a_values, a_stores, a_loads, a_found, a_place, a_after, a_list, a_strictList)) : wpY_relateLoad post (f_size, f_fences, f_storeCount, f_loadCount, f_listed, f_strictListed, a_kinds, a_threads, a_variables, a_values, a_stores, a_loads, a_found, a_place, a_after, a_list, a_strictList) (nI q) (nI str) := by
  have n6 := ok.1
  have c6 := sy_cn_le P 0 n
  have l6 := sq_ln_le P n
  have hq1 := hq
  rw [← sy_ln] at hq1
  obtain ⟨ql1, ql2, ql3⟩ := sy_at_p (P := P) (k := 1) (s := q) (n := n) hq1
  rw [sy_ln] at ql3
  obtain ⟨f1, f2⟩ := C.2 q hq
  have eF : sy_F P n fo (sy_at P 1 n q) = sy_op P n (fo q) := by unfold sy_F; rw [ql3]
  have vq : vp_in (nI q) 6 := vp_in_nI (by omega) (by omega)
  generalize el : sy_at P 1 n q = l at ql1 ql2 ql3 eF h
  have sl : a_loads q = nI l := by rw [← el]; exact S.2.2.2 q hq
  have vl : vp_in (nI l) 6 := vp_in_nI (by omega) (by omega)
  -- the loop, with no store put ahead
  have no : (∀ x, ¬ (sy_F P n fo l = some x ∧ (str = 1 ∨ sq_th P x ≠ sq_th P l))) → ∃ n76 : Nat, wY_relateLoad_76 post (nI l) (nI (fo q) - 1) f_size f_fences f_storeCount f_loadCount f_listed f_strictListed n76 0 a_kinds a_threads a_variables a_values a_stores a_loads a_found a_place a_after a_list a_strictList := by
    intro w
    refine ⟨sy_cn P 0 n + 1, yw_rl76 (R := fun x y => R x y ∨ sy_rf P (sy_F P n fo) (str = 1) l x y) ok A S C ql1 f2 eF h (sy_cn P 0 n) 0 (sy_cn P 0 n + 1) a_after (by omega) (by omega) (yw_A_cg I (fun x y hx hy => ⟨fun z => Or.inl (Or.inl z), ?_⟩))⟩
    rintro ((z | z) | z)
    · exact z
    · exact absurd z.2 (w x)
    · omega
  have yes : ∀ x, x < n → sy_F P n fo l = some x → (str = 1 ∨ sq_th P x ≠ sq_th P l) → ∃ n76 : Nat, wY_relateLoad_76 post (nI l) (nI (fo q) - 1) f_size f_fences f_storeCount f_loadCount f_listed f_strictListed n76 0 a_kinds a_threads a_variables a_values a_stores a_loads a_found a_place (upd a_after x (a_after x ||| ((1 : Int32) <<< (nI l &&& 31)))) a_list a_strictList := by
    intro x xn w1 w2
    refine ⟨sy_cn P 0 n + 1, yw_rl76 (R := fun x y => R x y ∨ sy_rf P (sy_F P n fo) (str = 1) l x y) ok A S C ql1 f2 eF h (sy_cn P 0 n) 0 (sy_cn P 0 n + 1) _ (by omega) (by omega) (yw_A_cg (yw_A_set I xn (by omega : l < 6)) (fun x' y hx hy => ⟨?_, ?_⟩))⟩
    · rintro (z | ⟨z1, z2⟩)
      · exact Or.inl (Or.inl z)
      · subst z1; exact Or.inl (Or.inr ⟨z2, w1, w2⟩)
    · rintro ((z | z) | z)
      · exact Or.inl z
      · refine Or.inr ⟨?_, z.1⟩
        have := z.2.1
        rw [w1] at this
        exact (Option.some.inj this).symm
      · omega
  refine And.intro vq (nm_r (xw_r q (by omega) rfl sl) (And.intro vq (nm_r (xw_r q (by omega) rfl f1) ?_)))
  cases ef : fo q with
  | zero =>
    rw [ef] at eF no
    exact br_t yw_neg.1 (no (fun x z => by rw [eF] at z; cases z.1))
  | succ s =>
    rw [ef] at eF f2 no yes
    rw [nI_pred] at no yes ⊢
    have hs : s < sy_cn P 0 n := by omega
    obtain ⟨s1, s2, s3, s4, s5, s6, s7⟩ := yw_st (P := P) (n := n) S ok hs
    have eF' : sy_F P n fo l = some (sy_at P 0 n s) := eF
    have ts : a_threads (nI (sy_at P 0 n s)).toNatClampNeg = nI (sq_th P (sy_at P 0 n s)) := xw_r _ (by omega) rfl (A.2 _ s2).2.1
    have tl : a_threads (nI l).toNatClampNeg = nI (sq_th P l) := xw_r l (by omega) rfl (A.2 l ql1).2.1
    have os := ok.2.1 _ s2
    have ol := ok.2.1 l ql1
    have e45 : (str = 1 ∨ sq_th P (sy_at P 0 n s) ≠ sq_th P l) → wY_relateLoad_45 post (nI l) (nI s) f_size f_fences f_storeCount f_loadCount f_listed f_strictListed a_kinds a_threads a_variables a_values a_stores a_loads a_found a_place a_after a_list a_strictList := by
      intro w
      refine And.intro s5 (And.intro s5 ?_)
      rw [s1]
      refine And.intro s6 (And.intro s6 (nm_e ?_))
      rw [s7]
      exact yes _ s2 eF' w
    refine br_f (nI_pos (by omega)) ?_
    by_cases st : str = 0
    · refine br_t (by rw [st]; exact nI_0) (And.intro s5 ?_)
      rw [s1]
      refine And.intro s6 (And.intro vl ?_)
      rw [ts, tl]
      by_cases c : sq_th P (sy_at P 0 n s) = sq_th P l
      · refine br_t (congrArg nI c) (no (fun x z => ?_))
        obtain ⟨z1, z2⟩ := z
        rw [eF'] at z1
        cases z1
        rcases z2 with z2 | z2
        · omega
        · exact z2 c
      · exact br_f (fun w => c ((nI_eq (by omega) (by omega)).mp w)) (e45 (Or.inr c))
    · exact br_f (nI_ne0 (by omega) (by omega)) (e45 (Or.inl (by omega)))
theorem yw_hr12 (n6 : n ≤ 6) (es : f_size = nI n) {R : Nat → Nat → Prop} {q : Nat} (hq : q < n) {post : Int32 → SY → Prop}
    {J2 : Int32 → (Nat → Int32) → (Nat → Int32) → (Nat → Int32) → (Nat → Int32) → (Nat → Int32) → (Nat → Int32) → (Nat → Int32) → (Nat → Int32) → (Nat → Int32) → (Nat → Int32) → (Nat → Int32) → Prop}
    (hJ : ∀ a_after, yw_A n (yo_wa R (q + 1)) a_after → J2 (nI (q + 1)) a_kinds a_threads a_variables a_values a_stores a_loads a_found a_place a_after a_list a_strictList) :
    ∀ d a k a_after, a + d = n → d < k → yw_A n (fun x y => (x < a ∧ yo_wa R (q + 1) x y) ∨ (¬ x < a ∧ yo_wa R q x y)) a_after → wY_hasRing_12 post J2 (nI q) f_size f_fences f_storeCount f_loadCount f_listed f_strictListed k (nI a) a_kinds a_threads a_variables a_values a_stores a_loads a_found a_place a_after a_list a_strictList := by
  have vq : vp_in (nI q) 6 := vp_in_nI (by omega) (by omega)
  have cq : (nI q).toNatClampNeg = q := nI_clamp (by omega)
  intro d
  induction d with
  | zero =>
    intro a k a_after e hk I
    obtain ⟨k, rfl⟩ : ∃ m, k = m + 1 := ⟨k - 1, by omega⟩
    obtain rfl : a = n := by omega
    refine br_t (by rw [es]; exact nI_le (Nat.le_refl _) (by omega)) (nm_r (nI_1 _) (hJ a_after (yw_A_cg I (fun x y hx hy => ⟨?_, fun z => Or.inl ⟨hx, z⟩⟩))))
    rintro (z | z)
    · exact z.2
    · exact absurd hx z.1
  | succ d ih =>
    intro a k a_after e hk I
    obtain ⟨k, rfl⟩ : ∃ m, k = m + 1 := ⟨k - 1, by omega⟩
    have ha : a < n := by omega
    have va : vp_in (nI a) 6 := vp_in_nI (by omega) (by omega)
    have ca : (nI a).toNatClampNeg = a := nI_clamp (by omega)
    obtain ⟨m, m1, m2, m3⟩ := I a ha
    obtain ⟨m', p1, p2, p3⟩ := I q hq
    -- rows a and q
    have ra : ∀ y, y < 6 → (m.testBit y = true ↔ yo_wa R q a y) := fun y hy => (m3 y hy).trans ⟨fun z => z.elim (fun w => absurd w.1 (Nat.lt_irrefl _)) (fun w => w.2), fun z => Or.inr ⟨Nat.lt_irrefl _, z⟩⟩
    have rq : ∀ y, y < 6 → (m'.testBit y = true ↔ yo_wa R q q y) := fun y hy => (p3 y hy).trans ⟨fun z => ?_, fun z => ?_⟩
    · have bt1 := xw_bit (g := m) (k := q) (by omega) (by omega)
      refine br_f (by rw [es]; exact nI_ge (by omega) (by omega)) (And.intro va ?_)
      rw [ca, m2]
      by_cases c : m / 2 ^ q % 2 = 1
      · refine br_t (bt1.mpr c) (And.intro va (And.intro vq (And.intro va ?_)))
        rw [cq, p2, bx_or]
        refine nm_e (nm_r (nI_1 _) (ih (a + 1) k _ (by omega) (by omega) ?_))
        have aq : yo_wa R q a q := (ra q (by omega)).mp ((yw_tb m q).mp c)
        intro x hx
        by_cases z : x = a
        · subst z
          refine ⟨m ||| m', Nat.or_lt_two_pow (n := 6) m1 p1, pk_us, fun y hy => ?_⟩
          rw [Nat.testBit_or, Bool.or_eq_true, ra y hy, rq y hy]
          constructor
          · rintro (w | w)
            · exact Or.inl ⟨by omega, Or.inl w⟩
            · exact Or.inl ⟨by omega, Or.inr ⟨aq, w⟩⟩
          · rintro (⟨_, w⟩ | ⟨w, _⟩)
            · rcases w with w | w
              · exact Or.inl w
              · exact Or.inr w.2
            · omega
        · obtain ⟨u, u1, u2, u3⟩ := I x hx
          refine ⟨u, u1, by rw [pk_un z]; exact u2, fun y hy => (u3 y hy).trans ⟨?_, ?_⟩⟩
          · rintro (w | w)
            · exact Or.inl ⟨by omega, w.2⟩
            · exact Or.inr ⟨by omega, w.2⟩
          · rintro (w | w)
            · exact Or.inl ⟨by omega, w.2⟩
            · exact Or.inr ⟨by omega, w.2⟩
      · refine br_f (fun z => c (bt1.mp z)) (And.intro va (And.intro va ?_))
        have naq : ¬ yo_wa R q a q := fun z => c ((yw_tb m q).mpr ((ra q (by omega)).mpr z))
        rw [← m2]
        refine nm_r (yw_upd_id _ _) (nm_r (nI_1 _) (ih (a + 1) k _ (by omega) (by omega) (yw_A_cg I (fun x y hx hy => ⟨?_, ?_⟩))))
        · rintro (w | w)
          · exact Or.inl ⟨by omega, w.2⟩
          · by_cases z : x = a
            · subst z; exact Or.inl ⟨by omega, Or.inl w.2⟩
            · exact Or.inr ⟨by omega, w.2⟩
        · rintro (w | w)
          · by_cases z : x = a
            · subst z
              rcases w.2 with w' | w'
              · exact Or.inr ⟨Nat.lt_irrefl _, w'⟩
              · exact absurd w'.1 naq
            · exact Or.inl ⟨by omega, w.2⟩
          · exact Or.inr ⟨by omega, w.2⟩
    · rcases z with w | w
      · exact w.2.elim id (fun v => v.2)
      · exact w.2
    · by_cases w : q < a
      · exact Or.inl ⟨w, Or.inl z⟩
      · exact Or.inr ⟨w, z⟩
theorem yw_hr76 (n6 : n ≤ 6) (es : f_size = nI n) {R : Nat → Nat → Prop} (I : yw_A n R a_after) {post : Int32 → SY → Prop} (h1 : (∃ a, a < n ∧ R a a) → post 1 (f_size, f_fences, f_storeCount, f_loadCount, f_listed, f_strictListed, a_kinds, a_threads, a_variables, a_values, a_stores, a_loads, a_found, a_place, a_after, a_list, a_strictList)) (h0 : (¬ ∃ a, a < n ∧ R a a) → post 0 (f_size, f_fences, f_storeCount, f_loadCount, f_listed, f_strictListed, a_kinds, a_threads, a_variables, a_values, a_stores, a_loads, a_found, a_place, a_after, a_list, a_strictList)) :
    ∀ d a k, a + d = n → d < k → (∀ x, x < a → ¬ R x x) → wY_hasRing_76 post f_size f_fences f_storeCount f_loadCount f_listed f_strictListed a_kinds a_threads a_variables a_values a_stores a_loads a_found a_place a_after a_list a_strictList k (nI a) := by
  intro d
  induction d with
  | zero =>
    intro a k e hk hn
    obtain ⟨k, rfl⟩ : ∃ m, k = m + 1 := ⟨k - 1, by omega⟩
    obtain rfl : a = n := by omega
    exact br_t (by rw [es]; exact nI_le (Nat.le_refl _) (by omega)) (h0 (fun ⟨x, x1, x2⟩ => hn x x1 x2))
  | succ d ih =>
    intro a k e hk hn
    obtain ⟨k, rfl⟩ : ∃ m, k = m + 1 := ⟨k - 1, by omega⟩
    have ha : a < n := by omega
    obtain ⟨m, m1, m2, m3⟩ := I a ha
    have bt1 := xw_bit (g := m) (k := a) (by omega) (by omega)
    refine br_f (by rw [es]; exact nI_ge (by omega) (by omega)) (And.intro (vp_in_nI (by omega) (by omega)) ?_)
    rw [nI_clamp (n := a) (by omega), m2]
    by_cases c : m / 2 ^ a % 2 = 1
    · exact br_t (bt1.mpr c) (h1 ⟨a, ha, (m3 a (by omega)).mp ((yw_tb m a).mp c)⟩)
    · refine br_f (fun z => c (bt1.mp z)) (nm_r (nI_1 _) (ih (a + 1) k (by omega) (by omega) (fun x hx => ?_)))
      by_cases z : x = a
      · subst z; exact fun w => c ((yw_tb m x).mpr ((m3 x (by omega)).mpr w))
      · exact hn x (by omega)
theorem yw_hr2 (n6 : n ≤ 6) (es : f_size = nI n) {R : Nat → Nat → Prop} {post : Int32 → SY → Prop} (h1 : (∃ a, a < n ∧ yo_wa R n a a) → ∀ a_after, post 1 (f_size, f_fences, f_storeCount, f_loadCount, f_listed, f_strictListed, a_kinds, a_threads, a_variables, a_values, a_stores, a_loads, a_found, a_place, a_after, a_list, a_strictList)) (h0 : (¬ ∃ a, a < n ∧ yo_wa R n a a) → ∀ a_after, post 0 (f_size, f_fences, f_storeCount, f_loadCount, f_listed, f_strictListed, a_kinds, a_threads, a_variables, a_values, a_stores, a_loads, a_found, a_place, a_after, a_list, a_strictList)) :
    ∀ d q k a_after, q + d = n → d < k → yw_A n (yo_wa R q) a_after → wY_hasRing_2 post f_size f_fences f_storeCount f_loadCount f_listed f_strictListed k (nI q) a_kinds a_threads a_variables a_values a_stores a_loads a_found a_place a_after a_list a_strictList := by
  intro d
  induction d with
  | zero =>
    intro q k a_after e hk I
    obtain ⟨k, rfl⟩ : ∃ m, k = m + 1 := ⟨k - 1, by omega⟩
    obtain rfl : q = n := by omega
    exact br_t (by rw [es]; exact nI_le (Nat.le_refl _) (by omega)) ⟨q + 1, yw_hr76 n6 es I (fun z => h1 z a_after) (fun z => h0 z a_after) q 0 (q + 1) (by omega) (by omega) (fun x hx => by omega)⟩
  | succ d ih =>
    intro q k a_after e hk I
    obtain ⟨k, rfl⟩ : ∃ m, k = m + 1 := ⟨k - 1, by omega⟩
    refine br_f (by rw [es]; exact nI_ge (by omega) (by omega)) ⟨n + 1, yw_hr12 n6 es (R := R) (by omega) (fun a_after I' => ih (q + 1) k a_after (by omega) (by omega) I') n 0 (n + 1) a_after (by omega) (by omega) (yw_A_cg I (fun x y hx hy => ⟨fun z => Or.inr ⟨by omega, z⟩, ?_⟩))⟩
    rintro (z | z)
    · omega
    · exact z.2
theorem yw_hasRing (n6 : n ≤ 6) (es : f_size = nI n) {R : Nat → Nat → Prop} (hR : ∀ a b, R a b → a < n ∧ b < n) (I : yw_A n R a_after) {post : Int32 → SY → Prop} (h1 : ¬ yo_ac n R → ∀ a_after, post 1 (f_size, f_fences, f_storeCount, f_loadCount, f_listed, f_strictListed, a_kinds, a_threads, a_variables, a_values, a_stores, a_loads, a_found, a_place, a_after, a_list, a_strictList)) (h0 : yo_ac n R → ∀ a_after, post 0 (f_size, f_fences, f_storeCount, f_loadCount, f_listed, f_strictListed, a_kinds, a_threads, a_variables, a_values, a_stores, a_loads, a_found, a_place, a_after, a_list, a_strictList)) : wpY_hasRing post (f_size, f_fences, f_storeCount, f_loadCount, f_listed, f_strictListed, a_kinds, a_threads, a_variables, a_values, a_stores, a_loads, a_found, a_place, a_after, a_list, a_strictList) := by
  refine ⟨n + 1, yw_hr2 n6 es (R := R) (fun z => h1 (fun w => ?_)) (fun z => h0 ?_) n 0 (n + 1) a_after (by omega) (by omega) I⟩
  · obtain ⟨a, a1, a2⟩ := z
    exact (yo_ac_iff hR).mp w a a1 a2
  · exact (yo_ac_iff hR).mpr (fun a ha w => z ⟨a, ha, w⟩)
/-- the choice is allowed -/
def sy_al (P : sq_PG) (n g : Nat) (str : Prop) (pl fo : Nat → Nat) : Prop :=
  sq_mf P n (sy_Pl P pl) (sy_F P n fo) ∧ yo_ac n (fun a b => a < n ∧ b < n ∧ sq_af P (sq_pp P (yw_G g) str) str (sy_Pl P pl) (sy_F P n fo) a b)
theorem yw_al37 (ok : sq_ok P n) (A : yw_P P n f_size a_kinds a_threads a_variables a_values) (S : yw_S P n f_storeCount f_loadCount a_stores a_loads) {pl fo : Nat → Nat} (C : yw_C P n pl fo a_place a_found) {g str : Nat} (hs2 : str < 2) {post : Int32 → SY → Prop}
    (mf : sq_mf P n (sy_Pl P pl) (sy_F P n fo)) (h1 : sy_al P n g (str = 1) pl fo → ∀ a_after, post 1 (f_size, f_fences, f_storeCount, f_loadCount, f_listed, f_strictListed, a_kinds, a_threads, a_variables, a_values, a_stores, a_loads, a_found, a_place, a_after, a_list, a_strictList)) (h0 : ¬ sy_al P n g (str = 1) pl fo → ∀ a_after, post 0 (f_size, f_fences, f_storeCount, f_loadCount, f_listed, f_strictListed, a_kinds, a_threads, a_variables, a_values, a_stores, a_loads, a_found, a_place, a_after, a_list, a_strictList)) :
    ∀ d q k a_after, q + d = sq_ln P n → d < k → yw_A n (fun x y => x < n ∧ y < n ∧ (sq_pp P (yw_G g) (str = 1) x y ∨ sy_co P n (sy_Pl P pl) x y ∨ (sq_kd P y = 1 ∧ sq_ln P y < q ∧ sy_rf P (sy_F P n fo) (str = 1) y x y) ∨ (sq_kd P x = 1 ∧ sq_ln P x < q ∧ sy_fr P n (sy_Pl P pl) (sy_F P n fo) x x y))) a_after →
      wY_isAllowed_37 post (nI str) k (nI q) f_size f_fences f_storeCount f_loadCount f_listed f_strictListed a_kinds a_threads a_variables a_values a_stores a_loads a_found a_place a_after a_list a_strictList := by
  have n6 := ok.1
  have l6 := sq_ln_le P n
  intro d
  induction d with
  | zero =>
    intro q k a_after e hk I
    obtain ⟨k, rfl⟩ : ∃ m, k = m + 1 := ⟨k - 1, by omega⟩
    obtain rfl : q = sq_ln P n := by omega
    have I' : yw_A n (fun a b => a < n ∧ b < n ∧ sq_af P (sq_pp P (yw_G g) (str = 1)) (str = 1) (sy_Pl P pl) (sy_F P n fo) a b) a_after := by
      refine yw_A_cg I (fun x y hx hy => ⟨?_, ?_⟩)
      · rintro ⟨x1, y1, z⟩
        refine ⟨x1, y1, ?_⟩
        rcases z with z | z | z | z
        · exact Or.inl z
        · exact Or.inr (Or.inl ⟨z.2.2.1, z.2.2.2.1, z.2.2.2.2.1, z.2.2.2.2.2⟩)
        · exact Or.inr (Or.inr (Or.inl ⟨z.1, z.2.2.2.1, z.2.2.2.2⟩))
        · exact Or.inr (Or.inr (Or.inr ⟨z.1, z.2.2.2.2.1, z.2.2.2.2.2.1, z.2.2.2.2.2.2⟩))
      · rintro ⟨x1, y1, z⟩
        refine ⟨x1, y1, ?_⟩
        rcases z with z | z | z | z
        · exact Or.inl z
        · exact Or.inr (Or.inl ⟨x1, y1, z.1, z.2.1, z.2.2.1, z.2.2.2⟩)
        · exact Or.inr (Or.inr (Or.inl ⟨z.1, sq_ln_lt P y1 z.1, rfl, z.2.1, z.2.2⟩))
        · exact Or.inr (Or.inr (Or.inr ⟨z.1, sq_ln_lt P x1 z.1, rfl, y1, z.2.1, z.2.2.1, z.2.2.2⟩))
    refine br_t (by rw [S.2.1]; exact nI_le (Nat.le_refl _) (by omega)) ?_
    refine yw_hasRing n6 A.1 (fun a b z => ⟨z.1, z.2.1⟩) I' (fun z a_after => br_f (by decide) (h0 (fun w => z w.2) a_after)) (fun z a_after => br_t rfl (h1 ⟨mf, z⟩ a_after))
  | succ d ih =>
    intro q k a_after e hk I
    obtain ⟨k, rfl⟩ : ∃ m, k = m + 1 := ⟨k - 1, by omega⟩
    have hq : q < sq_ln P n := by omega
    have hq1 := hq
    rw [← sy_ln] at hq1
    obtain ⟨ql1, ql2, ql3⟩ := sy_at_p (P := P) (k := 1) (s := q) (n := n) hq1
    rw [sy_ln] at ql3
    refine br_f (by rw [S.2.1]; exact nI_ge (by omega) (by omega)) ?_
    refine yw_relateLoad ok A S C I hq hs2 (fun a_after I' => nm_r (nI_1 _) (ih (q + 1) k a_after (by omega) (by omega) (yw_A_cg I' (fun x y hx hy => ⟨?_, ?_⟩))))
    · rintro ((z | z) | z)
      · refine ⟨z.1, z.2.1, ?_⟩
        rcases z.2.2 with w | w | w | w
        · exact Or.inl w
        · exact Or.inr (Or.inl w)
        · exact Or.inr (Or.inr (Or.inl ⟨w.1, by omega, w.2.2⟩))
        · exact Or.inr (Or.inr (Or.inr ⟨w.1, by omega, w.2.2⟩))
      · have ey := z.1
        refine ⟨hx, by rw [ey]; exact ql1, Or.inr (Or.inr (Or.inl ⟨by rw [ey]; exact ql2, by rw [ey, ql3]; omega, rfl, ?_, ?_⟩))⟩
        · rw [ey]; exact z.2.1
        · rw [ey]; exact z.2.2
      · have ex := z.1
        refine ⟨hx, z.2.1, Or.inr (Or.inr (Or.inr ⟨by rw [ex]; exact ql2, by rw [ex, ql3]; omega, rfl, z.2.1, z.2.2.1, ?_, ?_⟩))⟩
        · rw [ex]; exact z.2.2.2.1
        · rw [ex]; exact z.2.2.2.2
    · rintro ⟨x1, y1, w⟩
      rcases w with w | w | w | w
      · exact Or.inl (Or.inl ⟨x1, y1, Or.inl w⟩)
      · exact Or.inl (Or.inl ⟨x1, y1, Or.inr (Or.inl w)⟩)
      · by_cases c : sq_ln P y = q
        · have ey : y = sy_at P 1 n q := sq_ln_inj P w.1 ql2 (by rw [c, ql3])
          refine Or.inl (Or.inr ⟨ey, ?_, ?_⟩)
          · rw [← ey]; exact w.2.2.2.1
          · rw [← ey]; exact w.2.2.2.2
        · exact Or.inl (Or.inl ⟨x1, y1, Or.inr (Or.inr (Or.inl ⟨w.1, by omega, w.2.2⟩))⟩)
      · by_cases c : sq_ln P x = q
        · have ex : x = sy_at P 1 n q := sq_ln_inj P w.1 ql2 (by rw [c, ql3])
          refine Or.inr ⟨ex, y1, w.2.2.2.2.1, ?_, ?_⟩
          · rw [← ex]; exact w.2.2.2.2.2.1
          · rw [← ex]; exact w.2.2.2.2.2.2
        · exact Or.inl (Or.inl ⟨x1, y1, Or.inr (Or.inr (Or.inr ⟨w.1, by omega, w.2.2⟩))⟩)
theorem yw_al2 (ok : sq_ok P n) (A : yw_P P n f_size a_kinds a_threads a_variables a_values) (S : yw_S P n f_storeCount f_loadCount a_stores a_loads) {pl fo : Nat → Nat} (C : yw_C P n pl fo a_place a_found) {g str : Nat} (hg : g < 64) (ef : f_fences = nI g) (hs2 : str < 2) {post : Int32 → SY → Prop}
    (h1 : sy_al P n g (str = 1) pl fo → ∀ a_after, post 1 (f_size, f_fences, f_storeCount, f_loadCount, f_listed, f_strictListed, a_kinds, a_threads, a_variables, a_values, a_stores, a_loads, a_found, a_place, a_after, a_list, a_strictList)) (h0 : ¬ sy_al P n g (str = 1) pl fo → ∀ a_after, post 0 (f_size, f_fences, f_storeCount, f_loadCount, f_listed, f_strictListed, a_kinds, a_threads, a_variables, a_values, a_stores, a_loads, a_found, a_place, a_after, a_list, a_strictList)) :
    ∀ d q k, q + d = sq_ln P n → d < k → (∀ l, l < n → sq_kd P l = 1 → sq_ln P l < q → sq_mf1 P n (sy_Pl P pl) (sy_F P n fo) l) → wY_isAllowed_2 post (nI str) f_size f_fences f_storeCount f_loadCount f_listed f_strictListed a_kinds a_threads a_variables a_values a_stores a_loads a_found a_place a_after a_list a_strictList k (nI q) := by
  have n6 := ok.1
  have l6 := sq_ln_le P n
  intro d
  induction d with
  | zero =>
    intro q k e hk hm
    obtain ⟨k, rfl⟩ : ∃ m, k = m + 1 := ⟨k - 1, by omega⟩
    obtain rfl : q = sq_ln P n := by omega
    refine br_t (by rw [S.2.1]; exact nI_le (Nat.le_refl _) (by omega)) ?_
    refine yw_startRelation n6 A (fun j hj => (ok.2.1 j hj).2.1) (fun j hj => (ok.2.1 j hj).1) hg ef hs2 (fun a_after I => ?_)
    refine yw_orderStores ok A S C I (fun a_after I' => ?_)
    refine ⟨sq_ln P n + 1, yw_al37 ok A S C hs2 (fun l hl k1 => hm l hl k1 (sq_ln_lt P hl k1)) h1 h0 (sq_ln P n) 0 (sq_ln P n + 1) a_after (by omega) (by omega) (yw_A_cg I' (fun x y hx hy => ⟨?_, ?_⟩))⟩
    · rintro (z | z)
      · exact ⟨hx, z.1, Or.inl z.2⟩
      · exact ⟨hx, z.2.1, Or.inr (Or.inl z)⟩
    · rintro ⟨x1, y1, w⟩
      rcases w with w | w | w | w
      · exact Or.inl ⟨y1, w⟩
      · exact Or.inr w
      · omega
      · omega
  | succ d ih =>
    intro q k e hk hm
    obtain ⟨k, rfl⟩ : ∃ m, k = m + 1 := ⟨k - 1, by omega⟩
    have hq : q < sq_ln P n := by omega
    have hq1 := hq
    rw [← sy_ln] at hq1
    obtain ⟨ql1, ql2, ql3⟩ := sy_at_p (P := P) (k := 1) (s := q) (n := n) hq1
    rw [sy_ln] at ql3
    refine br_f (by rw [S.2.1]; exact nI_ge (by omega) (by omega)) ?_
    refine yw_mayFind ok A S C hq (fun z => br_f (by decide) (nm_r (nI_1 _) (ih (q + 1) k (by omega) (by omega) (fun l hl k1 lt => ?_)))) (fun z => br_t rfl (h0 (fun w => z (w.1 _ ql1 ql2)) a_after))
    by_cases c : sq_ln P l = q
    · have : l = sy_at P 1 n q := sq_ln_inj P k1 ql2 (by rw [c, ql3])
      rw [this]; exact z
    · exact hm l hl k1 (by omega)
theorem yw_isAllowed (ok : sq_ok P n) (A : yw_P P n f_size a_kinds a_threads a_variables a_values) (S : yw_S P n f_storeCount f_loadCount a_stores a_loads) {pl fo : Nat → Nat} (C : yw_C P n pl fo a_place a_found) {g str : Nat} (hg : g < 64) (ef : f_fences = nI g) (hs2 : str < 2) {post : Int32 → SY → Prop}
    (h1 : sy_al P n g (str = 1) pl fo → ∀ a_after, post 1 (f_size, f_fences, f_storeCount, f_loadCount, f_listed, f_strictListed, a_kinds, a_threads, a_variables, a_values, a_stores, a_loads, a_found, a_place, a_after, a_list, a_strictList)) (h0 : ¬ sy_al P n g (str = 1) pl fo → ∀ a_after, post 0 (f_size, f_fences, f_storeCount, f_loadCount, f_listed, f_strictListed, a_kinds, a_threads, a_variables, a_values, a_stores, a_loads, a_found, a_place, a_after, a_list, a_strictList)) : wpY_isAllowed post (f_size, f_fences, f_storeCount, f_loadCount, f_listed, f_strictListed, a_kinds, a_threads, a_variables, a_values, a_stores, a_loads, a_found, a_place, a_after, a_list, a_strictList) (nI str) :=
  ⟨sq_ln P n + 1, yw_al2 ok A S C hg ef hs2 h1 h0 (sq_ln P n) 0 (sq_ln P n + 1) (by omega) (by omega) (fun l _ _ hl => by omega)⟩
end
end
section
/-! Y: outcomeNow, setOrder, setFound -/
theorem yw_p4 : ∀ k, k < 6 → (1 : Int32) <<< ((2 * nI k) &&& 31) = nI (4 ^ k) := by decide +kernel
/-- the latest store to x seen so far, by its number -/
def sy_la (P : sq_PG) (n : Nat) (pl : Nat → Nat) (x i : Nat) (y : Int32) : Prop :=
  (y = -1 ∧ ∀ s, s < i → sq_vr P (sy_at P 0 n s) ≠ x) ∨ ∃ s, s < i ∧ sq_vr P (sy_at P 0 n s) = x ∧ y = nI s ∧ ∀ s', s' < i → sq_vr P (sy_at P 0 n s') = x → pl s' ≤ pl s
section
variable {f_size f_fences f_storeCount f_loadCount f_listed f_strictListed : Int32} {a_kinds a_threads a_variables a_values a_stores a_loads a_found a_place a_after a_list a_strictList : Nat → Int32}
variable {P : sq_PG} {n : Nat}
theorem yw_on68 (ok : sq_ok P n) (A : yw_P P n f_size a_kinds a_threads a_variables a_values) (S : yw_S P n f_storeCount f_loadCount a_stores a_loads) {pl fo : Nat → Nat} (C : yw_C P n pl fo a_place a_found) {g : Nat → Nat} (O : sq_out P n (sy_Pl P pl) (sy_F P n fo) g) {x : Nat} (hx : x < 3) {post : Int32 → Prop} {J58 : Int32 → Int32 → Prop}
    (hJ : J58 (nI (sx_en (6 + x + 1) g)) (nI (x + 1))) :
    ∀ d s k y, s + d = sy_cn P 0 n → d < k → sy_la P n pl x s y → wY_outcomeNow_68 post J58 (nI (sx_en (6 + x) g)) (nI x) f_size f_fences f_storeCount f_loadCount f_listed f_strictListed a_kinds a_threads a_variables a_values a_stores a_loads a_found a_place a_after a_list a_strictList k y (nI s) := by
  have n6 := ok.1
  have c6 := sy_cn_le P 0 n
  intro d
  induction d with
  | zero =>
    intro s k y e hk I
    obtain ⟨k, rfl⟩ : ∃ m, k = m + 1 := ⟨k - 1, by omega⟩
    obtain rfl : s = sy_cn P 0 n := by omega
    refine br_t (by rw [S.1]; exact nI_le (Nat.le_refl _) (by omega)) ?_
    have es : sx_en (6 + x + 1) g = sx_en (6 + x) g + g (6 + x) * 4 ^ (6 + x) := rfl
    rcases I with ⟨z1, z2⟩ | ⟨s, z1, z2, z3, z4⟩
    · refine br_f (by rw [z1]; decide) (nm_r (nI_1 _) ?_)
      have g0 : g (6 + x) = 0 := O.2.2.1 x (fun j hj w => by
        have := z2 (sy_cn P 0 j) (sy_cn_lt w.1 hj)
        rw [sy_at_cn hj w.1] at this
        exact this w.2)
      have es' : sx_en (6 + x + 1) g = sx_en (6 + x) g := by rw [es, g0, Nat.zero_mul]; rfl
      rw [← es']; exact hJ
    · obtain ⟨s1, s2, s3, s4, s5, s6, s7⟩ := yw_st (P := P) (n := n) S ok z1
      have gm : g (6 + x) = sq_vl P (sy_at P 0 n s) := by
        rw [← z2]
        refine O.2.2.2 _ s2 s3 (fun j hj k0 kx => ?_)
        unfold sy_Pl
        rw [s4]
        refine z4 _ (sy_cn_lt k0 hj) ?_
        rw [sy_at_cn hj k0, kx, z2]
      refine br_t (by rw [z3]; exact nI_pos' (by omega)) ?_
      show vp_in y 6 ∧ _
      rw [z3]
      refine And.intro s5 ?_
      rw [s1]
      refine And.intro s6 (nm_r (e' := nI (sx_en (6 + x + 1) g)) ?_ (nm_r (nI_1 _) hJ))
      rw [xw_r _ (by omega) rfl (A.2 _ s2).2.2.2, yw_p4 x (by omega), show (4096 : Int32) = nI 4096 from rfl, pk_mul, pk_mul, nI_add, es, gm]
      refine congrArg nI ?_
      rw [Nat.pow_add, show (4 : Nat) ^ 6 = 4096 from rfl, Nat.mul_comm]
  | succ d ih =>
    intro s k y e hk I
    obtain ⟨k, rfl⟩ : ∃ m, k = m + 1 := ⟨k - 1, by omega⟩
    have hs : s < sy_cn P 0 n := by omega
    obtain ⟨s1, s2, s3, s4, s5, s6, s7⟩ := yw_st (P := P) (n := n) S ok hs
    have xs : a_variables (nI (sy_at P 0 n s)).toNatClampNeg = nI (sq_vr P (sy_at P 0 n s)) := xw_r _ (by omega) rfl (A.2 _ s2).2.2.1
    have os := ok.2.1 _ s2
    have fin : ∀ z : Nat, z < 2 → (sq_vr P (sy_at P 0 n s) ≠ x → sy_la P n pl x (s + 1) y) → (sq_vr P (sy_at P 0 n s) = x → z = 0 → sy_la P n pl x (s + 1) y) → (sq_vr P (sy_at P 0 n s) = x → z = 1 → sy_la P n pl x (s + 1) (nI s)) →
        wY_outcomeNow_102 post J58 (wY_outcomeNow_68 post J58 (nI (sx_en (6 + x) g)) (nI x) f_size f_fences f_storeCount f_loadCount f_listed f_strictListed a_kinds a_threads a_variables a_values a_stores a_loads a_found a_place a_after a_list a_strictList k) (nI (sx_en (6 + x) g)) (nI x) y (nI s) (nI z) f_size f_fences f_storeCount f_loadCount f_listed f_strictListed a_kinds a_threads a_variables a_values a_stores a_loads a_found a_place a_after a_list a_strictList := by
      intro z hz h1 h2 h3
      refine And.intro s5 ?_
      rw [s1]
      refine And.intro s6 ?_
      rw [xs]
      by_cases c : sq_vr P (sy_at P 0 n s) = x
      · refine br_t (congrArg nI c) ?_
        by_cases z0 : z = 0
        · exact br_t (by rw [z0]; exact nI_0) (nm_r (nI_1 _) (ih (s + 1) k y (by omega) (by omega) (h2 c z0)))
        · exact br_f (nI_ne0 (by omega) (by omega)) (nm_r (nI_1 _) (ih (s + 1) k (nI s) (by omega) (by omega) (h3 c (by omega))))
      · exact br_f (fun w => c ((nI_eq (by omega) (by omega)).mp w)) (nm_r (nI_1 _) (ih (s + 1) k y (by omega) (by omega) (h1 c)))
    refine br_f (by rw [S.1]; exact nI_ge (by omega) (by omega)) ?_
    have skip : sq_vr P (sy_at P 0 n s) ≠ x → sy_la P n pl x (s + 1) y := by
      intro w
      rcases I with ⟨z1, z2⟩ | ⟨o, z1, z2, z3, z4⟩
      · refine Or.inl ⟨z1, fun s' hs' => ?_⟩
        by_cases q : s' = s
        · subst q; exact w
        · exact z2 s' (by omega)
      · refine Or.inr ⟨o, by omega, z2, z3, fun s' hs' c => ?_⟩
        by_cases q : s' = s
        · subst q; exact absurd c w
        · exact z4 s' (by omega) c
    rcases I with ⟨z1, z2⟩ | ⟨o, z1, z2, z3, z4⟩
    · refine br_t (by rw [z1]; decide) (fin 1 (by omega) skip (fun _ z => by omega) (fun c _ => Or.inr ⟨s, by omega, c, rfl, fun s' hs' c' => ?_⟩))
      by_cases q : s' = s
      · subst q; exact Nat.le_refl _
      · exact absurd c' (z2 s' (by omega))
    · obtain ⟨o1, o2, o3, o4, o5, o6, o7⟩ := yw_st (P := P) (n := n) S ok (s := o) (by omega)
      have p1 := C.1 s hs
      have p2 := C.1 o (by omega)
      refine br_f (by rw [z3]; exact nI_pos (by omega)) (And.intro s5 (And.intro (by rw [z3]; exact o5) ?_))
      have po : a_place y.toNatClampNeg = nI (pl o) := by rw [z3]; exact xw_r o (by omega) rfl p2.1
      rw [xw_r s (by omega) rfl p1.1, po]
      by_cases q : pl s ≤ pl o
      · refine br_t (nI_le q (by omega)) (fin 0 (by omega) skip (fun c _ => Or.inr ⟨o, by omega, z2, z3, fun s' hs' c' => ?_⟩) (fun _ z => by omega))
        by_cases q' : s' = s
        · subst q'; exact q
        · exact z4 s' (by omega) c'
      · refine br_f (nI_ge (by omega) (by omega)) (fin 1 (by omega) skip (fun _ z => by omega) (fun c _ => Or.inr ⟨s, by omega, c, rfl, fun s' hs' c' => ?_⟩))
        by_cases q' : s' = s
        · subst q'; exact Nat.le_refl _
        · have := z4 s' (by omega) c'; omega
theorem yw_on58 (ok : sq_ok P n) (A : yw_P P n f_size a_kinds a_threads a_variables a_values) (S : yw_S P n f_storeCount f_loadCount a_stores a_loads) {pl fo : Nat → Nat} (C : yw_C P n pl fo a_place a_found) {g : Nat → Nat} (O : sq_out P n (sy_Pl P pl) (sy_F P n fo) g) {post : Int32 → Prop} (h : post (nI (sx_en 9 g))) :
    ∀ d x k, x + d = 3 → d < k → wY_outcomeNow_58 post f_size f_fences f_storeCount f_loadCount f_listed f_strictListed a_kinds a_threads a_variables a_values a_stores a_loads a_found a_place a_after a_list a_strictList k (nI (sx_en (6 + x) g)) (nI x) := by
  intro d
  induction d with
  | zero =>
    intro x k e hk
    obtain ⟨k, rfl⟩ : ∃ m, k = m + 1 := ⟨k - 1, by omega⟩
    obtain rfl : x = 3 := by omega
    exact br_t (nI_le (a := 3) (b := 3) (by omega) (by omega)) h
  | succ d ih =>
    intro x k e hk
    obtain ⟨k, rfl⟩ : ∃ m, k = m + 1 := ⟨k - 1, by omega⟩
    exact br_f (nI_ge (b := 3) (by omega) (by omega)) ⟨sy_cn P 0 n + 1, yw_on68 ok A S C O (by omega) (ih (x + 1) k (by omega) (by omega)) (sy_cn P 0 n) 0 (sy_cn P 0 n + 1) (-1) (by omega) (by omega) (Or.inl ⟨rfl, fun s hs => by omega⟩)⟩
theorem yw_on4 (ok : sq_ok P n) (A : yw_P P n f_size a_kinds a_threads a_variables a_values) (S : yw_S P n f_storeCount f_loadCount a_stores a_loads) {pl fo : Nat → Nat} (C : yw_C P n pl fo a_place a_found) {g : Nat → Nat} (O : sq_out P n (sy_Pl P pl) (sy_F P n fo) g) {post : Int32 → Prop} (h : post (nI (sx_en 9 g))) :
    ∀ d q k, q + d = sq_ln P n → d < k → wY_outcomeNow_4 post f_size f_fences f_storeCount f_loadCount f_listed f_strictListed a_kinds a_threads a_variables a_values a_stores a_loads a_found a_place a_after a_list a_strictList k (nI (sx_en q g)) (nI q) := by
  have n6 := ok.1
  have c6 := sy_cn_le P 0 n
  have l6 := sq_ln_le P n
  intro d
  induction d with
  | zero =>
    intro q k e hk
    obtain ⟨k, rfl⟩ : ∃ m, k = m + 1 := ⟨k - 1, by omega⟩
    obtain rfl : q = sq_ln P n := by omega
    -- no further loads
    have z : ∀ i, i + sq_ln P n ≤ 6 → sx_en (sq_ln P n + i) g = sx_en (sq_ln P n) g := by
      intro i
      induction i with
      | zero => intro _; rfl
      | succ i ih =>
        intro hi
        show sx_en (sq_ln P n + i) g + g (sq_ln P n + i) * 4 ^ (sq_ln P n + i) = _
        rw [ih (by omega), O.2.1 (sq_ln P n + i) (by omega) (fun l hl k1 w => by have := sq_ln_lt P hl k1; omega), Nat.zero_mul, Nat.add_zero]
    have := z (6 - sq_ln P n) (by omega)
    rw [show sq_ln P n + (6 - sq_ln P n) = 6 by omega] at this
    rw [← this]
    exact br_t (by rw [S.2.1]; exact nI_le (Nat.le_refl _) (by omega)) ⟨4, yw_on58 ok A S C O h 3 0 4 (by omega) (by omega)⟩
  | succ d ih =>
    intro q k e hk
    obtain ⟨k, rfl⟩ : ∃ m, k = m + 1 := ⟨k - 1, by omega⟩
    have hq : q < sq_ln P n := by omega
    have hq1 := hq
    rw [← sy_ln] at hq1
    obtain ⟨ql1, ql2, ql3⟩ := sy_at_p (P := P) (k := 1) (s := q) (n := n) hq1
    rw [sy_ln] at ql3
    have vq : vp_in (nI q) 6 := vp_in_nI (by omega) (by omega)
    obtain ⟨f1, f2⟩ := C.2 q hq
    have gq : g q = sq_vo P (sy_op P n (fo q)) := by
      have := O.1 _ ql1 ql2
      unfold sy_F at this
      rw [ql3] at this
      exact this
    have es : sx_en (q + 1) g = sx_en q g + g q * 4 ^ q := rfl
    have cf : a_found (nI q).toNatClampNeg = nI (fo q) - 1 := xw_r q (by omega) rfl f1
    refine br_f (by rw [S.2.1]; exact nI_ge (by omega) (by omega)) (And.intro vq ?_)
    rw [cf]
    cases ef : fo q with
    | zero =>
      rw [ef] at gq
      refine br_f (Int32.not_le.mpr yw_neg.1) (nm_r (nI_1 _) ?_)
      have g0 : g q = 0 := gq
      have es' : sx_en (q + 1) g = sx_en q g := by rw [es, g0, Nat.zero_mul]; rfl
      rw [← es']
      exact ih (q + 1) k (by omega) (by omega)
    | succ s =>
      rw [ef] at gq f2
      rw [nI_pred]
      have hs : s < sy_cn P 0 n := by omega
      obtain ⟨s1, s2, s3, s4, s5, s6, s7⟩ := yw_st (P := P) (n := n) S ok hs
      refine br_t (nI_pos' (by omega)) ?_
      show vp_in (nI q) 6 ∧ _
      refine And.intro vq (And.intro s5 ?_)
      rw [s1]
      refine And.intro s6 (nm_r (e' := nI (sx_en (q + 1) g)) ?_ (nm_r (nI_1 _) (ih (q + 1) k (by omega) (by omega))))
      rw [xw_r _ (by omega) rfl (A.2 _ s2).2.2.2, yw_p4 q (by omega), pk_mul, nI_add, es, gq]
      exact congrArg nI (by rw [Nat.mul_comm]; rfl)
theorem yw_outcomeNow (ok : sq_ok P n) (A : yw_P P n f_size a_kinds a_threads a_variables a_values) (S : yw_S P n f_storeCount f_loadCount a_stores a_loads) {pl fo : Nat → Nat} (C : yw_C P n pl fo a_place a_found) {g : Nat → Nat} (O : sq_out P n (sy_Pl P pl) (sy_F P n fo) g) {post : Int32 → Prop} (h : post (nI (sx_en 9 g))) :
    wpY_outcomeNow post (f_size, f_fences, f_storeCount, f_loadCount, f_listed, f_strictListed, a_kinds, a_threads, a_variables, a_values, a_stores, a_loads, a_found, a_place, a_after, a_list, a_strictList) :=
  ⟨sq_ln P n + 1, yw_on4 ok A S C O h (sq_ln P n) 0 (sq_ln P n + 1) (by omega) (by omega)⟩
end
/-! orders -/
def yo_all (c a : Nat) : Bool := decide (a < c)
theorem yo_all_cn (c : Nat) : ∀ a, yo_cn (yo_all c) a = if a < c then a else c := by
  intro a
  induction a with
  | zero => by_cases h : 0 < c
            · rw [if_pos h]; rfl
            · rw [if_neg h]; show 0 = c; omega
  | succ a ih =>
    by_cases h : a < c
    · rw [yo_cn_s (by unfold yo_all; simpa using h), ih, if_pos h]
      by_cases h' : a + 1 < c
      · rw [if_pos h']
      · rw [if_neg h']; omega
    · rw [yo_cn_n (by unfold yo_all; simpa using h), ih, if_neg h, if_neg (by omega)]
theorem yo_fa_pos : ∀ m, 0 < yo_fa m := by
  intro m
  induction m with
  | zero => exact Nat.one_pos
  | succ m ih => exact Nat.mul_pos (by omega) ih
theorem yo_fa6 : ∀ m, m < 7 → yo_fa m ≤ 720 := by decide
/-- the mask without one place -/
theorem yo_mask {m p : Nat} (hm : m < 64) (hp : p < 6) (h : m.testBit p = true) : nI m &&& (((1 : Int32) <<< (nI p &&& 31)) ^^^ (-1)) = nI (m ^^^ 2 ^ p) ∧ m ^^^ 2 ^ p < 64 := by
  have p64 : 2 ^ p < 64 := by
    have : 2 ^ p ≤ 2 ^ 5 := Nat.pow_le_pow_right (by omega) (by omega)
    omega
  refine ⟨?_, Nat.xor_lt_two_pow (n := 6) hm p64⟩
  have e1 : (1 : Int32) <<< (nI p &&& 31) = nI (2 ^ p) := by
    rw [show (1 : Int32) = nI 1 from rfl, pk_shlN _ _ (s_l p (by omega)) (by omega), Nat.one_mul]
  rw [e1]
  apply b_ext
  intro i hi
  rw [b_and, b_xor, b_m1 i hi, bx_nI _ hi, bx_nI _ hi, bx_nI _ hi, Nat.testBit_xor, Nat.testBit_two_pow]
  by_cases c : p = i
  · subst c; rw [h]; simp
  · simp [c]
section
variable {f_size f_fences f_storeCount f_loadCount f_listed f_strictListed : Int32} {a_kinds a_threads a_variables a_values a_stores a_loads a_found a_place a_after a_list a_strictList : Nat → Int32}
variable {sc : Nat}
theorem yw_or54 {f : Nat → Bool} {m r q s p sk : Nat} (hm : m < 64) (hb : ∀ b, b < 6 → (m.testBit b = true ↔ f b = true)) (p6 : p < 6) (fp : f p = true) (cp : yo_cn f p = sk) (s6 : s < 6) {post : Int32 → SY → Prop}
    {J17 : Int32 → Int32 → Int32 → Int32 → (Nat → Int32) → (Nat → Int32) → (Nat → Int32) → (Nat → Int32) → (Nat → Int32) → (Nat → Int32) → (Nat → Int32) → (Nat → Int32) → (Nat → Int32) → (Nat → Int32) → (Nat → Int32) → Prop}
    (hJ : J17 (nI r) (nI q) (nI (m ^^^ 2 ^ p)) (nI (s + 1)) a_kinds a_threads a_variables a_values a_stores a_loads a_found (upd a_place s (nI p)) a_after a_list a_strictList) :
    ∀ d a k, a + d = p → d < k → wY_setOrder_54 post J17 (nI r) (nI q) (nI m) (nI s) f_size f_fences f_storeCount f_loadCount f_listed f_strictListed a_kinds a_threads a_variables a_values a_stores a_loads a_found a_place a_after a_list a_strictList k (nI (sk - yo_cn f a)) (nI a) := by
  have skp : sk ≤ p := by
    rw [← cp]
    have : ∀ a, yo_cn f a ≤ a := by
      intro a
      induction a with
      | zero => exact Nat.le_refl _
      | succ a ih => show yo_cn f a + _ ≤ _; split <;> omega
    exact this p
  have bz : ∀ a, a < 6 → (((nI m >>> (nI a &&& 31)) &&& 1) = 0 ↔ ¬ f a = true) := by
    intro a ha
    rw [pk_shrN (by omega) _ _ (s_l a (by omega)), pk_andN (Nat.lt_of_le_of_lt (Nat.div_le_self _ _) (by omega)) 1 (by decide), show (0 : Int32) = nI 0 from rfl, nI_eq (by omega) (by omega), ← hb a ha, ← yw_tb]
    omega
  intro d
  induction d with
  | zero =>
    intro a k e hk
    obtain ⟨k, rfl⟩ : ∃ m, k = m + 1 := ⟨k - 1, by omega⟩
    obtain rfl : a = p := by omega
    refine br_f (fun z => (bz a p6).mp z fp) (br_t ?_ (And.intro (vp_in_nI s6 (by omega)) ?_))
    · rw [cp, Nat.sub_self]; exact nI_le (a := 0) (b := 0) (by omega) (by omega)
    · rw [nI_clamp (n := s) (by omega)]
      exact nm_e (nm_r (yo_mask hm p6 ((hb a p6).mpr fp)).1 (nm_r (nI_1 _) hJ))
  | succ d ih =>
    intro a k e hk
    obtain ⟨k, rfl⟩ : ∃ m, k = m + 1 := ⟨k - 1, by omega⟩
    have a6 : a < 6 := by omega
    have bt1 := xw_bit (g := m) (k := a) (by omega) (by omega)
    have tb := (yw_tb m a).trans (hb a a6)
    by_cases c : f a = true
    · have lt := yo_cn_lt (b := p) c (by omega)
      refine br_f (fun z => (bz a a6).mp z c) (br_f (nI_nle (by omega) (by omega)) (br_t (bt1.mpr (tb.mpr c)) ?_))
      have := ih (a + 1) k (by omega) (by omega)
      rw [yo_cn_s c] at this
      refine nm_r (e' := nI (sk - (yo_cn f a + 1))) ?_ (nm_r (nI_1 _) this)
      rw [show sk - yo_cn f a = (sk - (yo_cn f a + 1)) + 1 by omega]
      exact nI_pred _
    · refine br_t ((bz a a6).mpr c) (br_f (fun z => c (tb.mp (bt1.mp z))) (nm_r (nI_1 _) ?_))
      have := ih (a + 1) k (by omega) (by omega)
      rw [yo_cn_n c] at this
      exact this
theorem yw_or17 (c6 : sc ≤ 6) (es : f_storeCount = nI sc) {num : Nat} (hn : num < 2 ^ 30) {post : Int32 → SY → Prop}
    (h : ∀ a_place, (∀ s, s < sc → a_place s = nI (yo_pl sc (yo_all sc) num s)) → post (nI (yo_fa sc)) (f_size, f_fences, f_storeCount, f_loadCount, f_listed, f_strictListed, a_kinds, a_threads, a_variables, a_values, a_stores, a_loads, a_found, a_place, a_after, a_list, a_strictList)) :
    ∀ d s k r q m f a_place, s + d = sc → d < k → r < 2 ^ 30 → q * yo_fa d = yo_fa sc → m < 64 → (∀ b, b < 6 → (m.testBit b = true ↔ f b = true)) → yo_cn f 6 = d → (∀ i, i < d → yo_pl d f r i = yo_pl sc (yo_all sc) num (s + i)) →
      (∀ i, i < s → a_place i = nI (yo_pl sc (yo_all sc) num i)) → wY_setOrder_17 post f_size f_fences f_storeCount f_loadCount f_listed f_strictListed k (nI r) (nI q) (nI m) (nI s) a_kinds a_threads a_variables a_values a_stores a_loads a_found a_place a_after a_list a_strictList := by
  intro d
  induction d with
  | zero =>
    intro s k r q m f a_place e hk hr hq hm hb hc hp ha
    obtain ⟨k, rfl⟩ : ∃ m, k = m + 1 := ⟨k - 1, by omega⟩
    obtain rfl : s = sc := by omega
    have : q = yo_fa s := by rw [← hq]; show q = q * 1; omega
    rw [this]
    exact br_t (by rw [es]; exact nI_le (Nat.le_refl _) (by omega)) (h a_place ha)
  | succ d ih =>
    intro s k r q m f a_place e hk hr hq hm hb hc hp ha
    obtain ⟨k, rfl⟩ : ∃ m, k = m + 1 := ⟨k - 1, by omega⟩
    have e6 : f_storeCount - nI s = nI (d + 1) := by rw [es, pk_sub (by omega)]; exact congrArg nI (by omega)
    have ne : ¬ nI (d + 1) = 0 := nI_ne0 (by omega) (by omega)
    refine br_f (by rw [es]; exact nI_ge (by omega) (by omega)) (nm_r e6 (And.intro ne ?_))
    refine nm_r (pk_rem (by omega) (by omega) (by omega)) (And.intro ne (nm_r (pk_div (by omega) (by omega) (by omega)) (nm_r (pk_mul _ _) ?_)))
    obtain ⟨s1, s2, s3⟩ := yo_sel_p (f := f) (s := r % (d + 1)) (n := 6) (by rw [hc]; exact Nat.mod_lt _ (by omega))
    have p0 : yo_sel f 6 (r % (d + 1)) = yo_pl sc (yo_all sc) num s := hp 0 (by omega)
    refine ⟨yo_sel f 6 (r % (d + 1)) + 1, yw_or54 hm hb s1 s2 s3 (by omega) ?_ (yo_sel f 6 (r % (d + 1))) 0 (yo_sel f 6 (r % (d + 1)) + 1) (by omega) (by omega)⟩
    have mk := yo_mask hm s1 ((hb _ s1).mpr s2)
    refine ih (s + 1) k (r / (d + 1)) (q * (d + 1)) (m ^^^ 2 ^ yo_sel f 6 (r % (d + 1))) (yo_rm f (yo_sel f 6 (r % (d + 1)))) _ (by omega) (by omega) (Nat.lt_of_le_of_lt (Nat.div_le_self _ _) hr) ?_ mk.2 (fun b hb' => ?_) ?_ (fun i hi => ?_) (fun i hi => ?_)
    · rw [← hq, Nat.mul_assoc]; rfl
    · rw [Nat.testBit_xor, Nat.testBit_two_pow, yo_rm_t, ← hb b hb']
      by_cases c : b = yo_sel f 6 (r % (d + 1))
      · have := (hb _ s1).mpr s2
        rw [c, this]; simp
      · have : ¬ yo_sel f 6 (r % (d + 1)) = b := fun z => c z.symm
        simp [this, c]
    · have := yo_rm_cn s2 6
      rw [if_pos s1] at this
      omega
    · have := hp (i + 1) (by omega)
      rw [show s + 1 + i = s + (i + 1) by omega, ← this]; rfl
    · by_cases c : i = s
      · subst c; rw [pk_us, p0]
      · rw [pk_un c]; exact ha i (by omega)
theorem yw_setOrder (c6 : sc ≤ 6) (es : f_storeCount = nI sc) {num : Nat} (hn : num < 2 ^ 30) {post : Int32 → SY → Prop}
    (h : ∀ a_place, (∀ s, s < sc → a_place s = nI (yo_pl sc (yo_all sc) num s)) → post (nI (yo_fa sc)) (f_size, f_fences, f_storeCount, f_loadCount, f_listed, f_strictListed, a_kinds, a_threads, a_variables, a_values, a_stores, a_loads, a_found, a_place, a_after, a_list, a_strictList)) : wpY_setOrder post (f_size, f_fences, f_storeCount, f_loadCount, f_listed, f_strictListed, a_kinds, a_threads, a_variables, a_values, a_stores, a_loads, a_found, a_place, a_after, a_list, a_strictList) (nI num) := by
  have p64 : 2 ^ sc ≤ 64 := by
    have : 2 ^ sc ≤ 2 ^ 6 := Nat.pow_le_pow_right (by omega) c6
    omega
  have p1 : 0 < 2 ^ sc := Nat.pow_pos (by omega)
  have em : ((1 : Int32) <<< (f_storeCount &&& 31)) - 1 = nI (2 ^ sc - 1) := by
    rw [es, show (1 : Int32) = nI 1 from rfl, pk_shlN _ _ (s_l sc (by omega)) (by omega), Nat.one_mul, pk_sub (by omega)]
  refine nm_r em ⟨sc + 1, yw_or17 c6 es hn h sc 0 (sc + 1) num 1 (2 ^ sc - 1) (yo_all sc) a_place (by omega) (by omega) hn (by omega) (by omega) (fun b hb => ?_) ?_ (fun i hi => by rw [Nat.zero_add]) (fun i hi => by omega)⟩
  · rw [Nat.testBit_two_pow_sub_one]; rfl
  · rw [yo_all_cn]; split <;> omega
theorem yw_fo7 {lc : Nat} (c6 : sc ≤ 6) (l6 : lc ≤ 6) (es : f_storeCount = nI sc) (el : f_loadCount = nI lc) {num : Nat} {post : Int32 → SY → Prop}
    (h : ∀ a_found, (∀ k, k < lc → a_found k = nI (yo_dg (sc + 1) num k) - 1) → post (nI ((sc + 1) ^ lc)) (f_size, f_fences, f_storeCount, f_loadCount, f_listed, f_strictListed, a_kinds, a_threads, a_variables, a_values, a_stores, a_loads, a_found, a_place, a_after, a_list, a_strictList)) :
    ∀ d q k r a_found, q + d = lc → d < k → r < 2 ^ 30 → (∀ i, yo_dg (sc + 1) r i = yo_dg (sc + 1) num (q + i)) → (∀ i, i < q → a_found i = nI (yo_dg (sc + 1) num i) - 1) → wY_setFound_7 post f_size f_fences f_storeCount f_loadCount f_listed f_strictListed k (nI r) (nI ((sc + 1) ^ q)) (nI q) a_kinds a_threads a_variables a_values a_stores a_loads a_found a_place a_after a_list a_strictList := by
  intro d
  induction d with
  | zero =>
    intro q k r a_found e hk hr hp ha
    obtain ⟨k, rfl⟩ : ∃ m, k = m + 1 := ⟨k - 1, by omega⟩
    obtain rfl : q = lc := by omega
    exact br_t (by rw [el]; exact nI_le (Nat.le_refl _) (by omega)) (h a_found ha)
  | succ d ih =>
    intro q k r a_found e hk hr hp ha
    obtain ⟨k, rfl⟩ : ∃ m, k = m + 1 := ⟨k - 1, by omega⟩
    have e6 : f_storeCount + 1 = nI (sc + 1) := by rw [es]; exact nI_1 _
    have ne : ¬ nI (sc + 1) = 0 := nI_ne0 (by omega) (by omega)
    refine br_f (by rw [el]; exact nI_ge (by omega) (by omega)) ?_
    rw [e6]
    refine And.intro ne (And.intro (vp_in_nI (by omega) (by omega)) ?_)
    rw [nI_clamp (n := q) (by omega), pk_rem (by omega) (by omega) (by omega), pk_div (by omega) (by omega) (by omega), pk_mul]
    refine nm_e (And.intro ne (nm_e (nm_e (nm_r (nI_1 _) ?_))))
    rw [← Nat.pow_succ]
    refine ih (q + 1) k (r / (sc + 1)) _ (by omega) (by omega) (Nat.lt_of_le_of_lt (Nat.div_le_self _ _) hr) (fun i => ?_) (fun i hi => ?_)
    · rw [show q + 1 + i = q + (i + 1) by omega, ← hp (i + 1)]; rfl
    · by_cases c : i = q
      · subst c
        rw [pk_us, show yo_dg (sc + 1) num i = r % (sc + 1) from (hp 0).symm]
      · rw [pk_un c]; exact ha i (by omega)
theorem yw_setFound {lc : Nat} (c6 : sc ≤ 6) (l6 : lc ≤ 6) (es : f_storeCount = nI sc) (el : f_loadCount = nI lc) {num : Nat} (hn : num < 2 ^ 30) {post : Int32 → SY → Prop}
    (h : ∀ a_found, (∀ k, k < lc → a_found k = nI (yo_dg (sc + 1) num k) - 1) → post (nI ((sc + 1) ^ lc)) (f_size, f_fences, f_storeCount, f_loadCount, f_listed, f_strictListed, a_kinds, a_threads, a_variables, a_values, a_stores, a_loads, a_found, a_place, a_after, a_list, a_strictList)) : wpY_setFound post (f_size, f_fences, f_storeCount, f_loadCount, f_listed, f_strictListed, a_kinds, a_threads, a_variables, a_values, a_stores, a_loads, a_found, a_place, a_after, a_list, a_strictList) (nI num) :=
  ⟨lc + 1, yw_fo7 c6 l6 es el h lc 0 (lc + 1) num a_found (by omega) (by omega) hn (fun i => by rw [Nat.zero_add]) (fun i hi => by omega)⟩
end
end
section
/-! Y: note (printed by tools/gen28.py, once a list) -/
def yw_O (o : Nat → Nat) (c : Nat) (cnt : Int32) (ar : Nat → Int32) : Prop :=
  cnt = nI c ∧ c ≤ 720 ∧ (∀ i j, i < j → j < c → o i < o j) ∧ ∀ i, i < c → ar i = nI (o i) ∧ o i < 4 ^ 9
section
variable {f_size f_fences f_storeCount f_loadCount f_listed f_strictListed : Int32} {a_kinds a_threads a_variables a_values a_stores a_loads a_found a_place a_after a_list a_strictList : Nat → Int32}
theorem yw_nt910 {o : Nat → Nat} {c m t : Nat} (hc : c < 720) (ht : t ≤ c) (ec : f_listed = nI c) {post : SY → Prop}
    (h : ∀ a_list, (∀ j, j < c + 1 → a_list j = nI (so_ins o t m j)) → post (f_size, f_fences, f_storeCount, f_loadCount, nI (c + 1), f_strictListed, a_kinds, a_threads, a_variables, a_values, a_stores, a_loads, a_found, a_place, a_after, a_list, a_strictList)) :
    ∀ d k f a_list, t + d = k → k ≤ c → d < f → (∀ j, j < k → a_list j = nI (o j)) → (∀ j, k < j → j < c + 1 → a_list j = nI (o (j - 1))) → wY_note_91 post (nI m) (nI 0) (nI t) f_size f_fences f_storeCount f_loadCount f_listed f_strictListed f (nI k) a_kinds a_threads a_variables a_values a_stores a_loads a_found a_place a_after a_list a_strictList := by
  intro d
  induction d with
  | zero =>
    intro k f a_list e hk hf e1 e2
    obtain ⟨f, rfl⟩ : ∃ m, f = m + 1 := ⟨f - 1, by omega⟩
    obtain rfl : k = t := by omega
    refine br_t (nI_le (Nat.le_refl _) (by omega)) (br_t nI_0 (And.intro (vp_in_nI (by omega) (by omega)) (nm_e (nm_r (e' := nI (c + 1)) (by rw [ec]; exact nI_1 _) ?_))))
    rw [nI_clamp (n := k) (by omega)]
    refine h _ (fun j hj => ?_)
    unfold so_ins
    by_cases a : j < k
    · rw [if_pos a, pk_un (by omega)]; exact e1 j a
    · rw [if_neg a]
      by_cases b : j = k
      · subst b; rw [if_pos rfl, pk_us]
      · rw [if_neg b, pk_un b]; exact e2 j (by omega) hj
  | succ d ih =>
    intro k f a_list e hk hf e1 e2
    obtain ⟨f, rfl⟩ : ∃ m, f = m + 1 := ⟨f - 1, by omega⟩
    obtain ⟨k, rfl⟩ : ∃ m, k = m + 1 := ⟨k - 1, by omega⟩
    have vk : vp_in (nI (k + 1) - 1) 720 := by rw [nI_pred]; exact vp_in_nI (by omega) (by omega)
    have ck : a_list (nI (k + 1) - 1).toNatClampNeg = nI (o k) := by rw [nI_pred, nI_clamp (by omega)]; exact e1 k (by omega)
    refine br_f (nI_ge (by omega) (by omega)) (br_t nI_0 (And.intro vk (And.intro (vp_in_nI (by omega) (by omega)) ?_)))
    rw [ck, nI_clamp (n := k + 1) (by omega)]
    refine nm_e (nm_r (pk_m1 k) (ih k f _ (by omega) (by omega) (by omega) (fun j hj => ?_) (fun j j1 j2 => ?_)))
    · rw [pk_un (by omega)]; exact e1 j (by omega)
    · by_cases y : j = k + 1
      · subst y; rw [pk_us]; exact congrArg (fun q => nI (o q)) (by omega)
      · rw [pk_un y]; exact e2 j (by omega) j2
theorem yw_nt190 {o : Nat → Nat} {c m : Nat} (O : yw_O o c f_listed a_list) (hm : m < 4 ^ 9) (cap : (∀ i, i < c → o i ≠ m) → c < 720) {post : SY → Prop}
    (h : ∀ o' c' f_listed a_list, yw_O o' c' f_listed a_list → (∀ x, (∃ i, i < c' ∧ o' i = x) ↔ (∃ i, i < c ∧ o i = x) ∨ x = m) → post (f_size, f_fences, f_storeCount, f_loadCount, f_listed, f_strictListed, a_kinds, a_threads, a_variables, a_values, a_stores, a_loads, a_found, a_place, a_after, a_list, a_strictList)) :
    ∀ d t f, t + d = c → d < f → (∀ j, j < t → o j < m) → wY_note_19 post (nI m) (nI 0) (nI c) f_size f_fences f_storeCount f_loadCount f_listed f_strictListed a_kinds a_threads a_variables a_values a_stores a_loads a_found a_place a_after a_list a_strictList f (nI t) := by
  have O' := O
  obtain ⟨q1, q2, q3, q4⟩ := O
  -- putting it in at t
  have put : ∀ t, t ≤ c → (∀ j, j < t → o j < m) → (∀ j, t ≤ j → j < c → m < o j) → ∃ n91 : Nat, wY_note_91 post (nI m) (nI 0) (nI t) f_size f_fences f_storeCount f_loadCount f_listed f_strictListed n91 (nI c) a_kinds a_threads a_variables a_values a_stores a_loads a_found a_place a_after a_list a_strictList := by
    intro t ht lo hi
    have nw : ∀ i, i < c → o i ≠ m := fun i hi' e => by
      by_cases z : i < t
      · have := lo i z; omega
      · have := hi i (by omega) hi'; omega
    have cl := cap nw
    refine ⟨c - t + 1, yw_nt910 cl ht q1 (fun a_list e => h (so_ins o t m) (c + 1) _ _ ⟨rfl, by omega, so_ins_s ht q3 lo hi, fun i hi' => ⟨e i hi', ?_⟩⟩ (fun x => so_ins_m ht x)) (c - t) c (c - t + 1) a_list (by omega) (Nat.le_refl _) (by omega) (fun j hj => (q4 j hj).1) (fun j j1 j2 => by omega)⟩
    unfold so_ins
    split
    · exact (q4 i (by omega)).2
    · split
      · exact hm
      · exact (q4 (i - 1) (by omega)).2
  -- the place is found
  have fin : ∀ t, t ≤ c → (∀ j, j < t → o j < m) → (t < c → m ≤ o t) → wY_note_56 post (nI m) (nI 0) (nI c) (nI t) f_size f_fences f_storeCount f_loadCount f_listed f_strictListed a_kinds a_threads a_variables a_values a_stores a_loads a_found a_place a_after a_list a_strictList := by
    intro t ht lo hi
    by_cases c0 : c ≤ t
    · exact br_t (nI_le c0 (by omega)) (put t ht lo (fun j j1 j2 => by omega))
    · refine br_f (nI_ge (by omega) (by omega)) (br_t nI_0 (And.intro (vp_in_nI (by omega) (by omega)) ?_))
      have oi := q4 t (by omega)
      rw [xw_r t (by omega) rfl oi.1]
      by_cases z : o t = m
      · refine br_t (congrArg nI z) (h o c _ _ O' (fun x => ⟨Or.inl, ?_⟩))
        rintro (r | r)
        · exact r
        · exact ⟨t, by omega, by rw [r]; exact z⟩
      · refine br_f (fun w => z ((nI_eq (by omega) (by omega)).mp w)) (put t ht lo (fun j j1 j2 => ?_))
        have := hi (by omega)
        by_cases y : j = t
        · subst y; omega
        · have := q3 t j (by omega) j2; omega
  intro d
  induction d with
  | zero =>
    intro t f e hf lo
    obtain ⟨f, rfl⟩ : ∃ m, f = m + 1 := ⟨f - 1, by omega⟩
    exact br_t (nI_le (by omega) (by omega)) (fin t (by omega) lo (fun z => by omega))
  | succ d ih =>
    intro t f e hf lo
    obtain ⟨f, rfl⟩ : ∃ m, f = m + 1 := ⟨f - 1, by omega⟩
    have oi := q4 t (by omega)
    refine br_f (nI_ge (by omega) (by omega)) (br_t nI_0 (And.intro (vp_in_nI (by omega) (by omega)) ?_))
    rw [xw_r t (by omega) rfl oi.1]
    by_cases z : m ≤ o t
    · exact br_t (nI_le z (by omega)) (fin t (by omega) lo (fun _ => z))
    · refine br_f (nI_ge (by omega) (by omega)) (nm_r (nI_1 _) (ih (t + 1) f (by omega) (by omega) (fun j hj => ?_)))
      by_cases y : j = t
      · subst y; omega
      · exact lo j (by omega)
theorem yw_note0 {o : Nat → Nat} {c m : Nat} (O : yw_O o c f_listed a_list) (hm : m < 4 ^ 9) (cap : (∀ i, i < c → o i ≠ m) → c < 720) {post : SY → Prop}
    (h : ∀ o' c' f_listed a_list, yw_O o' c' f_listed a_list → (∀ x, (∃ i, i < c' ∧ o' i = x) ↔ (∃ i, i < c ∧ o i = x) ∨ x = m) → post (f_size, f_fences, f_storeCount, f_loadCount, f_listed, f_strictListed, a_kinds, a_threads, a_variables, a_values, a_stores, a_loads, a_found, a_place, a_after, a_list, a_strictList)) : wpY_note post (f_size, f_fences, f_storeCount, f_loadCount, f_listed, f_strictListed, a_kinds, a_threads, a_variables, a_values, a_stores, a_loads, a_found, a_place, a_after, a_list, a_strictList) (nI m) (nI 0) := by
  refine br_t nI_0 ⟨c + 1, ?_⟩
  have main := yw_nt190 (post := post) O hm cap h c 0 (c + 1) (by omega) (by omega) (fun j hj => by omega)
  rw [O.1] at main ⊢
  exact main
theorem yw_nt911 {o : Nat → Nat} {c m t : Nat} (hc : c < 720) (ht : t ≤ c) (ec : f_strictListed = nI c) {post : SY → Prop}
    (h : ∀ a_strictList, (∀ j, j < c + 1 → a_strictList j = nI (so_ins o t m j)) → post (f_size, f_fences, f_storeCount, f_loadCount, f_listed, nI (c + 1), a_kinds, a_threads, a_variables, a_values, a_stores, a_loads, a_found, a_place, a_after, a_list, a_strictList)) :
    ∀ d k f a_strictList, t + d = k → k ≤ c → d < f → (∀ j, j < k → a_strictList j = nI (o j)) → (∀ j, k < j → j < c + 1 → a_strictList j = nI (o (j - 1))) → wY_note_91 post (nI m) (nI 1) (nI t) f_size f_fences f_storeCount f_loadCount f_listed f_strictListed f (nI k) a_kinds a_threads a_variables a_values a_stores a_loads a_found a_place a_after a_list a_strictList := by
  intro d
  induction d with
  | zero =>
    intro k f a_strictList e hk hf e1 e2
    obtain ⟨f, rfl⟩ : ∃ m, f = m + 1 := ⟨f - 1, by omega⟩
    obtain rfl : k = t := by omega
    refine br_t (nI_le (Nat.le_refl _) (by omega)) (br_f (by decide) (And.intro (vp_in_nI (by omega) (by omega)) (nm_e (nm_r (e' := nI (c + 1)) (by rw [ec]; exact nI_1 _) ?_))))
    rw [nI_clamp (n := k) (by omega)]
    refine h _ (fun j hj => ?_)
    unfold so_ins
    by_cases a : j < k
    · rw [if_pos a, pk_un (by omega)]; exact e1 j a
    · rw [if_neg a]
      by_cases b : j = k
      · subst b; rw [if_pos rfl, pk_us]
      · rw [if_neg b, pk_un b]; exact e2 j (by omega) hj
  | succ d ih =>
    intro k f a_strictList e hk hf e1 e2
    obtain ⟨f, rfl⟩ : ∃ m, f = m + 1 := ⟨f - 1, by omega⟩
    obtain ⟨k, rfl⟩ : ∃ m, k = m + 1 := ⟨k - 1, by omega⟩
    have vk : vp_in (nI (k + 1) - 1) 720 := by rw [nI_pred]; exact vp_in_nI (by omega) (by omega)
    have ck : a_strictList (nI (k + 1) - 1).toNatClampNeg = nI (o k) := by rw [nI_pred, nI_clamp (by omega)]; exact e1 k (by omega)
    refine br_f (nI_ge (by omega) (by omega)) (br_f (by decide) (And.intro vk (And.intro (vp_in_nI (by omega) (by omega)) ?_)))
    rw [ck, nI_clamp (n := k + 1) (by omega)]
    refine nm_e (nm_r (pk_m1 k) (ih k f _ (by omega) (by omega) (by omega) (fun j hj => ?_) (fun j j1 j2 => ?_)))
    · rw [pk_un (by omega)]; exact e1 j (by omega)
    · by_cases y : j = k + 1
      · subst y; rw [pk_us]; exact congrArg (fun q => nI (o q)) (by omega)
      · rw [pk_un y]; exact e2 j (by omega) j2
theorem yw_nt191 {o : Nat → Nat} {c m : Nat} (O : yw_O o c f_strictListed a_strictList) (hm : m < 4 ^ 9) (cap : (∀ i, i < c → o i ≠ m) → c < 720) {post : SY → Prop}
    (h : ∀ o' c' f_strictListed a_strictList, yw_O o' c' f_strictListed a_strictList → (∀ x, (∃ i, i < c' ∧ o' i = x) ↔ (∃ i, i < c ∧ o i = x) ∨ x = m) → post (f_size, f_fences, f_storeCount, f_loadCount, f_listed, f_strictListed, a_kinds, a_threads, a_variables, a_values, a_stores, a_loads, a_found, a_place, a_after, a_list, a_strictList)) :
    ∀ d t f, t + d = c → d < f → (∀ j, j < t → o j < m) → wY_note_19 post (nI m) (nI 1) (nI c) f_size f_fences f_storeCount f_loadCount f_listed f_strictListed a_kinds a_threads a_variables a_values a_stores a_loads a_found a_place a_after a_list a_strictList f (nI t) := by
  have O' := O
  obtain ⟨q1, q2, q3, q4⟩ := O
  -- putting it in at t
  have put : ∀ t, t ≤ c → (∀ j, j < t → o j < m) → (∀ j, t ≤ j → j < c → m < o j) → ∃ n91 : Nat, wY_note_91 post (nI m) (nI 1) (nI t) f_size f_fences f_storeCount f_loadCount f_listed f_strictListed n91 (nI c) a_kinds a_threads a_variables a_values a_stores a_loads a_found a_place a_after a_list a_strictList := by
    intro t ht lo hi
    have nw : ∀ i, i < c → o i ≠ m := fun i hi' e => by
      by_cases z : i < t
      · have := lo i z; omega
      · have := hi i (by omega) hi'; omega
    have cl := cap nw
    refine ⟨c - t + 1, yw_nt911 cl ht q1 (fun a_strictList e => h (so_ins o t m) (c + 1) _ _ ⟨rfl, by omega, so_ins_s ht q3 lo hi, fun i hi' => ⟨e i hi', ?_⟩⟩ (fun x => so_ins_m ht x)) (c - t) c (c - t + 1) a_strictList (by omega) (Nat.le_refl _) (by omega) (fun j hj => (q4 j hj).1) (fun j j1 j2 => by omega)⟩
    unfold so_ins
    split
    · exact (q4 i (by omega)).2
    · split
      · exact hm
      · exact (q4 (i - 1) (by omega)).2
  -- the place is found
  have fin : ∀ t, t ≤ c → (∀ j, j < t → o j < m) → (t < c → m ≤ o t) → wY_note_56 post (nI m) (nI 1) (nI c) (nI t) f_size f_fences f_storeCount f_loadCount f_listed f_strictListed a_kinds a_threads a_variables a_values a_stores a_loads a_found a_place a_after a_list a_strictList := by
    intro t ht lo hi
    by_cases c0 : c ≤ t
    · exact br_t (nI_le c0 (by omega)) (put t ht lo (fun j j1 j2 => by omega))
    · refine br_f (nI_ge (by omega) (by omega)) (br_f (by decide) (And.intro (vp_in_nI (by omega) (by omega)) ?_))
      have oi := q4 t (by omega)
      rw [xw_r t (by omega) rfl oi.1]
      by_cases z : o t = m
      · refine br_t (congrArg nI z) (h o c _ _ O' (fun x => ⟨Or.inl, ?_⟩))
        rintro (r | r)
        · exact r
        · exact ⟨t, by omega, by rw [r]; exact z⟩
      · refine br_f (fun w => z ((nI_eq (by omega) (by omega)).mp w)) (put t ht lo (fun j j1 j2 => ?_))
        have := hi (by omega)
        by_cases y : j = t
        · subst y; omega
        · have := q3 t j (by omega) j2; omega
  intro d
  induction d with
  | zero =>
    intro t f e hf lo
    obtain ⟨f, rfl⟩ : ∃ m, f = m + 1 := ⟨f - 1, by omega⟩
    exact br_t (nI_le (by omega) (by omega)) (fin t (by omega) lo (fun z => by omega))
  | succ d ih =>
    intro t f e hf lo
    obtain ⟨f, rfl⟩ : ∃ m, f = m + 1 := ⟨f - 1, by omega⟩
    have oi := q4 t (by omega)
    refine br_f (nI_ge (by omega) (by omega)) (br_f (by decide) (And.intro (vp_in_nI (by omega) (by omega)) ?_))
    rw [xw_r t (by omega) rfl oi.1]
    by_cases z : m ≤ o t
    · exact br_t (nI_le z (by omega)) (fin t (by omega) lo (fun _ => z))
    · refine br_f (nI_ge (by omega) (by omega)) (nm_r (nI_1 _) (ih (t + 1) f (by omega) (by omega) (fun j hj => ?_)))
      by_cases y : j = t
      · subst y; omega
      · exact lo j (by omega)
theorem yw_note1 {o : Nat → Nat} {c m : Nat} (O : yw_O o c f_strictListed a_strictList) (hm : m < 4 ^ 9) (cap : (∀ i, i < c → o i ≠ m) → c < 720) {post : SY → Prop}
    (h : ∀ o' c' f_strictListed a_strictList, yw_O o' c' f_strictListed a_strictList → (∀ x, (∃ i, i < c' ∧ o' i = x) ↔ (∃ i, i < c ∧ o i = x) ∨ x = m) → post (f_size, f_fences, f_storeCount, f_loadCount, f_listed, f_strictListed, a_kinds, a_threads, a_variables, a_values, a_stores, a_loads, a_found, a_place, a_after, a_list, a_strictList)) : wpY_note post (f_size, f_fences, f_storeCount, f_loadCount, f_listed, f_strictListed, a_kinds, a_threads, a_variables, a_values, a_stores, a_loads, a_found, a_place, a_after, a_list, a_strictList) (nI m) (nI 1) := by
  refine br_f (by decide) ⟨c + 1, ?_⟩
  have main := yw_nt191 (post := post) O hm cap h c 0 (c + 1) (by omega) (by omega) (fun j hj => by omega)
  rw [O.1] at main ⊢
  exact main
end
end
section
/-! Y: going over all orders and choices gives all outcomes -/
theorem sq_mf_cg {P : sq_PG} {n : Nat} {Pl Pl' : Nat → Nat} {F F' : Nat → Option Nat} (hP : ∀ j, j < n → sq_kd P j = 0 → Pl' j = Pl j) (hF : ∀ l, l < n → sq_kd P l = 1 → F' l = F l) (h : sq_mf P n Pl F) : sq_mf P n Pl' F' := by
  intro l hl k1
  obtain ⟨h1, h2⟩ := h l hl k1
  rw [hF l hl k1]
  refine ⟨h1, fun s hs => ?_⟩
  obtain ⟨q1, q2, q3, q4, q5⟩ := h2 s hs
  refine ⟨q1, q2, q3, q4, fun o ho => ?_⟩
  have := q5 o ho
  obtain ⟨o1, o2, o3, o4, _⟩ := sq_own_some ho
  rw [hP o (by omega) o3, hP s q1 q2]
  exact this
theorem sq_af_cg {P : sq_PG} {n : Nat} {pp : Nat → Nat → Prop} {str : Prop} {Pl Pl' : Nat → Nat} {F F' : Nat → Option Nat} (hP : ∀ j, j < n → sq_kd P j = 0 → Pl' j = Pl j) (hF : ∀ l, l < n → sq_kd P l = 1 → F' l = F l)
    (hs : ∀ l, l < n → sq_kd P l = 1 → ∀ s, F l = some s → s < n ∧ sq_kd P s = 0) {a b : Nat} (ha : a < n) (hb : b < n) (h : sq_af P pp str Pl' F' a b) : sq_af P pp str Pl F a b := by
  rcases h with h | ⟨h1, h2, h3, h4⟩ | ⟨h1, h2, h3⟩ | ⟨h1, h2, h3, h4⟩
  · exact Or.inl h
  · rw [hP a ha h1, hP b hb h2] at h4
    exact Or.inr (Or.inl ⟨h1, h2, h3, h4⟩)
  · rw [hF b hb h1] at h2
    exact Or.inr (Or.inr (Or.inl ⟨h1, h2, h3⟩))
  · refine Or.inr (Or.inr (Or.inr ⟨h1, h2, h3, fun s e => ?_⟩))
    have := h4 s (by rw [hF a ha h1]; exact e)
    obtain ⟨s1, s2⟩ := hs a ha h1 s e
    rw [hP s s1 s2, hP b hb h2] at this
    exact this
theorem sq_out_cg {P : sq_PG} {n : Nat} {Pl Pl' : Nat → Nat} {F F' : Nat → Option Nat} {g : Nat → Nat} (hP : ∀ j, j < n → sq_kd P j = 0 → Pl' j = Pl j) (hF : ∀ l, l < n → sq_kd P l = 1 → F' l = F l) (h : sq_out P n Pl F g) : sq_out P n Pl' F' g := by
  obtain ⟨h1, h2, h3, h4⟩ := h
  refine ⟨fun l hl k1 => ?_, h2, h3, fun m hm k0 hmax => h4 m hm k0 (fun j hj kj kx => ?_)⟩
  · rw [hF l hl k1]; exact h1 l hl k1
  · have := hmax j hj kj kx
    rw [hP j hj kj, hP m hm k0] at this
    exact this
theorem sq_hs_len (P : sq_PG) : ∀ n, (sq_hs P (List.range n)).length = sy_cn P 0 n := by
  intro n
  induction n with
  | zero => rfl
  | succ n ih =>
    unfold sq_hs at ih ⊢
    rw [List.range_succ, List.filter_append, List.length_append, ih]
    show _ = sy_cn P 0 n + (if sq_kd P n = 0 then 1 else 0)
    by_cases c : sq_kd P n = 0
    · rw [if_pos c, List.filter_cons_of_pos (by simpa using c)]; rfl
    · rw [if_neg c, List.filter_cons_of_neg (by simpa using c)]; rfl
/-- the order and the choice of a number -/
def sy_pl (P : sq_PG) (n q : Nat) : Nat → Nat := yo_pl (sy_cn P 0 n) (yo_all (sy_cn P 0 n)) (q / (sy_cn P 0 n + 1) ^ sq_ln P n)
def sy_fo (P : sq_PG) (n q : Nat) : Nat → Nat := yo_dg (sy_cn P 0 n + 1) (q % (sy_cn P 0 n + 1) ^ sq_ln P n)
def sy_q (P : sq_PG) (n g : Nat) (str : Prop) (q m : Nat) : Prop :=
  sy_al P n g str (sy_pl P n q) (sy_fo P n q) ∧ ∃ gg, sq_out P n (sy_Pl P (sy_pl P n q)) (sy_F P n (sy_fo P n q)) gg ∧ m = sx_en 9 gg
theorem sy_pl_p {P : sq_PG} {n : Nat} (n6 : n ≤ 6) (q : Nat) : (∀ s, s < sy_cn P 0 n → sy_pl P n q s < 6) ∧ ∀ i j, i < sy_cn P 0 n → j < sy_cn P 0 n → sy_pl P n q i = sy_pl P n q j → i = j := by
  have c6 := sy_cn_le P 0 n
  have e : yo_cn (yo_all (sy_cn P 0 n)) 6 = sy_cn P 0 n := by rw [yo_all_cn]; split <;> omega
  obtain ⟨h1, h2⟩ := yo_pl_p (sy_cn P 0 n) (yo_all (sy_cn P 0 n)) (q / (sy_cn P 0 n + 1) ^ sq_ln P n) e
  exact ⟨fun s hs => (h1 s hs).1, h2⟩
theorem sq_pp2 {P : sq_PG} {n : Nat} {G : Nat → Bool} {str : Prop} : ∀ a b, a < b → b < n → sq_th P a = sq_th P b → ¬ (sq_kd P a = 0 ∧ sq_kd P b = 1) → sq_pp P G str a b :=
  fun _ _ ab _ e h => ⟨ab, e, fun c => h ⟨c.1, c.2.1⟩⟩
theorem sy_al_out {P : sq_PG} {n g : Nat} {str : Prop} (ok : sq_ok P n) {q : Nat} (h : sy_al P n g str (sy_pl P n q) (sy_fo P n q)) :
    ∃ H, sq_full n (sq_pp P (yw_G g) str) H ∧ sq_out P n (sy_Pl P (sy_pl P n q)) (sy_F P n (sy_fo P n q)) (sq_dg P H) := by
  obtain ⟨mf, S, tr, ir, sub⟩ := h
  refine sq_Y1 (str := str) ok.1 sq_pp2 (fun a b ha hb ka kb e => ?_) mf tr ir (fun a b ha hb af => sub a b ha hb ⟨ha, hb, af⟩)
  exact sy_cn_inj ka kb ((sy_pl_p ok.1 q).2 _ _ (sy_cn_lt ka ha) (sy_cn_lt kb hb) e)
theorem sy_q_mid {P : sq_PG} {n g : Nat} {str : Prop} (ok : sq_ok P n) {q m : Nat} (h : sy_q P n g str q m) : sq_mid P n (yw_G g) str m := by
  obtain ⟨al, gg, o1, o2⟩ := h
  obtain ⟨H, f, o3⟩ := sy_al_out ok al
  exact ⟨H, f, by rw [o2]; exact sq_out_uq o1 o3⟩
theorem sy_mid_q {P : sq_PG} {n g : Nat} {str : Prop} (ok : sq_ok P n) {m : Nat} (h : sq_mid P n (yw_G g) str m) : ∃ q, q < yo_fa (sy_cn P 0 n) * (sy_cn P 0 n + 1) ^ sq_ln P n ∧ sy_q P n g str q m := by
  obtain ⟨H, f, em⟩ := h
  have n6 := ok.1
  have c6 := sy_cn_le P 0 n
  obtain ⟨inj, bd, mf, af, out⟩ := sq_Y2 (str := str) n6 (fun a b (z : sq_pp P (yw_G g) str a b) => Nat.ne_of_lt z.1) sq_pp2 (fun st a b ab _ e => ⟨ab, e, fun c => c.2.2.1 st⟩) f
  rw [sq_hs_len] at bd
  have e6 : yo_cn (yo_all (sy_cn P 0 n)) 6 = sy_cn P 0 n := by rw [yo_all_cn]; split <;> omega
  obtain ⟨r1, hr1, p1⟩ := yo_pl_all (sy_cn P 0 n) (yo_all (sy_cn P 0 n)) (fun s => sq_pl P H (sy_at P 0 n s)) e6 (fun s hs => by
      obtain ⟨q1, q2, q3⟩ := sy_at_p (P := P) (k := 0) (s := s) (n := n) hs
      have := bd _ q1 q2
      exact ⟨by omega, by unfold yo_all; simpa using this⟩) (fun i j hi hj e => by
      obtain ⟨q1, q2, q3⟩ := sy_at_p (P := P) (k := 0) (s := i) (n := n) hi
      obtain ⟨u1, u2, u3⟩ := sy_at_p (P := P) (k := 0) (s := j) (n := n) hj
      have := inj _ _ q1 u1 q2 u2 e
      rw [← q3, ← u3, this])
  have stn : ∀ l, l < n → sq_kd P l = 1 → ∀ s, sq_fo P H l = some s → s < n ∧ sq_kd P s = 0 := fun l hl k1 s e => ⟨((mf l hl k1).2 s e).1, ((mf l hl k1).2 s e).2.1⟩
  obtain ⟨r2, hr2, p2⟩ := yo_dg_all (b := sy_cn P 0 n + 1) (by omega) (sq_ln P n) (fun k => match sq_fo P H (sy_at P 1 n k) with
      | none => 0
      | some s => sy_cn P 0 s + 1) (fun k hk => by
      rw [← sy_ln] at hk
      obtain ⟨q1, q2, q3⟩ := sy_at_p (P := P) (k := 1) (s := k) (n := n) hk
      cases e : sq_fo P H (sy_at P 1 n k) with
      | none => show 0 < _; omega
      | some s =>
        obtain ⟨s1, s2⟩ := stn _ q1 q2 s e
        have := sy_cn_lt s2 s1
        show sy_cn P 0 s + 1 < _
        omega)
  have chp : 0 < (sy_cn P 0 n + 1) ^ sq_ln P n := Nat.pow_pos (by omega)
  have d1 : (r1 * (sy_cn P 0 n + 1) ^ sq_ln P n + r2) / (sy_cn P 0 n + 1) ^ sq_ln P n = r1 := by
    rw [Nat.add_comm, Nat.add_mul_div_right _ _ chp, Nat.div_eq_of_lt hr2, Nat.zero_add]
  have d2 : (r1 * (sy_cn P 0 n + 1) ^ sq_ln P n + r2) % (sy_cn P 0 n + 1) ^ sq_ln P n = r2 := by
    rw [Nat.add_comm, Nat.add_mul_mod_self_right, Nat.mod_eq_of_lt hr2]
  have ePl : ∀ j, j < n → sq_kd P j = 0 → sy_Pl P (sy_pl P n (r1 * (sy_cn P 0 n + 1) ^ sq_ln P n + r2)) j = sq_pl P H j := by
    intro j hj k0
    unfold sy_Pl sy_pl
    rw [d1, p1 _ (sy_cn_lt k0 hj)]
    show sq_pl P H (sy_at P 0 n (sy_cn P 0 j)) = _
    rw [sy_at_cn hj k0]
  have eF : ∀ l, l < n → sq_kd P l = 1 → sy_F P n (sy_fo P n (r1 * (sy_cn P 0 n + 1) ^ sq_ln P n + r2)) l = sq_fo P H l := by
    intro l hl k1
    unfold sy_F sy_fo
    rw [d2, p2 _ (sq_ln_lt P hl k1)]
    have el : sy_at P 1 n (sq_ln P l) = l := by rw [← sy_ln]; exact sy_at_cn hl k1
    rw [el]
    cases e : sq_fo P H l with
    | none => rfl
    | some s =>
      obtain ⟨s1, s2⟩ := stn l hl k1 s e
      show some (sy_at P 0 n (sy_cn P 0 s)) = some s
      rw [sy_at_cn s1 s2]
  refine ⟨r1 * (sy_cn P 0 n + 1) ^ sq_ln P n + r2, ?_, ⟨sq_mf_cg ePl eF mf, fun a b => a ∈ sq_old H b, fun a b c x y => sq_old_tr f.1 x y, fun a x => sq_old_irr f.1 x, fun a b ha hb z => af a b ha hb (sq_af_cg ePl eF stn ha hb z.2.2)⟩, sq_dg P H, sq_out_cg ePl eF out, em⟩
  have : (r1 + 1) * (sy_cn P 0 n + 1) ^ sq_ln P n ≤ yo_fa (sy_cn P 0 n) * (sy_cn P 0 n + 1) ^ sq_ln P n := Nat.mul_le_mul_right _ hr1
  rw [Nat.add_mul, Nat.one_mul] at this
  omega
end
section
/-! Y: goOver (printed by tools/gen30.py, once a list) -/
section
variable {f_size f_fences f_storeCount f_loadCount f_listed f_strictListed : Int32} {a_kinds a_threads a_variables a_values a_stores a_loads a_found a_place a_after a_list a_strictList : Nat → Int32}
variable {P : sq_PG} {n : Nat}
theorem yw_go510 (ok : sq_ok P n) (A : yw_P P n f_size a_kinds a_threads a_variables a_values) (S : yw_S P n f_storeCount f_loadCount a_stores a_loads) {g : Nat} (hg : g < 64) (ef : f_fences = nI g) {post : SY → Prop}
    (h : ∀ o c f_listed a_found a_place a_after a_list, yw_O o c f_listed a_list → sq_so P n (yw_G g) (0 = 1) o c → post (f_size, f_fences, f_storeCount, f_loadCount, f_listed, f_strictListed, a_kinds, a_threads, a_variables, a_values, a_stores, a_loads, a_found, a_place, a_after, a_list, a_strictList)) :
    ∀ d q k o c f_listed a_found a_place a_after a_list, q + d = yo_fa (sy_cn P 0 n) * (sy_cn P 0 n + 1) ^ sq_ln P n → d < k → yw_O o c f_listed a_list → (∀ m, (∃ i, i < c ∧ o i = m) ↔ ∃ q', q' < q ∧ sy_q P n g (0 = 1) q' m) →
      wY_goOver_51 post (nI 0) (nI (yo_fa (sy_cn P 0 n))) (nI ((sy_cn P 0 n + 1) ^ sq_ln P n)) k (nI q) f_size f_fences f_storeCount f_loadCount f_listed f_strictListed a_kinds a_threads a_variables a_values a_stores a_loads a_found a_place a_after a_list a_strictList := by
  have n6 := ok.1
  have c6 := sy_cn_le P 0 n
  have l6 := sq_ln_le P n
  have fa := yo_fa6 (sy_cn P 0 n) (by omega)
  have chp : 0 < (sy_cn P 0 n + 1) ^ sq_ln P n := Nat.pow_pos (by omega)
  have chl : (sy_cn P 0 n + 1) ^ sq_ln P n ≤ 7 ^ 6 := Nat.le_trans (Nat.pow_le_pow_left (by omega) _) (Nat.pow_le_pow_right (by omega) (by omega))
  have tot : yo_fa (sy_cn P 0 n) * (sy_cn P 0 n + 1) ^ sq_ln P n ≤ 720 * 7 ^ 6 := Nat.mul_le_mul fa chl
  have t1 : 720 * 7 ^ 6 = 84707280 := by decide
  have t2 : (7 : Nat) ^ 6 = 117649 := by decide
  intro d
  induction d with
  | zero =>
    intro q k o c f_listed a_found a_place a_after a_list e hk O hm
    obtain ⟨k, rfl⟩ : ∃ m, k = m + 1 := ⟨k - 1, by omega⟩
    refine br_t (by rw [pk_mul]; exact nI_le (by omega) (by omega)) (h o c _ _ _ _ _ O (fun m => (hm m).trans ⟨?_, ?_⟩))
    · rintro ⟨q', _, z⟩; exact sy_q_mid ok z
    · intro z
      obtain ⟨q', q1, q2⟩ := sy_mid_q ok z
      exact ⟨q', by omega, q2⟩
  | succ d ih =>
    intro q k o c f_listed a_found a_place a_after a_list e hk O hm
    obtain ⟨k, rfl⟩ : ∃ m, k = m + 1 := ⟨k - 1, by omega⟩
    have ne : ¬ nI ((sy_cn P 0 n + 1) ^ sq_ln P n) = 0 := nI_ne0 chp (by omega)
    refine br_f (by rw [pk_mul]; exact nI_ge (by omega) (by omega)) (And.intro ne ?_)
    rw [pk_rem (by omega) chp (by omega), pk_div (by omega) chp (by omega)]
    have b1 : q / (sy_cn P 0 n + 1) ^ sq_ln P n ≤ q := Nat.div_le_self _ _
    have b2 : q % (sy_cn P 0 n + 1) ^ sq_ln P n ≤ q := Nat.mod_le _ _
    refine yw_setOrder (sc := sy_cn P 0 n) (by omega) S.1 (by omega) (fun a_place hpl => And.intro ne ?_)
    refine yw_setFound (sc := sy_cn P 0 n) (lc := sq_ln P n) (by omega) (by omega) S.1 S.2.1 (by omega) (fun a_found hfo => ?_)
    have C : yw_C P n (sy_pl P n q) (sy_fo P n q) a_place a_found := ⟨fun s hs => ⟨hpl s hs, (sy_pl_p n6 q).1 s hs⟩, fun j hj => ⟨hfo j hj, Nat.le_of_lt_succ (yo_dg_lt (by omega) j _)⟩⟩
    refine yw_isAllowed (str := 0) ok A S C hg ef (by omega) (fun al a_after => br_f (by decide) ?_) (fun nal a_after => br_t rfl (nm_r (nI_1 _) (ih (q + 1) k o c _ _ _ _ _ (by omega) (by omega) O (fun m => ?_))))
    · obtain ⟨H, f, out⟩ := sy_al_out ok al
      have md : sq_mid P n (yw_G g) (0 = 1) (sx_en 9 (sq_dg P H)) := ⟨H, f, rfl⟩
      refine yw_outcomeNow ok A S C out ?_
      refine yw_note0 O (sq_mid_lt ok md) (fun nw => ?_) (fun o' c' f_listed a_list O' hm' => nm_r (nI_1 _) (ih (q + 1) k o' c' _ _ _ _ _ (by omega) (by omega) O' (fun m => ?_)))
      · have := sq_so_192 (G := yw_G g) (str := 0 = 1) ok (L := sx_en 9 (sq_dg P H) :: (List.range c).map o) (List.nodup_cons.mpr ⟨fun z => ?_, tl_nd_map List.nodup_range (fun x y hx hy w => so_inj O.2.2.1 (List.mem_range.mp hx) (List.mem_range.mp hy) w)⟩) (fun x hx => ?_)
        · rw [List.length_cons, List.length_map, List.length_range] at this
          omega
        · obtain ⟨i, i1, i2⟩ := List.mem_map.mp z
          exact nw i (List.mem_range.mp i1) i2
        · rcases List.mem_cons.mp hx with r | r
          · rw [r]; exact md
          · obtain ⟨i, i1, i2⟩ := List.mem_map.mp r
            obtain ⟨q', _, z⟩ := (hm x).mp ⟨i, List.mem_range.mp i1, i2⟩
            exact sy_q_mid ok z
      · rw [hm' m, hm m]
        constructor
        · rintro (⟨q', q1, q2⟩ | r)
          · exact ⟨q', by omega, q2⟩
          · exact ⟨q, by omega, al, sq_dg P H, out, r⟩
        · rintro ⟨q', q1, q2⟩
          by_cases z : q' = q
          · subst z
            obtain ⟨_, gg, w1, w2⟩ := q2
            exact Or.inr (by rw [w2]; exact sq_out_uq w1 out)
          · exact Or.inl ⟨q', by omega, q2⟩
    · rw [hm m]
      constructor
      · rintro ⟨q', q1, q2⟩
        exact ⟨q', by omega, q2⟩
      · rintro ⟨q', q1, q2⟩
        by_cases z : q' = q
        · subst z; exact absurd q2.1 nal
        · exact ⟨q', by omega, q2⟩
theorem yw_goOver0 (ok : sq_ok P n) (A : yw_P P n f_size a_kinds a_threads a_variables a_values) {g : Nat} (hg : g < 64) (ef : f_fences = nI g) {post : SY → Prop}
    (h : ∀ o c f_storeCount f_loadCount f_listed a_stores a_loads a_found a_place a_after a_list, yw_O o c f_listed a_list → sq_so P n (yw_G g) False o c → f_loadCount = nI (sq_ln P n) → post (f_size, f_fences, f_storeCount, f_loadCount, f_listed, f_strictListed, a_kinds, a_threads, a_variables, a_values, a_stores, a_loads, a_found, a_place, a_after, a_list, a_strictList)) : wpY_goOver post (f_size, f_fences, f_storeCount, f_loadCount, f_listed, f_strictListed, a_kinds, a_threads, a_variables, a_values, a_stores, a_loads, a_found, a_place, a_after, a_list, a_strictList) (nI 0) := by
  have n6 := ok.1
  have c6 := sy_cn_le P 0 n
  have l6 := sq_ln_le P n
  refine yw_sortOut (f_storeCount := f_storeCount) (f_loadCount := f_loadCount) n6 A (fun j hj => (ok.2.1 j hj).2.1) (fun f_storeCount f_loadCount a_stores a_loads S => ?_)
  refine br_t nI_0 (br_t nI_0 ?_)
  refine yw_setOrder (sc := sy_cn P 0 n) (num := 0) (by omega) S.1 (by omega) (fun a_place hpl => ?_)
  refine yw_setFound (sc := sy_cn P 0 n) (lc := sq_ln P n) (num := 0) (by omega) (by omega) S.1 S.2.1 (by omega) (fun a_found hfo => ?_)
  have e : (0 = 1) = False := by simp
  rw [← e] at h
  refine ⟨_, yw_go510 ok A S hg ef (fun o c f_listed a_found a_place a_after a_list O so => h o c _ _ _ _ _ _ _ _ _ O so S.2.1) _ 0 _ (fun _ => 0) 0 _ _ _ _ _ (Nat.zero_add _) (Nat.lt_succ_self _) ⟨nI_0.symm, by omega, fun _ j _ hj => by omega, fun i hi => by omega⟩ (fun m => ⟨?_, ?_⟩)⟩
  · rintro ⟨i, i1, _⟩; omega
  · rintro ⟨i, i1, _⟩; omega
theorem yw_go511 (ok : sq_ok P n) (A : yw_P P n f_size a_kinds a_threads a_variables a_values) (S : yw_S P n f_storeCount f_loadCount a_stores a_loads) {g : Nat} (hg : g < 64) (ef : f_fences = nI g) {post : SY → Prop}
    (h : ∀ o c f_strictListed a_found a_place a_after a_strictList, yw_O o c f_strictListed a_strictList → sq_so P n (yw_G g) (1 = 1) o c → post (f_size, f_fences, f_storeCount, f_loadCount, f_listed, f_strictListed, a_kinds, a_threads, a_variables, a_values, a_stores, a_loads, a_found, a_place, a_after, a_list, a_strictList)) :
    ∀ d q k o c f_strictListed a_found a_place a_after a_strictList, q + d = yo_fa (sy_cn P 0 n) * (sy_cn P 0 n + 1) ^ sq_ln P n → d < k → yw_O o c f_strictListed a_strictList → (∀ m, (∃ i, i < c ∧ o i = m) ↔ ∃ q', q' < q ∧ sy_q P n g (1 = 1) q' m) →
      wY_goOver_51 post (nI 1) (nI (yo_fa (sy_cn P 0 n))) (nI ((sy_cn P 0 n + 1) ^ sq_ln P n)) k (nI q) f_size f_fences f_storeCount f_loadCount f_listed f_strictListed a_kinds a_threads a_variables a_values a_stores a_loads a_found a_place a_after a_list a_strictList := by
  have n6 := ok.1
  have c6 := sy_cn_le P 0 n
  have l6 := sq_ln_le P n
  have fa := yo_fa6 (sy_cn P 0 n) (by omega)
  have chp : 0 < (sy_cn P 0 n + 1) ^ sq_ln P n := Nat.pow_pos (by omega)
  have chl : (sy_cn P 0 n + 1) ^ sq_ln P n ≤ 7 ^ 6 := Nat.le_trans (Nat.pow_le_pow_left (by omega) _) (Nat.pow_le_pow_right (by omega) (by omega))
  have tot : yo_fa (sy_cn P 0 n) * (sy_cn P 0 n + 1) ^ sq_ln P n ≤ 720 * 7 ^ 6 := Nat.mul_le_mul fa chl
  have t1 : 720 * 7 ^ 6 = 84707280 := by decide
  have t2 : (7 : Nat) ^ 6 = 117649 := by decide
  intro d
  induction d with
  | zero =>
    intro q k o c f_strictListed a_found a_place a_after a_strictList e hk O hm
    obtain ⟨k, rfl⟩ : ∃ m, k = m + 1 := ⟨k - 1, by omega⟩
    refine br_t (by rw [pk_mul]; exact nI_le (by omega) (by omega)) (h o c _ _ _ _ _ O (fun m => (hm m).trans ⟨?_, ?_⟩))
    · rintro ⟨q', _, z⟩; exact sy_q_mid ok z
    · intro z
      obtain ⟨q', q1, q2⟩ := sy_mid_q ok z
      exact ⟨q', by omega, q2⟩
  | succ d ih =>
    intro q k o c f_strictListed a_found a_place a_after a_strictList e hk O hm
    obtain ⟨k, rfl⟩ : ∃ m, k = m + 1 := ⟨k - 1, by omega⟩
    have ne : ¬ nI ((sy_cn P 0 n + 1) ^ sq_ln P n) = 0 := nI_ne0 chp (by omega)
    refine br_f (by rw [pk_mul]; exact nI_ge (by omega) (by omega)) (And.intro ne ?_)
    rw [pk_rem (by omega) chp (by omega), pk_div (by omega) chp (by omega)]
    have b1 : q / (sy_cn P 0 n + 1) ^ sq_ln P n ≤ q := Nat.div_le_self _ _
    have b2 : q % (sy_cn P 0 n + 1) ^ sq_ln P n ≤ q := Nat.mod_le _ _
    refine yw_setOrder (sc := sy_cn P 0 n) (by omega) S.1 (by omega) (fun a_place hpl => And.intro ne ?_)
    refine yw_setFound (sc := sy_cn P 0 n) (lc := sq_ln P n) (by omega) (by omega) S.1 S.2.1 (by omega) (fun a_found hfo => ?_)
    have C : yw_C P n (sy_pl P n q) (sy_fo P n q) a_place a_found := ⟨fun s hs => ⟨hpl s hs, (sy_pl_p n6 q).1 s hs⟩, fun j hj => ⟨hfo j hj, Nat.le_of_lt_succ (yo_dg_lt (by omega) j _)⟩⟩
    refine yw_isAllowed (str := 1) ok A S C hg ef (by omega) (fun al a_after => br_f (by decide) ?_) (fun nal a_after => br_t rfl (nm_r (nI_1 _) (ih (q + 1) k o c _ _ _ _ _ (by omega) (by omega) O (fun m => ?_))))
    · obtain ⟨H, f, out⟩ := sy_al_out ok al
      have md : sq_mid P n (yw_G g) (1 = 1) (sx_en 9 (sq_dg P H)) := ⟨H, f, rfl⟩
      refine yw_outcomeNow ok A S C out ?_
      refine yw_note1 O (sq_mid_lt ok md) (fun nw => ?_) (fun o' c' f_strictListed a_strictList O' hm' => nm_r (nI_1 _) (ih (q + 1) k o' c' _ _ _ _ _ (by omega) (by omega) O' (fun m => ?_)))
      · have := sq_so_192 (G := yw_G g) (str := 1 = 1) ok (L := sx_en 9 (sq_dg P H) :: (List.range c).map o) (List.nodup_cons.mpr ⟨fun z => ?_, tl_nd_map List.nodup_range (fun x y hx hy w => so_inj O.2.2.1 (List.mem_range.mp hx) (List.mem_range.mp hy) w)⟩) (fun x hx => ?_)
        · rw [List.length_cons, List.length_map, List.length_range] at this
          omega
        · obtain ⟨i, i1, i2⟩ := List.mem_map.mp z
          exact nw i (List.mem_range.mp i1) i2
        · rcases List.mem_cons.mp hx with r | r
          · rw [r]; exact md
          · obtain ⟨i, i1, i2⟩ := List.mem_map.mp r
            obtain ⟨q', _, z⟩ := (hm x).mp ⟨i, List.mem_range.mp i1, i2⟩
            exact sy_q_mid ok z
      · rw [hm' m, hm m]
        constructor
        · rintro (⟨q', q1, q2⟩ | r)
          · exact ⟨q', by omega, q2⟩
          · exact ⟨q, by omega, al, sq_dg P H, out, r⟩
        · rintro ⟨q', q1, q2⟩
          by_cases z : q' = q
          · subst z
            obtain ⟨_, gg, w1, w2⟩ := q2
            exact Or.inr (by rw [w2]; exact sq_out_uq w1 out)
          · exact Or.inl ⟨q', by omega, q2⟩
    · rw [hm m]
      constructor
      · rintro ⟨q', q1, q2⟩
        exact ⟨q', by omega, q2⟩
      · rintro ⟨q', q1, q2⟩
        by_cases z : q' = q
        · subst z; exact absurd q2.1 nal
        · exact ⟨q', by omega, q2⟩
theorem yw_goOver1 (ok : sq_ok P n) (A : yw_P P n f_size a_kinds a_threads a_variables a_values) {g : Nat} (hg : g < 64) (ef : f_fences = nI g) {post : SY → Prop}
    (h : ∀ o c f_storeCount f_loadCount f_strictListed a_stores a_loads a_found a_place a_after a_strictList, yw_O o c f_strictListed a_strictList → sq_so P n (yw_G g) True o c → f_loadCount = nI (sq_ln P n) → post (f_size, f_fences, f_storeCount, f_loadCount, f_listed, f_strictListed, a_kinds, a_threads, a_variables, a_values, a_stores, a_loads, a_found, a_place, a_after, a_list, a_strictList)) : wpY_goOver post (f_size, f_fences, f_storeCount, f_loadCount, f_listed, f_strictListed, a_kinds, a_threads, a_variables, a_values, a_stores, a_loads, a_found, a_place, a_after, a_list, a_strictList) (nI 1) := by
  have n6 := ok.1
  have c6 := sy_cn_le P 0 n
  have l6 := sq_ln_le P n
  refine yw_sortOut (f_storeCount := f_storeCount) (f_loadCount := f_loadCount) n6 A (fun j hj => (ok.2.1 j hj).2.1) (fun f_storeCount f_loadCount a_stores a_loads S => ?_)
  refine br_f (by decide) (br_f (by decide) ?_)
  refine yw_setOrder (sc := sy_cn P 0 n) (num := 0) (by omega) S.1 (by omega) (fun a_place hpl => ?_)
  refine yw_setFound (sc := sy_cn P 0 n) (lc := sq_ln P n) (num := 0) (by omega) (by omega) S.1 S.2.1 (by omega) (fun a_found hfo => ?_)
  have e : (1 = 1) = True := by simp
  rw [← e] at h
  refine ⟨_, yw_go511 ok A S hg ef (fun o c f_strictListed a_found a_place a_after a_strictList O so => h o c _ _ _ _ _ _ _ _ _ O so S.2.1) _ 0 _ (fun _ => 0) 0 _ _ _ _ _ (Nat.zero_add _) (Nat.lt_succ_self _) ⟨nI_0.symm, by omega, fun _ j _ hj => by omega, fun i hi => by omega⟩ (fun m => ⟨?_, ?_⟩)⟩
  · rintro ⟨i, i1, _⟩; omega
  · rintro ⟨i, i1, _⟩; omega
end
end
section
/-! Y: what reads the outcomes -/
section
variable {f_size f_fences f_storeCount f_loadCount f_listed f_strictListed : Int32} {a_kinds a_threads a_variables a_values a_stores a_loads a_found a_place a_after a_list a_strictList : Nat → Int32}
theorem yw_is2 {o : Nat → Nat} {c : Nat} {v : Int32} (O : yw_O o c f_strictListed a_strictList) {post : Int32 → Prop} (h1 : (∃ i, i < c ∧ nI (o i) = v) → post 1) (h0 : (¬ ∃ i, i < c ∧ nI (o i) = v) → post 0) :
    ∀ d i k, i + d = c → d < k → (∀ j, j < i → nI (o j) ≠ v) → wY_isStrict_2 post v f_size f_fences f_storeCount f_loadCount f_listed f_strictListed a_kinds a_threads a_variables a_values a_stores a_loads a_found a_place a_after a_list a_strictList k (nI i) := by
  obtain ⟨q1, q2, q3, q4⟩ := O
  intro d
  induction d with
  | zero =>
    intro i k e hk hj
    obtain ⟨k, rfl⟩ : ∃ m, k = m + 1 := ⟨k - 1, by omega⟩
    exact br_t (by rw [q1]; exact nI_le (by omega) (by omega)) (h0 (fun ⟨j, j1, j2⟩ => hj j (by omega) j2))
  | succ d ih =>
    intro i k e hk hj
    obtain ⟨k, rfl⟩ : ∃ m, k = m + 1 := ⟨k - 1, by omega⟩
    refine br_f (by rw [q1]; exact nI_ge (by omega) (by omega)) (And.intro (vp_in_nI (by omega) (by omega)) ?_)
    rw [xw_r i (by omega) rfl (q4 i (by omega)).1]
    refine br_c (fun z => h1 ⟨i, by omega, z⟩) (fun z => nm_r (nI_1 _) (ih (i + 1) k (by omega) (by omega) (fun j hj' => ?_)))
    by_cases y : j = i
    · subst y; exact z
    · exact hj j (by omega)
theorem yw_isStrict {o : Nat → Nat} {c : Nat} {v : Int32} (O : yw_O o c f_strictListed a_strictList) {post : Int32 → Prop} (h1 : (∃ i, i < c ∧ nI (o i) = v) → post 1) (h0 : (¬ ∃ i, i < c ∧ nI (o i) = v) → post 0) : wpY_isStrict post (f_size, f_fences, f_storeCount, f_loadCount, f_listed, f_strictListed, a_kinds, a_threads, a_variables, a_values, a_stores, a_loads, a_found, a_place, a_after, a_list, a_strictList) v :=
  ⟨c + 1, yw_is2 O h1 h0 c 0 (c + 1) (by omega) (by omega) (fun j hj => by omega)⟩
theorem yw_ps7 {o : Nat → Nat} {c : Nat} {v : Int32} (O : yw_O o c f_listed a_list) {post : Int32 → SY → Prop} (h1 : (∃ i, i < c ∧ nI (o i) = v) → post 1 (f_size, f_fences, f_storeCount, f_loadCount, f_listed, f_strictListed, a_kinds, a_threads, a_variables, a_values, a_stores, a_loads, a_found, a_place, a_after, a_list, a_strictList)) (h0 : (¬ ∃ i, i < c ∧ nI (o i) = v) → post 0 (f_size, f_fences, f_storeCount, f_loadCount, f_listed, f_strictListed, a_kinds, a_threads, a_variables, a_values, a_stores, a_loads, a_found, a_place, a_after, a_list, a_strictList)) :
    ∀ d i k, i + d = c → d < k → (∀ j, j < i → nI (o j) ≠ v) → wY_possible_7 post v f_size f_fences f_storeCount f_loadCount f_listed f_strictListed a_kinds a_threads a_variables a_values a_stores a_loads a_found a_place a_after a_list a_strictList k (nI i) := by
  obtain ⟨q1, q2, q3, q4⟩ := O
  intro d
  induction d with
  | zero =>
    intro i k e hk hj
    obtain ⟨k, rfl⟩ : ∃ m, k = m + 1 := ⟨k - 1, by omega⟩
    exact br_t (by rw [q1]; exact nI_le (by omega) (by omega)) (h0 (fun ⟨j, j1, j2⟩ => hj j (by omega) j2))
  | succ d ih =>
    intro i k e hk hj
    obtain ⟨k, rfl⟩ : ∃ m, k = m + 1 := ⟨k - 1, by omega⟩
    refine br_f (by rw [q1]; exact nI_ge (by omega) (by omega)) (And.intro (vp_in_nI (by omega) (by omega)) ?_)
    rw [xw_r i (by omega) rfl (q4 i (by omega)).1]
    refine br_c (fun z => h1 ⟨i, by omega, z⟩) (fun z => nm_r (nI_1 _) (ih (i + 1) k (by omega) (by omega) (fun j hj' => ?_)))
    by_cases y : j = i
    · subst y; exact z
    · exact hj j (by omega)
theorem yw_fs7 {o o' : Nat → Nat} {c c' : Nat} (O : yw_O o c f_listed a_list) (O' : yw_O o' c' f_strictListed a_strictList) {post : Int32 → SY → Prop} {r : Int32} (hr : so_sur o c o' c' r) (h : post r (f_size, f_fences, f_storeCount, f_loadCount, f_listed, f_strictListed, a_kinds, a_threads, a_variables, a_values, a_stores, a_loads, a_found, a_place, a_after, a_list, a_strictList)) :
    ∀ d i k, i + d = c → d < k → (∀ j, j < i → ∃ q, q < c' ∧ o' q = o j) → wY_firstSurprise_7 post f_size f_fences f_storeCount f_loadCount f_listed f_strictListed a_kinds a_threads a_variables a_values a_stores a_loads a_found a_place a_after a_list a_strictList k (nI i) := by
  obtain ⟨q1, q2, q3, q4⟩ := O
  intro d
  induction d with
  | zero =>
    intro i k e hk hj
    obtain ⟨k, rfl⟩ : ∃ m, k = m + 1 := ⟨k - 1, by omega⟩
    obtain rfl : i = c := by omega
    refine br_t (by rw [q1]; exact nI_le (Nat.le_refl _) (by omega)) ?_
    have : r = -4 := so_sur1 (Or.inl ⟨hj, rfl⟩) hr
    rw [← this]; exact h
  | succ d ih =>
    intro i k e hk hj
    obtain ⟨k, rfl⟩ : ∃ m, k = m + 1 := ⟨k - 1, by omega⟩
    have vi : vp_in (nI i) 720 := vp_in_nI (by omega) (by omega)
    have oi := q4 i (by omega)
    have ci : a_list (nI i).toNatClampNeg = nI (o i) := xw_r i (by omega) rfl oi.1
    refine br_f (by rw [q1]; exact nI_ge (by omega) (by omega)) (And.intro vi ?_)
    rw [ci]
    have conv : (∃ j, j < c' ∧ nI (o' j) = nI (o i)) ↔ ∃ j, j < c' ∧ o' j = o i := by
      constructor
      · rintro ⟨j, j1, j2⟩
        have := (O'.2.2.2 j j1).2
        exact ⟨j, j1, (nI_eq (by omega) (by omega)).mp j2⟩
      · rintro ⟨j, j1, j2⟩
        exact ⟨j, j1, congrArg nI j2⟩
    refine yw_isStrict O' (fun t => br_f (by decide) (nm_r (nI_1 _) (ih (i + 1) k (by omega) (by omega) (fun j hj' => ?_)))) (fun t => br_t rfl (And.intro vi ?_))
    · by_cases z : j = i
      · subst z; exact conv.mp t
      · exact hj j (by omega)
    · have : r = nI (o i) := so_sur1 (Or.inr ⟨i, by omega, fun z => t (conv.mpr z), hj, rfl⟩) hr
      rw [← this]; exact h
theorem yw_fi24 {o : Nat → Nat} {c x : Nat} (hx : x < 6) (O : yw_O o c f_listed a_list) {post : Int32 → SY → Prop} (h : post (so_set o x c) (f_size, f_fences, f_storeCount, f_loadCount, f_listed, f_strictListed, a_kinds, a_threads, a_variables, a_values, a_stores, a_loads, a_found, a_place, a_after, a_list, a_strictList)) :
    ∀ d i k, i + d = c → d < k → wY_finds_24 post (nI x) f_size f_fences f_storeCount f_loadCount f_listed f_strictListed a_kinds a_threads a_variables a_values a_stores a_loads a_found a_place a_after a_list a_strictList k (so_set o x i) (nI i) := by
  obtain ⟨q1, q2, q3, q4⟩ := O
  intro d
  induction d with
  | zero =>
    intro i k e hk
    obtain ⟨k, rfl⟩ : ∃ m, k = m + 1 := ⟨k - 1, by omega⟩
    obtain rfl : i = c := by omega
    exact br_t (by rw [q1]; exact nI_le (Nat.le_refl _) (by omega)) h
  | succ d ih =>
    intro i k e hk
    obtain ⟨k, rfl⟩ : ∃ m, k = m + 1 := ⟨k - 1, by omega⟩
    have oi := q4 i (by omega)
    refine br_f (by rw [q1]; exact nI_ge (by omega) (by omega)) (And.intro (vp_in_nI (by omega) (by omega)) ?_)
    rw [xw_r i (by omega) rfl oi.1]
    unfold wpY_valueIn
    rw [bx_in2 (by omega) hx]
    exact nm_r rfl (nm_r (nI_1 _) (ih (i + 1) k (by omega) (by omega)))
theorem yw_66 : ∀ x, x < 3 → (2 : Int32) * (6 + nI x) = 12 + 2 * nI x := by decide +kernel
theorem yw_en20 {o : Nat → Nat} {c x : Nat} (hx : x < 3) (O : yw_O o c f_listed a_list) {post : Int32 → SY → Prop} (h : post (so_set o (6 + x) c) (f_size, f_fences, f_storeCount, f_loadCount, f_listed, f_strictListed, a_kinds, a_threads, a_variables, a_values, a_stores, a_loads, a_found, a_place, a_after, a_list, a_strictList)) :
    ∀ d i k, i + d = c → d < k → wY_ends_20 post (nI x) f_size f_fences f_storeCount f_loadCount f_listed f_strictListed a_kinds a_threads a_variables a_values a_stores a_loads a_found a_place a_after a_list a_strictList k (so_set o (6 + x) i) (nI i) := by
  obtain ⟨q1, q2, q3, q4⟩ := O
  intro d
  induction d with
  | zero =>
    intro i k e hk
    obtain ⟨k, rfl⟩ : ∃ m, k = m + 1 := ⟨k - 1, by omega⟩
    obtain rfl : i = c := by omega
    exact br_t (by rw [q1]; exact nI_le (Nat.le_refl _) (by omega)) h
  | succ d ih =>
    intro i k e hk
    obtain ⟨k, rfl⟩ : ∃ m, k = m + 1 := ⟨k - 1, by omega⟩
    have oi := q4 i (by omega)
    refine br_f (by rw [q1]; exact nI_ge (by omega) (by omega)) (And.intro (vp_in_nI (by omega) (by omega)) ?_)
    rw [xw_r i (by omega) rfl oi.1]
    unfold wpY_valueIn
    rw [yw_66 x hx, bx_in (by omega) hx]
    exact nm_r rfl (nm_r (nI_1 _) (ih (i + 1) k (by omega) (by omega)))
theorem yw_im34 {o : Nat → Nat} {c x y : Nat} {v v' : Int32} (hx : x < 6) (hy : y < 6) (O : yw_O o c f_listed a_list) {post : Int32 → SY → Prop} (h1 : so_imp o x y v v' c → post 1 (f_size, f_fences, f_storeCount, f_loadCount, f_listed, f_strictListed, a_kinds, a_threads, a_variables, a_values, a_stores, a_loads, a_found, a_place, a_after, a_list, a_strictList)) (h0 : ¬ so_imp o x y v v' c → post 0 (f_size, f_fences, f_storeCount, f_loadCount, f_listed, f_strictListed, a_kinds, a_threads, a_variables, a_values, a_stores, a_loads, a_found, a_place, a_after, a_list, a_strictList)) :
    ∀ d i k, i + d = c → d < k → so_imp o x y v v' i → wY_implies_34 post (nI x) v (nI y) v' f_size f_fences f_storeCount f_loadCount f_listed f_strictListed a_kinds a_threads a_variables a_values a_stores a_loads a_found a_place a_after a_list a_strictList k (nI i) := by
  obtain ⟨q1, q2, q3, q4⟩ := O
  intro d
  induction d with
  | zero =>
    intro i k e hk hi
    obtain ⟨k, rfl⟩ : ∃ m, k = m + 1 := ⟨k - 1, by omega⟩
    obtain rfl : i = c := by omega
    exact br_t (by rw [q1]; exact nI_le (Nat.le_refl _) (by omega)) (h1 hi)
  | succ d ih =>
    intro i k e hk hi
    obtain ⟨k, rfl⟩ : ∃ m, k = m + 1 := ⟨k - 1, by omega⟩
    have oi := q4 i (by omega)
    have vi : vp_in (nI i) 720 := vp_in_nI (by omega) (by omega)
    have step : (nI (sx_md (o i) x) = v → nI (sx_md (o i) y) = v') → so_imp o x y v v' (i + 1) := by
      intro z j hj w
      by_cases q : j = i
      · subst q; exact z w
      · exact hi j (by omega) w
    refine br_f (by rw [q1]; exact nI_ge (by omega) (by omega)) (And.intro vi ?_)
    rw [xw_r i (by omega) rfl oi.1]
    unfold wpY_valueIn
    dsimp only
    rw [bx_in2 (by omega) hx, bx_in2 (by omega) hy]
    by_cases z : nI (sx_md (o i) x) = v
    · refine br_t z (And.intro vi ?_)
      by_cases w : nI (sx_md (o i) y) = v'
      · exact br_t w (nm_r (nI_1 _) (ih (i + 1) k (by omega) (by omega) (step (fun _ => w))))
      · exact br_f w (h0 (fun q => w (q i (by omega) z)))
    · exact br_f z (nm_r (nI_1 _) (ih (i + 1) k (by omega) (by omega) (step (fun q => absurd q z))))
/-- one list for both sides -/
theorem yw_O_cg {o o' : Nat → Nat} {c : Nat} {cnt : Int32} {ar : Nat → Int32} (O : yw_O o c cnt ar) (e : ∀ i, i < c → o i = o' i) : yw_O o' c cnt ar := by
  obtain ⟨q1, q2, q3, q4⟩ := O
  refine ⟨q1, q2, fun i j ij jc => ?_, fun i hi => ?_⟩
  · rw [← e i (by omega), ← e j jc]; exact q3 i j ij jc
  · rw [← e i hi]; exact q4 i hi
end
theorem sq_pp_cg {P : sq_PG} {n : Nat} (ok : sq_ok P n) {G G' : Nat → Bool} {str : Prop} (hG : ∀ i, i + 1 < n → sq_th P (i + 1) = sq_th P i → (G i = true ↔ G' i = true)) {a b : Nat} (hb : b < n) : sq_pp P G str a b ↔ sq_pp P G' str a b := by
  have key : ∀ (G G' : Nat → Bool), (∀ i, i + 1 < n → sq_th P (i + 1) = sq_th P i → (G i = true ↔ G' i = true)) → sq_pp P G str a b → sq_pp P G' str a b := by
    rintro G G' hG ⟨h1, h2, h3⟩
    refine ⟨h1, h2, fun c => h3 ⟨c.1, c.2.1, c.2.2.1, fun z => c.2.2.2 ?_⟩⟩
    obtain ⟨i, i1, i2, i3⟩ := z
    refine ⟨i, i1, i2, i3.imp (fun w => ?_) id⟩
    have e1 := sq_sqz ok (a := a) (b := i) (c := b) i1 (by omega) hb h2
    have e2 := sq_sqz ok (a := a) (b := i + 1) (c := b) (by omega) (by omega) hb h2
    exact (hG i (by omega) (by rw [e1, e2])).mp w
  exact ⟨key G G' hG, key G' G (fun i a b => (hG i a b).symm)⟩
theorem sq_mid_cg {P : sq_PG} {n : Nat} (ok : sq_ok P n) {G G' : Nat → Bool} {str : Prop} (hG : ∀ i, i + 1 < n → sq_th P (i + 1) = sq_th P i → (G i = true ↔ G' i = true)) {m : Nat} : sq_mid P n G str m ↔ sq_mid P n G' str m := by
  have key : ∀ (G G' : Nat → Bool), (∀ i, i + 1 < n → sq_th P (i + 1) = sq_th P i → (G i = true ↔ G' i = true)) → sq_mid P n G str m → sq_mid P n G' str m := by
    rintro G G' hG ⟨H, ⟨f1, f2, f3⟩, e⟩
    refine ⟨H, ⟨f1, f2, ?_⟩, e⟩
    refine List.Pairwise.imp_of_mem ?_ f3
    intro a b ha hb q c
    exact q ((sq_pp_cg ok hG ((f2 b).mp hb)).mpr c)
  exact ⟨key G G' hG, key G' G (fun i a b => (hG i a b).symm)⟩
theorem sq_G0 (P : sq_PG) (n j : Nat) : sq_G P n 0 j = false := by unfold sq_G; simp
theorem yw_G0 (i : Nat) : yw_G 0 i = false := by unfold yw_G; simp
/-- X's list and Y's list are one -/
theorem so_xy {P : sq_PG} {n : Nat} (ok : sq_ok P n) {G G' : Nat → Bool} {str : Prop} (hG : ∀ i, i + 1 < n → sq_th P (i + 1) = sq_th P i → (G i = true ↔ G' i = true)) {o o' : Nat → Nat} {c c' : Nat} {cnt cnt' : Int32} {ar ar' : Nat → Int32}
    (O : xw_O o c cnt ar) (S : sq_so P n G str o c) (O' : yw_O o' c' cnt' ar') (S' : sq_so P n G' str o' c') : yw_O o c cnt' ar' := by
  obtain ⟨e, h⟩ := so_eq O'.2.2.1 O.2.2.1 (fun x => (S' x).trans ((sq_mid_cg ok hG).symm.trans (S x).symm))
  subst e
  exact yw_O_cg O' h
end
section
/-! programs changed at one place -/
def pg_i (f : Nat → Nat) (p v j : Nat) : Nat := if j < p then f j else if j = p then v else f (j - 1)
def pg_d (f : Nat → Nat) (p j : Nat) : Nat := if j < p then f j else f (j + 1)
def pg_ins (P : sq_PG) (p t k x v : Nat) : sq_PG := (pg_i (sq_th P) p t, pg_i (sq_kd P) p k, pg_i (sq_vr P) p x, pg_i (sq_vl P) p v)
def pg_del (P : sq_PG) (p : Nat) : sq_PG := (pg_d (sq_th P) p, pg_d (sq_kd P) p, pg_d (sq_vr P) p, pg_d (sq_vl P) p)
theorem sq_of_lo (sz : Nat → Nat) (t v : Nat) : ∀ u, u ≤ t → sq_of (sq_up sz t v) u = sq_of sz u := by
  intro u
  induction u with
  | zero => intro _; rfl
  | succ u ih => intro h; rw [sq_of_s, sq_of_s, ih (by omega), sq_up_n _ _ (by omega)]
theorem sq_of_hi (sz : Nat → Nat) (t v : Nat) : ∀ u, t < u → sq_of (sq_up sz t v) u + sz t = sq_of sz u + v := by
  intro u
  induction u with
  | zero => intro h; omega
  | succ u ih =>
    intro h
    rw [sq_of_s, sq_of_s]
    by_cases c : u = t
    · subst c; rw [sq_up_s, sq_of_lo sz u v u (Nat.le_refl _)]; omega
    · rw [sq_up_n _ _ c]
      have := ih (by omega)
      omega
section
variable {P : sq_PG} {n : Nat} {sz : Nat → Nat}
theorem pg_i_at (f : Nat → Nat) (v : Nat) {t u i : Nat} (hi : i < sq_up sz t (sz t + 1) u) : (u = t ∧ i = sz t ∧ pg_i f (sq_of sz t + sz t) v (sq_of (sq_up sz t (sz t + 1)) u + i) = v) ∨
    (i < sz u ∧ ¬ (u = t ∧ i = sz t) ∧ pg_i f (sq_of sz t + sz t) v (sq_of (sq_up sz t (sz t + 1)) u + i) = f (sq_of sz u + i)) := by
  unfold pg_i
  rcases Nat.lt_trichotomy u t with c | c | c
  · rw [sq_up_n _ _ (by omega)] at hi
    have h1 := sq_of_le sz (t := u + 1) (u := t) (by omega)
    rw [sq_of_s] at h1
    rw [sq_of_lo sz t _ u (by omega), if_pos (by omega)]
    exact Or.inr ⟨hi, by omega, rfl⟩
  · subst c
    rw [sq_up_s] at hi
    rw [sq_of_lo sz u _ u (Nat.le_refl _)]
    by_cases d : i = sz u
    · subst d
      rw [if_neg (Nat.lt_irrefl _), if_pos rfl]
      exact Or.inl ⟨rfl, rfl, rfl⟩
    · rw [if_pos (by omega)]
      exact Or.inr ⟨by omega, by omega, rfl⟩
  · rw [sq_up_n _ _ (by omega)] at hi
    have h1 := sq_of_le sz (t := t + 1) (u := u) (by omega)
    rw [sq_of_s] at h1
    have h2 := sq_of_hi sz t (sz t + 1) u c
    rw [if_neg (by omega), if_neg (by omega), show sq_of (sq_up sz t (sz t + 1)) u + i - 1 = sq_of sz u + i by omega]
    exact Or.inr ⟨hi, by omega, rfl⟩
theorem pg_ins_wf (w : sq_wf P n sz) {t k x v : Nat} (t4 : t < 4) (n6 : n < 6) (hk : k ≤ 2) (hx : x ≤ 2) (hv : v ≤ 3) : sq_wf (pg_ins P (sq_of sz t + sz t) t k x v) (n + 1) (sq_up sz t (sz t + 1)) := by
  refine ⟨?_, by omega, fun u i u4 hi => ?_⟩
  · have := sq_of_hi sz t (sz t + 1) 4 t4
    have := w.1
    omega
  · refine ⟨?_, ?_, ?_, ?_⟩
    · show pg_i (sq_th P) _ t _ = u
      rcases pg_i_at (sq_th P) t hi with ⟨h1, _, h3⟩ | ⟨h1, _, h3⟩
      · rw [h3, h1]
      · rw [h3]; exact (w.2.2 u i u4 h1).1
    · show pg_i (sq_kd P) _ k _ ≤ 2
      rcases pg_i_at (sq_kd P) k hi with ⟨h1, _, h3⟩ | ⟨h1, _, h3⟩
      · rw [h3]; exact hk
      · rw [h3]; exact (w.2.2 u i u4 h1).2.1
    · show pg_i (sq_vr P) _ x _ ≤ 2
      rcases pg_i_at (sq_vr P) x hi with ⟨h1, _, h3⟩ | ⟨h1, _, h3⟩
      · rw [h3]; exact hx
      · rw [h3]; exact (w.2.2 u i u4 h1).2.2.1
    · show pg_i (sq_vl P) _ v _ ≤ 3
      rcases pg_i_at (sq_vl P) v hi with ⟨h1, _, h3⟩ | ⟨h1, _, h3⟩
      · rw [h3]; exact hv
      · rw [h3]; exact (w.2.2 u i u4 h1).2.2.2
theorem pg_d_at (f : Nat → Nat) {t u i : Nat} (hs : 0 < sz t) (hi : i < sq_up sz t (sz t - 1) u) : i < sz u ∧ pg_d f (sq_of sz t + (sz t - 1)) (sq_of (sq_up sz t (sz t - 1)) u + i) = f (sq_of sz u + i) := by
  unfold pg_d
  rcases Nat.lt_trichotomy u t with c | c | c
  · rw [sq_up_n _ _ (by omega)] at hi
    have h1 := sq_of_le sz (t := u + 1) (u := t) (by omega)
    rw [sq_of_s] at h1
    rw [sq_of_lo sz t _ u (by omega), if_pos (by omega)]
    exact ⟨hi, rfl⟩
  · subst c
    rw [sq_up_s] at hi
    rw [sq_of_lo sz u _ u (Nat.le_refl _), if_pos (by omega)]
    exact ⟨by omega, rfl⟩
  · rw [sq_up_n _ _ (by omega)] at hi
    have h1 := sq_of_le sz (t := t + 1) (u := u) (by omega)
    rw [sq_of_s] at h1
    have h2 := sq_of_hi sz t (sz t - 1) u c
    rw [if_neg (by omega), show sq_of (sq_up sz t (sz t - 1)) u + i + 1 = sq_of sz u + i by omega]
    exact ⟨hi, rfl⟩
theorem pg_del_wf (w : sq_wf P n sz) {t : Nat} (t4 : t < 4) (hs : 0 < sz t) : sq_wf (pg_del P (sq_of sz t + (sz t - 1))) (n - 1) (sq_up sz t (sz t - 1)) := by
  refine ⟨?_, by have := w.2.1; omega, fun u i u4 hi => ?_⟩
  · have := sq_of_hi sz t (sz t - 1) 4 t4
    have := w.1
    omega
  · have h := pg_d_at (sq_th P) hs hi
    have q := w.2.2 u i u4 h.1
    refine ⟨?_, ?_, ?_, ?_⟩
    · show pg_d (sq_th P) _ _ = u
      rw [h.2]; exact q.1
    · show pg_d (sq_kd P) _ _ ≤ 2
      rw [(pg_d_at (sq_kd P) hs hi).2]; exact q.2.1
    · show pg_d (sq_vr P) _ _ ≤ 2
      rw [(pg_d_at (sq_vr P) hs hi).2]; exact q.2.2.1
    · show pg_d (sq_vl P) _ _ ≤ 3
      rw [(pg_d_at (sq_vl P) hs hi).2]; exact q.2.2.2
/-- how many of the first i instructions are thread t's -/
def sq_ct (sz : Nat → Nat) (t i : Nat) : Nat := if i < sq_of sz t then 0 else if i < sq_of sz t + sz t then i - sq_of sz t else sz t
theorem sq_ct_s (w : sq_wf P n sz) {t i : Nat} (t4 : t < 4) (hi : i < n) : sq_ct sz t (i + 1) = sq_ct sz t i + (if sq_th P i = t then 1 else 0) := by
  have h := (sq_wf_sz w).1 t t4 i
  unfold sq_ct
  by_cases c : sq_th P i = t
  · have h1 := h.mp ⟨hi, c⟩
    rw [if_pos c]
    (repeat' split) <;> omega
  · have h1 : ¬ (sq_of sz t ≤ i ∧ i < sq_of sz t + sz t) := fun z => c (h.mpr z).2
    rw [if_neg c]
    (repeat' split) <;> omega
theorem sq_ct_0 (sz : Nat → Nat) (t : Nat) : sq_ct sz t 0 = 0 := by
  unfold sq_ct
  by_cases d : 0 < sq_of sz t
  · rw [if_pos d]
  · rw [if_neg d]
    by_cases f : 0 < sq_of sz t + sz t
    · rw [if_pos f]; omega
    · rw [if_neg f]; omega
theorem sq_ct_n (w : sq_wf P n sz) {t : Nat} (t4 : t < 4) : sq_ct sz t n = sz t := by
  have h1 := sq_of_le sz (t := t + 1) (u := 4) (by omega)
  rw [sq_of_s, ← w.1] at h1
  unfold sq_ct
  rw [if_neg (by omega), if_neg (by omega)]
end
end
section
/-! X: append, drop; Y: insert, drop -/
section
variable {f_total f_loads f_states f_memory f_known f_many f_strictMany : Int32} {a_size a_kind a_variable a_value a_length a_tryKind a_tryVariable a_tryValue a_loadNumber a_position a_content a_table a_at a_done a_list a_strictList : Nat → Int32}
variable {P : sq_PG} {n : Nat} {sz : Nat → Nat}
theorem xw_append (w : sq_wf P n sz) (A : xw_P P n sz f_total a_size a_kind a_variable a_value) {t k x v : Nat} (t4 : t < 4) (n6 : n < 6) {post : Int32 → SX → Prop}
    (h : ∀ f_total a_size a_kind a_variable a_value, xw_P (pg_ins P (sq_of sz t + sz t) t k x v) (n + 1) (sq_up sz t (sz t + 1)) f_total a_size a_kind a_variable a_value → post (nI (sz t + 1)) (f_total, f_loads, f_states, f_memory, 0, f_many, f_strictMany, a_size, a_kind, a_variable, a_value, a_length, a_tryKind, a_tryVariable, a_tryValue, a_loadNumber, a_position, a_content, a_table, a_at, a_done, a_list, a_strictList)) : wpX_append post (f_total, f_loads, f_states, f_memory, f_known, f_many, f_strictMany, a_size, a_kind, a_variable, a_value, a_length, a_tryKind, a_tryVariable, a_tryValue, a_loadNumber, a_position, a_content, a_table, a_at, a_done, a_list, a_strictList) (nI t) (nI k) (nI x) (nI v) := by
  have s6 : sz t < 6 := by
    have h1 := sq_of_le sz (t := t + 1) (u := 4) (by omega)
    rw [sq_of_s, ← w.1] at h1
    omega
  have vt : vp_in (nI t) 4 := vp_in_nI t4 (by omega)
  have ct : (nI t).toNatClampNeg = t := nI_clamp (by omega)
  have v6 : vp_in (nI (6 * t + sz t)) 24 := vp_in_nI (by omega) (by omega)
  have c6 : (nI (6 * t + sz t)).toNatClampNeg = 6 * t + sz t := nI_clamp (by omega)
  obtain ⟨a1, a2, a3⟩ := A
  unfold wpX_append
  refine br_f (fun z => ?_) (And.intro vt ?_)
  · rw [a1, show (6 : Int32) = nI 6 from rfl, nI_eq (by omega) (by omega)] at z; omega
  · rw [ct, a2 t t4]
    refine nm_r (xw_i6 t (sz t)) (And.intro v6 ?_)
    rw [c6]
    refine nm_e (And.intro v6 (nm_e (And.intro v6 (nm_e (And.intro vt (And.intro vt ?_))))))
    refine nm_r (e' := upd a_size t (nI (sz t + 1))) (by rw [nI_1]) (nm_r (e' := nI (n + 1)) (by rw [a1]; exact nI_1 _) (And.intro vt ?_))
    have es : upd a_size t (nI (sz t + 1)) t = nI (sz t + 1) := pk_us
    rw [es]
    refine h _ _ _ _ _ ⟨rfl, fun u u4 => ?_, fun u i u4 hi => ?_⟩
    · by_cases c : u = t
      · subst c; rw [pk_us, sq_up_s]
      · rw [pk_un c, sq_up_n _ _ c]; exact a2 u u4
    · have lim : i < sz u ∨ (u = t ∧ i = sz t) := by
        by_cases c : u = t
        · subst c; rw [sq_up_s] at hi; omega
        · rw [sq_up_n _ _ c] at hi; exact Or.inl hi
      have su := sq_sz6 w u4
      have col : ∀ (ar : Nat → Int32) (f : Nat → Nat) (val : Nat), (∀ i, i < sz u → ar (6 * u + i) = nI (f (sq_of sz u + i))) → upd ar (6 * t + sz t) (nI val) (6 * u + i) = nI (pg_i f (sq_of sz t + sz t) val (sq_of (sq_up sz t (sz t + 1)) u + i)) := by
        intro ar f val hf
        rcases pg_i_at f val hi with ⟨q1, q2, q3⟩ | ⟨q1, q2, q3⟩
        · subst q1; subst q2; rw [q3, pk_us]
        · rw [q3, pk_un (by omega)]; exact hf i q1
      exact ⟨col a_kind (sq_kd P) k (fun i hi => (a3 u i u4 hi).1), col a_variable (sq_vr P) x (fun i hi => (a3 u i u4 hi).2.1), col a_value (sq_vl P) v (fun i hi => (a3 u i u4 hi).2.2)⟩
theorem xw_badT {t : Nat} (t4 : t < 4) {post : Int32 → Prop} (h : post 0) : wpX_badThread post (f_total, f_loads, f_states, f_memory, f_known, f_many, f_strictMany, a_size, a_kind, a_variable, a_value, a_length, a_tryKind, a_tryVariable, a_tryValue, a_loadNumber, a_position, a_content, a_table, a_at, a_done, a_list, a_strictList) (nI t) :=
  br_f (nI_pos (by omega)) (br_t (nI_lt (b := 4) t4 (by omega)) h)
theorem xw_badF {p : Int32} (hp : p < 0 ∨ nI 4 ≤ p) {post : Int32 → Prop} (h : post 1) : wpX_badThread post (f_total, f_loads, f_states, f_memory, f_known, f_many, f_strictMany, a_size, a_kind, a_variable, a_value, a_length, a_tryKind, a_tryVariable, a_tryValue, a_loadNumber, a_position, a_content, a_table, a_at, a_done, a_list, a_strictList) p := by
  rcases hp with hp | hp
  · exact br_t hp h
  · exact br_f (Int32.not_lt.mpr (Int32.le_trans (by decide) hp)) (br_f (Int32.not_lt.mpr hp) h)
theorem xw_drop (w : sq_wf P n sz) (A : xw_P P n sz f_total a_size a_kind a_variable a_value) {t : Nat} (t4 : t < 4) {post : Int32 → SX → Prop}
    (h0 : sz t = 0 → post (-4) (f_total, f_loads, f_states, f_memory, f_known, f_many, f_strictMany, a_size, a_kind, a_variable, a_value, a_length, a_tryKind, a_tryVariable, a_tryValue, a_loadNumber, a_position, a_content, a_table, a_at, a_done, a_list, a_strictList))
    (h : 0 < sz t → ∀ f_total a_size, xw_P (pg_del P (sq_of sz t + (sz t - 1))) (n - 1) (sq_up sz t (sz t - 1)) f_total a_size a_kind a_variable a_value → post (nI (sz t - 1)) (f_total, f_loads, f_states, f_memory, 0, f_many, f_strictMany, a_size, a_kind, a_variable, a_value, a_length, a_tryKind, a_tryVariable, a_tryValue, a_loadNumber, a_position, a_content, a_table, a_at, a_done, a_list, a_strictList)) : wpX_drop post (f_total, f_loads, f_states, f_memory, f_known, f_many, f_strictMany, a_size, a_kind, a_variable, a_value, a_length, a_tryKind, a_tryVariable, a_tryValue, a_loadNumber, a_position, a_content, a_table, a_at, a_done, a_list, a_strictList) (nI t) := by
  have s6 := sq_sz6 w t4
  have n6 := w.2.1
  have vt : vp_in (nI t) 4 := vp_in_nI t4 (by omega)
  have ct : (nI t).toNatClampNeg = t := nI_clamp (by omega)
  obtain ⟨a1, a2, a3⟩ := A
  unfold wpX_drop
  refine xw_badT t4 (br_t rfl (And.intro vt ?_))
  rw [ct, a2 t t4]
  by_cases z : sz t = 0
  · exact br_t (by rw [z]; exact nI_0) (h0 z)
  · have hn : sz t ≤ n := by
      have h1 := sq_of_le sz (t := t + 1) (u := 4) (by omega)
      rw [sq_of_s, ← w.1] at h1
      omega
    have e1 : nI (sz t) - 1 = nI (sz t - 1) := by rw [show (1 : Int32) = nI 1 from rfl]; exact pk_sub (by omega)
    have e2 : f_total - 1 = nI (n - 1) := by rw [a1, show (1 : Int32) = nI 1 from rfl]; exact pk_sub (by omega)
    refine br_f (nI_ne0 (by omega) (by omega)) (And.intro vt (And.intro vt (nm_r (congrArg (upd a_size t) e1) (nm_r e2 (And.intro vt ?_)))))
    have es : upd a_size t (nI (sz t - 1)) t = nI (sz t - 1) := pk_us
    rw [es]
    refine h (by omega) _ _ ⟨rfl, fun u u4 => ?_, fun u i u4 hi => ?_⟩
    · by_cases c : u = t
      · subst c; rw [pk_us, sq_up_s]
      · rw [pk_un c, sq_up_n _ _ c]; exact a2 u u4
    · have hs : 0 < sz t := by omega
      have q := a3 u i u4 (pg_d_at (sq_kd P) hs hi).1
      refine ⟨?_, ?_, ?_⟩
      · show _ = nI (pg_d (sq_kd P) _ _)
        rw [(pg_d_at (sq_kd P) hs hi).2]; exact q.1
      · show _ = nI (pg_d (sq_vr P) _ _)
        rw [(pg_d_at (sq_vr P) hs hi).2]; exact q.2.1
      · show _ = nI (pg_d (sq_vl P) _ _)
        rw [(pg_d_at (sq_vl P) hs hi).2]; exact q.2.2
theorem xw_cl2 {post : SX → Prop} (h : ∀ a_size, (∀ t, t < 4 → a_size t = nI 0) → post (0, f_loads, f_states, f_memory, 0, f_many, f_strictMany, a_size, a_kind, a_variable, a_value, a_length, a_tryKind, a_tryVariable, a_tryValue, a_loadNumber, a_position, a_content, a_table, a_at, a_done, a_list, a_strictList)) : ∀ d t k a_size, t + d = 4 → d < k → (∀ u, u < t → a_size u = nI 0) → wX_clear_2 post f_total f_loads f_states f_memory f_known f_many f_strictMany k (nI t) a_size a_kind a_variable a_value a_length a_tryKind a_tryVariable a_tryValue a_loadNumber a_position a_content a_table a_at a_done a_list a_strictList := by
  intro d
  induction d with
  | zero =>
    intro t k a_size e hk hu
    obtain ⟨k, rfl⟩ : ∃ m, k = m + 1 := ⟨k - 1, by omega⟩
    obtain rfl : t = 4 := by omega
    exact br_t (nI_le (a := 4) (b := 4) (by omega) (by omega)) (h a_size hu)
  | succ d ih =>
    intro t k a_size e hk hu
    obtain ⟨k, rfl⟩ : ∃ m, k = m + 1 := ⟨k - 1, by omega⟩
    refine br_f (nI_ge (b := 4) (by omega) (by omega)) (And.intro (vp_in_nI (by omega) (by omega)) (nm_e (nm_r (nI_1 _) (ih (t + 1) k _ (by omega) (by omega) (fun u hu' => ?_)))))
    rw [nI_clamp (n := t) (by omega)]
    by_cases c : u = t
    · subst c; rw [pk_us]; exact nI_0.symm
    · rw [pk_un c]; exact hu u (by omega)
end
section
variable {f_size f_fences f_storeCount f_loadCount f_listed f_strictListed : Int32} {a_kinds a_threads a_variables a_values a_stores a_loads a_found a_place a_after a_list a_strictList : Nat → Int32}
variable {P : sq_PG} {n : Nat} {sz : Nat → Nat}
theorem yw_co4 (w : sq_wf P n sz) (A : yw_P P n f_size a_kinds a_threads a_variables a_values) {t : Nat} (t4 : t < 4) {post : Int32 → Prop} (h : post (nI (sz t))) : ∀ d i k, i + d = n → d < k → wY_countOf_4 post (nI t) f_size f_fences f_storeCount f_loadCount f_listed f_strictListed a_kinds a_threads a_variables a_values a_stores a_loads a_found a_place a_after a_list a_strictList k (nI (sq_ct sz t i)) (nI i) := by
  have n6 := w.2.1
  intro d
  induction d with
  | zero =>
    intro i k e hk
    obtain ⟨k, rfl⟩ : ∃ m, k = m + 1 := ⟨k - 1, by omega⟩
    obtain rfl : i = n := by omega
    rw [sq_ct_n w t4]
    exact br_t (by rw [A.1]; exact nI_le (Nat.le_refl _) (by omega)) h
  | succ d ih =>
    intro i k e hk
    obtain ⟨k, rfl⟩ : ∃ m, k = m + 1 := ⟨k - 1, by omega⟩
    have th := ((sq_wf_ok w).2.1 i (by omega)).1
    have nx := ih (i + 1) k (by omega) (by omega)
    rw [sq_ct_s w t4 (by omega)] at nx
    refine br_f (by rw [A.1]; exact nI_ge (by omega) (by omega)) (And.intro (vp_in_nI (by omega) (by omega)) ?_)
    rw [xw_r i (by omega) rfl (A.2 i (by omega)).2.1]
    by_cases c : sq_th P i = t
    · rw [if_pos c] at nx
      exact br_t (congrArg nI c) (nm_r (nI_1 _) (nm_r (nI_1 _) nx))
    · rw [if_neg c] at nx
      exact br_f (fun z => c ((nI_eq (by omega) (by omega)).mp z)) (nm_r (nI_1 _) nx)
theorem yw_countOf (w : sq_wf P n sz) (A : yw_P P n f_size a_kinds a_threads a_variables a_values) {t : Nat} (t4 : t < 4) {post : Int32 → Prop} (h : post (nI (sz t))) : wpY_countOf post (f_size, f_fences, f_storeCount, f_loadCount, f_listed, f_strictListed, a_kinds, a_threads, a_variables, a_values, a_stores, a_loads, a_found, a_place, a_after, a_list, a_strictList) (nI t) := by
  have := yw_co4 (f_fences := f_fences) (f_storeCount := f_storeCount) (f_loadCount := f_loadCount) (f_listed := f_listed) (f_strictListed := f_strictListed) (a_stores := a_stores) (a_loads := a_loads) (a_found := a_found) (a_place := a_place) (a_after := a_after) (a_list := a_list) (a_strictList := a_strictList) w A t4 h n 0 (n + 1) (by omega) (by omega)
  rw [sq_ct_0] at this
  exact ⟨n + 1, this⟩
theorem yw_in47 (w : sq_wf P n sz) {t k x v p : Nat} (t4 : t < 4) (n6 : n < 6) (hp : p ≤ n) (es : f_size = nI n) {post : Int32 → SY → Prop}
    (h : ∀ a_kinds a_threads a_variables a_values, yw_P (pg_ins P p t k x v) (n + 1) (nI (n + 1)) a_kinds a_threads a_variables a_values → wpY_countOf (fun r => post r (nI (n + 1), f_fences, f_storeCount, f_loadCount, f_listed, f_strictListed, a_kinds, a_threads, a_variables, a_values, a_stores, a_loads, a_found, a_place, a_after, a_list, a_strictList)) (nI (n + 1), f_fences, f_storeCount, f_loadCount, f_listed, f_strictListed, a_kinds, a_threads, a_variables, a_values, a_stores, a_loads, a_found, a_place, a_after, a_list, a_strictList) (nI t)) :
    ∀ d i f a_kinds a_threads a_variables a_values, p + d = i → i ≤ n → d < f → (∀ j, j < i → a_kinds j = nI (sq_kd P j) ∧ a_threads j = nI (sq_th P j) ∧ a_variables j = nI (sq_vr P j) ∧ a_values j = nI (sq_vl P j)) →
      (∀ j, i < j → j < n + 1 → a_kinds j = nI (sq_kd P (j - 1)) ∧ a_threads j = nI (sq_th P (j - 1)) ∧ a_variables j = nI (sq_vr P (j - 1)) ∧ a_values j = nI (sq_vl P (j - 1))) →
      wY_insert_47 post (nI k) (nI t) (nI x) (nI v) (nI p) f_size f_fences f_storeCount f_loadCount f_listed f_strictListed f (nI i) a_kinds a_threads a_variables a_values a_stores a_loads a_found a_place a_after a_list a_strictList := by
  intro d
  induction d with
  | zero =>
    intro i f a_kinds a_threads a_variables a_values e hi hf e1 e2
    obtain ⟨f, rfl⟩ : ∃ m, f = m + 1 := ⟨f - 1, by omega⟩
    obtain rfl : i = p := by omega
    have vi : vp_in (nI i) 6 := vp_in_nI (by omega) (by omega)
    refine br_t (nI_le (Nat.le_refl _) (by omega)) (And.intro vi ?_)
    rw [nI_clamp (n := i) (by omega)]
    refine nm_e (And.intro vi (nm_e (And.intro vi (nm_e (And.intro vi (nm_e (nm_r (e' := nI (n + 1)) (by rw [es]; exact nI_1 _) (h _ _ _ _ ⟨rfl, fun j hj => ?_⟩))))))))
    have col : ∀ (ar : Nat → Int32) (g : Nat → Nat) (val : Nat), (∀ j, j < i → ar j = nI (g j)) → (∀ j, i < j → j < n + 1 → ar j = nI (g (j - 1))) → upd ar i (nI val) j = nI (pg_i g i val j) := by
      intro ar g val g1 g2
      unfold pg_i
      by_cases a : j < i
      · rw [if_pos a, pk_un (by omega)]; exact g1 j a
      · rw [if_neg a]
        by_cases b : j = i
        · subst b; rw [if_pos rfl, pk_us]
        · rw [if_neg b, pk_un b]; exact g2 j (by omega) hj
    exact ⟨col a_kinds (sq_kd P) k (fun j hj => (e1 j hj).1) (fun j a b => (e2 j a b).1), col a_threads (sq_th P) t (fun j hj => (e1 j hj).2.1) (fun j a b => (e2 j a b).2.1),
      col a_variables (sq_vr P) x (fun j hj => (e1 j hj).2.2.1) (fun j a b => (e2 j a b).2.2.1), col a_values (sq_vl P) v (fun j hj => (e1 j hj).2.2.2) (fun j a b => (e2 j a b).2.2.2)⟩
  | succ d ih =>
    intro i f a_kinds a_threads a_variables a_values e hi hf e1 e2
    obtain ⟨f, rfl⟩ : ∃ m, f = m + 1 := ⟨f - 1, by omega⟩
    obtain ⟨i, rfl⟩ : ∃ m, i = m + 1 := ⟨i - 1, by omega⟩
    have vi : vp_in (nI (i + 1)) 6 := vp_in_nI (by omega) (by omega)
    have vp : vp_in (nI (i + 1) - 1) 6 := by rw [nI_pred]; exact vp_in_nI (by omega) (by omega)
    obtain ⟨c1, c2, c3, c4⟩ := e1 i (by omega)
    have cc : (nI (i + 1) - 1).toNatClampNeg = i := by rw [nI_pred]; exact nI_clamp (by omega)
    refine br_f (nI_ge (by omega) (by omega)) (And.intro vp (And.intro vi ?_))
    rw [cc, c1, c2, c3, c4, nI_clamp (n := i + 1) (by omega)]
    refine nm_e (And.intro vp (And.intro vi (nm_e (And.intro vp (And.intro vi (nm_e (And.intro vp (And.intro vi (nm_e (nm_r (pk_m1 i) (ih i f _ _ _ _ (by omega) (by omega) (by omega) (fun j hj => ?_) (fun j j1 j2 => ?_))))))))))))
    · rw [pk_un (by omega), pk_un (by omega), pk_un (by omega), pk_un (by omega)]; exact e1 j (by omega)
    · by_cases y : j = i + 1
      · subst y
        rw [pk_us, pk_us, pk_us, pk_us]
        exact ⟨rfl, rfl, rfl, rfl⟩
      · rw [pk_un y, pk_un y, pk_un y, pk_un y]; exact e2 j (by omega) j2
theorem yw_insert (w : sq_wf P n sz) (A : yw_P P n f_size a_kinds a_threads a_variables a_values) {t k x v : Nat} (t4 : t < 4) (n6 : n < 6) (hk : k ≤ 2) (hx : x ≤ 2) (hv : v ≤ 3) {post : Int32 → SY → Prop}
    (h : ∀ f_size a_kinds a_threads a_variables a_values, yw_P (pg_ins P (sq_of sz t + sz t) t k x v) (n + 1) f_size a_kinds a_threads a_variables a_values → post (nI (sz t + 1)) (f_size, f_fences, f_storeCount, f_loadCount, f_listed, f_strictListed, a_kinds, a_threads, a_variables, a_values, a_stores, a_loads, a_found, a_place, a_after, a_list, a_strictList)) : wpY_insert post (f_size, f_fences, f_storeCount, f_loadCount, f_listed, f_strictListed, a_kinds, a_threads, a_variables, a_values, a_stores, a_loads, a_found, a_place, a_after, a_list, a_strictList) (nI k) (nI t) (nI x) (nI v) := by
  have pn : sq_of sz t + sz t ≤ n := by
    have h1 := sq_of_le sz (t := t + 1) (u := 4) (by omega)
    rw [sq_of_s, ← w.1] at h1
    exact h1
  have go : ∀ i, i = sq_of sz t + sz t → ∃ n47 : Nat, wY_insert_47 post (nI k) (nI t) (nI x) (nI v) (nI i) f_size f_fences f_storeCount f_loadCount f_listed f_strictListed n47 f_size a_kinds a_threads a_variables a_values a_stores a_loads a_found a_place a_after a_list a_strictList := by
    intro i ei
    subst ei
    have main := yw_in47 (f_fences := f_fences) (f_storeCount := f_storeCount) (f_loadCount := f_loadCount) (f_listed := f_listed) (f_strictListed := f_strictListed) (a_stores := a_stores) (a_loads := a_loads) (a_found := a_found) (a_place := a_place) (a_after := a_after) (a_list := a_list) (a_strictList := a_strictList) (post := post) (k := k) (x := x) (v := v)
      w t4 n6 pn A.1 (fun a_kinds a_threads a_variables a_values B => yw_countOf (pg_ins_wf w t4 n6 hk hx hv) B t4 (by rw [sq_up_s]; exact h _ _ _ _ _ B)) (n - (sq_of sz t + sz t)) n (n - (sq_of sz t + sz t) + 1) a_kinds a_threads a_variables a_values (by omega) (Nat.le_refl _) (by omega) A.2 (fun j j1 j2 => by omega)
    rw [← A.1] at main
    exact ⟨_, main⟩
  have lp : ∀ d i f, i + d = sq_of sz t + sz t → d < f → wY_insert_15 post (nI k) (nI t) (nI x) (nI v) f_size f_fences f_storeCount f_loadCount f_listed f_strictListed a_kinds a_threads a_variables a_values a_stores a_loads a_found a_place a_after a_list a_strictList f (nI i) := by
    intro d
    induction d with
    | zero =>
      intro i f e hf
      obtain ⟨f, rfl⟩ : ∃ m, f = m + 1 := ⟨f - 1, by omega⟩
      by_cases c : n ≤ i
      · exact br_t (by rw [A.1]; exact nI_le c (by omega)) (go i (by omega))
      · refine br_f (by rw [A.1]; exact nI_ge (by omega) (by omega)) (And.intro (vp_in_nI (by omega) (by omega)) ?_)
        rw [xw_r i (by omega) rfl (A.2 i (by omega)).2.1]
        have th := ((sq_wf_ok w).2.1 i (by omega)).1
        have lt : t < sq_th P i := by
          apply Classical.byContradiction
          intro z
          have z1 := (sq_wf_sz w).1 (sq_th P i) th i
          have z2 := z1.mp ⟨by omega, rfl⟩
          by_cases q : sq_th P i = t
          · rw [q] at z2; omega
          · have := sq_of_le sz (t := sq_th P i + 1) (u := t) (by omega)
            rw [sq_of_s] at this
            omega
        exact br_t (nI_lt lt (by omega)) (go i (by omega))
    | succ d ih =>
      intro i f e hf
      obtain ⟨f, rfl⟩ : ∃ m, f = m + 1 := ⟨f - 1, by omega⟩
      refine br_f (by rw [A.1]; exact nI_ge (by omega) (by omega)) (And.intro (vp_in_nI (by omega) (by omega)) ?_)
      rw [xw_r i (by omega) rfl (A.2 i (by omega)).2.1]
      have th := ((sq_wf_ok w).2.1 i (by omega)).1
      have le : sq_th P i ≤ t := by
        apply Classical.byContradiction
        intro z
        have z1 := (sq_wf_sz w).1 (sq_th P i) th i
        have z2 := z1.mp ⟨by omega, rfl⟩
        have := sq_of_le sz (t := t + 1) (u := sq_th P i) (by omega)
        rw [sq_of_s] at this
        omega
      exact br_f (nI_nlt le (by omega)) (nm_r (nI_1 _) (ih (i + 1) f (by omega) (by omega)))
  unfold wpY_insert
  refine br_f (fun z => ?_) ⟨_, lp (sq_of sz t + sz t) 0 _ (by omega) (Nat.lt_succ_self _)⟩
  rw [A.1, show (6 : Int32) = nI 6 from rfl, nI_eq (by omega) (by omega)] at z; omega
theorem yw_dr64 {t p : Nat} (n6 : n ≤ 6) (hn : 0 < n) (hp : p < n) (es : f_size = nI (n - 1)) {post : Int32 → SY → Prop}
    (h : ∀ a_kinds a_threads a_variables a_values, yw_P (pg_del P p) (n - 1) f_size a_kinds a_threads a_variables a_values → wpY_countOf (fun r => post r (f_size, f_fences, f_storeCount, f_loadCount, f_listed, f_strictListed, a_kinds, a_threads, a_variables, a_values, a_stores, a_loads, a_found, a_place, a_after, a_list, a_strictList)) (f_size, f_fences, f_storeCount, f_loadCount, f_listed, f_strictListed, a_kinds, a_threads, a_variables, a_values, a_stores, a_loads, a_found, a_place, a_after, a_list, a_strictList) (nI t)) :
    ∀ d i f a_kinds a_threads a_variables a_values, i + d = n - 1 → d < f → p ≤ i → (∀ j, j < i → a_kinds j = nI (pg_d (sq_kd P) p j) ∧ a_threads j = nI (pg_d (sq_th P) p j) ∧ a_variables j = nI (pg_d (sq_vr P) p j) ∧ a_values j = nI (pg_d (sq_vl P) p j)) →
      (∀ j, i ≤ j → j < n → a_kinds j = nI (sq_kd P j) ∧ a_threads j = nI (sq_th P j) ∧ a_variables j = nI (sq_vr P j) ∧ a_values j = nI (sq_vl P j)) → wY_drop_64 post (nI t) f_size f_fences f_storeCount f_loadCount f_listed f_strictListed f (nI i) a_kinds a_threads a_variables a_values a_stores a_loads a_found a_place a_after a_list a_strictList := by
  intro d
  induction d with
  | zero =>
    intro i f a_kinds a_threads a_variables a_values e hf hpi e1 e2
    obtain ⟨f, rfl⟩ : ∃ m, f = m + 1 := ⟨f - 1, by omega⟩
    exact br_t (by rw [es]; exact nI_le (by omega) (by omega)) (h _ _ _ _ ⟨es, fun j hj => e1 j (by omega)⟩)
  | succ d ih =>
    intro i f a_kinds a_threads a_variables a_values e hf hpi e1 e2
    obtain ⟨f, rfl⟩ : ∃ m, f = m + 1 := ⟨f - 1, by omega⟩
    have vi : vp_in (nI i) 6 := vp_in_nI (by omega) (by omega)
    have vp : vp_in (nI i + 1) 6 := by rw [nI_1]; exact vp_in_nI (by omega) (by omega)
    have cc : (nI i + 1).toNatClampNeg = i + 1 := by rw [nI_1]; exact nI_clamp (by omega)
    obtain ⟨c1, c2, c3, c4⟩ := e2 (i + 1) (by omega) (by omega)
    have pd : ∀ g : Nat → Nat, pg_d g p i = g (i + 1) := fun g => if_neg (by omega)
    refine br_f (by rw [es]; exact nI_ge (by omega) (by omega)) (And.intro vp (And.intro vi ?_))
    rw [cc, c1, c2, c3, c4, nI_clamp (n := i) (by omega)]
    refine nm_e (And.intro vp (And.intro vi (nm_e (And.intro vp (And.intro vi (nm_e (And.intro vp (And.intro vi (nm_e (nm_r (nI_1 _) (ih (i + 1) f _ _ _ _ (by omega) (by omega) (by omega) (fun j hj => ?_) (fun j j1 j2 => ?_))))))))))))
    · by_cases y : j = i
      · subst y
        rw [pk_us, pk_us, pk_us, pk_us, pd, pd, pd, pd]
        exact ⟨rfl, rfl, rfl, rfl⟩
      · rw [pk_un y, pk_un y, pk_un y, pk_un y]; exact e1 j (by omega)
    · rw [pk_un (by omega), pk_un (by omega), pk_un (by omega), pk_un (by omega)]; exact e2 j (by omega) j2
theorem yw_drop (w : sq_wf P n sz) (A : yw_P P n f_size a_kinds a_threads a_variables a_values) {t : Nat} (t4 : t < 4) {post : Int32 → SY → Prop}
    (h0 : sz t = 0 → post (-4) (f_size, f_fences, f_storeCount, f_loadCount, f_listed, f_strictListed, a_kinds, a_threads, a_variables, a_values, a_stores, a_loads, a_found, a_place, a_after, a_list, a_strictList))
    (h : 0 < sz t → ∀ f_size a_kinds a_threads a_variables a_values, yw_P (pg_del P (sq_of sz t + (sz t - 1))) (n - 1) f_size a_kinds a_threads a_variables a_values → post (nI (sz t - 1)) (f_size, f_fences, f_storeCount, f_loadCount, f_listed, f_strictListed, a_kinds, a_threads, a_variables, a_values, a_stores, a_loads, a_found, a_place, a_after, a_list, a_strictList)) : wpY_drop post (f_size, f_fences, f_storeCount, f_loadCount, f_listed, f_strictListed, a_kinds, a_threads, a_variables, a_values, a_stores, a_loads, a_found, a_place, a_after, a_list, a_strictList) (nI t) := by
  have n6 := w.2.1
  have pn : sq_of sz t + sz t ≤ n := by
    have h1 := sq_of_le sz (t := t + 1) (u := 4) (by omega)
    rw [sq_of_s, ← w.1] at h1
    exact h1
  have lp : ∀ d i f x, i + d = n → d < f → ((i ≤ sq_of sz t ∨ sz t = 0) → x = -1) → (sq_of sz t < i → 0 < sz t → x = nI (if i ≤ sq_of sz t + sz t then i - 1 else sq_of sz t + (sz t - 1))) → wY_drop_15 post (nI t) f_size f_fences f_storeCount f_loadCount f_listed f_strictListed a_kinds a_threads a_variables a_values a_stores a_loads a_found a_place a_after a_list a_strictList f x (nI i) := by
    intro d
    induction d with
    | zero =>
      intro i f x e hf e1 e2
      obtain ⟨f, rfl⟩ : ∃ m, f = m + 1 := ⟨f - 1, by omega⟩
      obtain rfl : i = n := by omega
      refine br_t (by rw [A.1]; exact nI_le (Nat.le_refl _) (by omega)) ?_
      by_cases z : sz t = 0
      · exact br_f (by rw [e1 (Or.inr z)]; decide) (h0 z)
      · have hs : 0 < sz t := by omega
        have ex := e2 (by omega) hs
        have ep : (if i ≤ sq_of sz t + sz t then i - 1 else sq_of sz t + (sz t - 1)) = sq_of sz t + (sz t - 1) := by
          by_cases c : i ≤ sq_of sz t + sz t
          · rw [if_pos c]; omega
          · rw [if_neg c]
        rw [ep] at ex
        rw [ex]
        have e3 : f_size - 1 = nI (i - 1) := by rw [A.1, show (1 : Int32) = nI 1 from rfl]; exact pk_sub (by omega)
        refine br_t (nI_pos' (by omega)) (nm_r e3 ⟨i - 1 - (sq_of sz t + (sz t - 1)) + 1, ?_⟩)
        refine yw_dr64 (P := P) (n := i) (p := sq_of sz t + (sz t - 1)) n6 (by omega) (by omega) rfl (fun a_kinds a_threads a_variables a_values B => yw_countOf (pg_del_wf w t4 hs) B t4 (by rw [sq_up_s]; exact h hs _ _ _ _ _ B))
          (i - 1 - (sq_of sz t + (sz t - 1))) (sq_of sz t + (sz t - 1)) _ a_kinds a_threads a_variables a_values (by omega) (Nat.lt_succ_self _) (Nat.le_refl _) (fun j hj => ?_) (fun j _ hj => A.2 j hj)
        have pd : ∀ g : Nat → Nat, pg_d g (sq_of sz t + (sz t - 1)) j = g j := fun g => if_pos hj
        rw [pd, pd, pd, pd]
        exact A.2 j (by omega)
    | succ d ih =>
      intro i f x e hf e1 e2
      obtain ⟨f, rfl⟩ : ∃ m, f = m + 1 := ⟨f - 1, by omega⟩
      have th := ((sq_wf_ok w).2.1 i (by omega)).1
      have q := (sq_wf_sz w).1 t t4 i
      refine br_f (by rw [A.1]; exact nI_ge (by omega) (by omega)) (And.intro (vp_in_nI (by omega) (by omega)) ?_)
      rw [xw_r i (by omega) rfl (A.2 i (by omega)).2.1]
      by_cases c : sq_th P i = t
      · have q1 := q.mp ⟨by omega, c⟩
        refine br_t (congrArg nI c) (nm_r (nI_1 _) (ih (i + 1) f (nI i) (by omega) (by omega) (fun z => by omega) (fun _ _ => ?_)))
        rw [if_pos (by omega)]; rfl
      · have q1 : ¬ (sq_of sz t ≤ i ∧ i < sq_of sz t + sz t) := fun z => c (q.mpr z).2
        refine br_f (fun z => c ((nI_eq (by omega) (by omega)).mp z)) (nm_r (nI_1 _) (ih (i + 1) f x (by omega) (by omega) (fun z => e1 (by omega)) (fun z1 z2 => ?_)))
        rw [e2 (by omega) z2]
        refine congrArg nI ?_
        (repeat' split) <;> omega
  unfold wpY_drop
  exact br_f (nI_pos (by omega)) (br_t (nI_le (b := 3) (by omega) (by omega)) ⟨n + 1, lp n 0 (n + 1) (-1) (by omega) (by omega) (fun _ => rfl) (fun z => by omega)⟩)
end
end
section
/-! sets of gaps: X's numbers and Y's numbers -/
def fg_b (a i : Nat) : Nat := a / 2 ^ i % 2
def fg_c (a : Nat) : Nat → Nat
  | 0 => 0
  | k + 1 => fg_c a k + fg_b a k
theorem fg_b01 (a i : Nat) : fg_b a i = 0 ∨ fg_b a i = 1 := by unfold fg_b; omega
/-- Y's set s and X's set g name the same gaps (gm: where gaps are) -/
def fg_r (gm g s : Nat) : Bool := (List.range 5).all fun e => (fg_b s e == 0 || fg_b gm e == 1) && (fg_b gm e == 0 || fg_b s e == fg_b g (fg_c gm e))
theorem fg_xy : ∀ gm, gm < 32 → ∀ g, g < 2 ^ fg_c gm 5 → ∃ s, s < 32 ∧ fg_r gm g s = true ∧ fg_c s 6 = fg_c g 6 := by decide +kernel
theorem fg_yx : ∀ gm, gm < 32 → ∀ s, s < 32 → (∀ e, e < 5 → fg_b s e = 1 → fg_b gm e = 1) → ∃ g, g < 2 ^ fg_c gm 5 ∧ fg_r gm g s = true ∧ fg_c s 6 = fg_c g 6 := by decide +kernel
theorem fg_fu : ∀ k, k < 6 → ∀ i, i < k → fg_b (2 ^ k - 1) i = 1 := by decide +kernel
theorem fg_fc : ∀ k, k < 6 → fg_c (2 ^ k - 1) 6 = k := by decide +kernel
theorem fg_z : ∀ g, g < 32 → fg_c g 6 = 0 → g = 0 := by decide +kernel
theorem fg_c5 : ∀ g, g < 32 → fg_c g 6 ≤ 5 := by decide +kernel
theorem fg_r_e {gm g s e : Nat} (h : fg_r gm g s = true) (he : e < 5) : (fg_b s e = 1 → fg_b gm e = 1) ∧ (fg_b gm e = 1 → fg_b s e = fg_b g (fg_c gm e)) := by
  unfold fg_r at h
  rw [List.all_eq_true] at h
  have := h e (List.mem_range.mpr he)
  rw [Bool.and_eq_true, Bool.or_eq_true, Bool.or_eq_true, beq_iff_eq, beq_iff_eq, beq_iff_eq, beq_iff_eq] at this
  constructor
  · intro z; rcases this.1 with q | q
    · omega
    · exact q
  · intro z; rcases this.2 with q | q
    · omega
    · exact q
/-- where the gaps are -/
def sq_gm (P : sq_PG) (n : Nat) : Nat → Nat
  | 0 => 0
  | e + 1 => sq_gm P n e + (if e + 1 < n ∧ sq_th P (e + 1) = sq_th P e then 2 ^ e else 0)
theorem sq_gm_lt (P : sq_PG) (n : Nat) : ∀ k, sq_gm P n k < 2 ^ k := by
  intro k
  induction k with
  | zero => exact Nat.one_pos
  | succ k ih =>
    show sq_gm P n k + _ < _
    rw [Nat.pow_succ]
    split <;> omega
theorem sq_gm_b (P : sq_PG) (n : Nat) {e : Nat} : ∀ {k : Nat}, e < k → (fg_b (sq_gm P n k) e = 1 ↔ (e + 1 < n ∧ sq_th P (e + 1) = sq_th P e)) := by
  intro k
  induction k with
  | zero => intro h; omega
  | succ k ih =>
    intro h
    have lt := sq_gm_lt P n k
    unfold fg_b at ih ⊢
    show (sq_gm P n k + (if k + 1 < n ∧ sq_th P (k + 1) = sq_th P k then 2 ^ k else 0)) / 2 ^ e % 2 = 1 ↔ _
    by_cases c : e = k
    · subst c
      by_cases d : e + 1 < n ∧ sq_th P (e + 1) = sq_th P e
      · rw [if_pos d, Nat.add_div_right _ (Nat.pow_pos (by omega)), Nat.div_eq_of_lt lt]
        exact ⟨fun _ => d, fun _ => rfl⟩
      · rw [if_neg d, Nat.add_zero, Nat.div_eq_of_lt lt]
        exact ⟨fun z => by omega, fun z => absurd z d⟩
    · rw [← ih (by omega)]
      by_cases d : k + 1 < n ∧ sq_th P (k + 1) = sq_th P k
      · rw [if_pos d]
        obtain ⟨f, rfl⟩ : ∃ f, k = e + 1 + f := ⟨k - e - 1, by omega⟩
        have e1 : 2 ^ (e + 1 + f) = (2 ^ f * 2) * 2 ^ e := by rw [Nat.pow_add, Nat.pow_succ, Nat.mul_comm, Nat.mul_assoc, Nat.mul_comm (2 ^ e) 2]
        rw [e1, Nat.add_mul_div_right _ _ (Nat.pow_pos (by omega)), Nat.add_mul_mod_self_right]
      · rw [if_neg d, Nat.add_zero]
theorem sq_gm_c (P : sq_PG) (n : Nat) (k : Nat) : ∀ e, e ≤ k → fg_c (sq_gm P n k) e = sq_gn P n e := by
  intro e
  induction e with
  | zero => intro _; rfl
  | succ e ih =>
    intro h
    show fg_c (sq_gm P n k) e + fg_b (sq_gm P n k) e = sq_gn P n e + _
    rw [ih (by omega)]
    have b := sq_gm_b P n (e := e) (k := k) (by omega)
    by_cases c : e + 1 < n ∧ sq_th P (e + 1) = sq_th P e
    · rw [if_pos c, b.mpr c]
    · rw [if_neg c]
      have := fg_b01 (sq_gm P n k) e
      have : ¬ fg_b (sq_gm P n k) e = 1 := fun z => c (b.mp z)
      omega
/-- behind the program no gap is counted -/
theorem sq_gn_end (P : sq_PG) (n : Nat) : ∀ d, sq_gn P n (n + d) = sq_gn P n n := by
  intro d
  induction d with
  | zero => rfl
  | succ d ih =>
    show sq_gn P n (n + d) + (if n + d + 1 < n ∧ _ then 1 else 0) = _
    rw [ih, if_neg (by omega)]; rfl
theorem sq_gn_mono (P : sq_PG) (n : Nat) {a : Nat} : ∀ {b : Nat}, a ≤ b → sq_gn P n a ≤ sq_gn P n b := by
  intro b
  induction b with
  | zero => intro h; have : a = 0 := by omega
            subst this; exact Nat.le_refl _
  | succ b ih =>
    intro h
    by_cases e : a = b + 1
    · subst e; exact Nat.le_refl _
    · have := ih (by omega)
      show _ ≤ sq_gn P n b + _
      omega
/-- the gaps in all -/
def sq_T (P : sq_PG) (n : Nat) : Nat := sq_gn P n 5
theorem sq_T_lt {P : sq_PG} {n : Nat} (n6 : n ≤ 6) {e : Nat} (h : e + 1 < n) (c : sq_th P (e + 1) = sq_th P e) : sq_gn P n e < sq_T P n := by
  have h1 : sq_gn P n (e + 1) = sq_gn P n e + 1 := by
    show sq_gn P n e + _ = _
    rw [if_pos ⟨h, c⟩]
  have h2 := sq_gn_mono P n (a := e + 1) (b := 5) (by omega)
  unfold sq_T
  omega
theorem sq_T_n {P : sq_PG} {n : Nat} (n6 : n ≤ 6) : sq_gn P n n = sq_T P n := by
  unfold sq_T
  by_cases c : n ≤ 5
  · obtain ⟨d, hd⟩ : ∃ d, 5 = n + d := ⟨5 - n, by omega⟩
    rw [hd, sq_gn_end]
  · obtain rfl : n = 6 := by omega
    show sq_gn P 6 5 + (if 5 + 1 < 6 ∧ _ then 1 else 0) = _
    rw [if_neg (by omega)]; rfl
theorem sq_T5 (P : sq_PG) (n : Nat) : sq_T P n ≤ 5 := sq_gn_le P n 5
/-- no surprise -/
def sq_nos (P : sq_PG) (n : Nat) (G : Nat → Bool) : Prop := ∀ m, sq_mid P n G False m → sq_mid P n (sq_G P n 0) True m
theorem sq_nos_cg {P : sq_PG} {n : Nat} (ok : sq_ok P n) {G G' : Nat → Bool} (hG : ∀ i, i + 1 < n → sq_th P (i + 1) = sq_th P i → (G i = true ↔ G' i = true)) : sq_nos P n G ↔ sq_nos P n G' :=
  ⟨fun h m z => h m ((sq_mid_cg ok hG).mpr z), fun h m z => h m ((sq_mid_cg ok hG).mp z)⟩
theorem sq_full_nos {P : sq_PG} {n : Nat} (ok : sq_ok P n) {G : Nat → Bool} (hG : ∀ i, i + 1 < n → sq_th P (i + 1) = sq_th P i → G i = true) : sq_nos P n G := by
  rintro m ⟨H, ⟨f1, f2, f3⟩, e⟩
  refine ⟨H, ⟨f1, f2, ?_⟩, e⟩
  refine List.Pairwise.imp_of_mem ?_ f3
  intro a b ha hb q c
  refine q ⟨c.1, c.2.1, fun z => z.2.2.2 ⟨a, Nat.le_refl _, c.1, Or.inl ?_⟩⟩
  have hbn := (f2 b).mp hb
  have := c.1
  exact hG a (by omega) ((sq_sqz ok (a := a) (b := a + 1) (c := b) (by omega) (by omega) hbn c.2.1).trans c.2.1.symm)
theorem sq_mid_T {P : sq_PG} {n : Nat} {G G' : Nat → Bool} {m : Nat} (h : sq_mid P n G True m) : sq_mid P n G' True m := by
  obtain ⟨H, ⟨f1, f2, f3⟩, e⟩ := h
  exact ⟨H, ⟨f1, f2, List.Pairwise.imp (fun q c => q ⟨c.1, c.2.1, fun z => z.2.2.1 trivial⟩) f3⟩, e⟩
/-- the least number of fences, by X's sets -/
def sq_minX (P : sq_PG) (n r : Nat) : Prop := (∃ g, g < 2 ^ sq_T P n ∧ fg_c g 6 = r ∧ sq_nos P n (sq_G P n g)) ∧ ∀ g, g < 2 ^ sq_T P n → sq_nos P n (sq_G P n g) → r ≤ fg_c g 6
/-- .. and by Y's -/
def sq_bt (P : sq_PG) (n s : Nat) : Prop := ∀ i, i < 5 → fg_b s i = 1 → i + 1 < n ∧ sq_th P i = sq_th P (i + 1)
def sq_minY (P : sq_PG) (n r : Nat) : Prop := (∃ s, s < 32 ∧ sq_bt P n s ∧ fg_c s 6 = r ∧ sq_nos P n (yw_G s)) ∧ ∀ s, s < 32 → sq_bt P n s → sq_nos P n (yw_G s) → r ≤ fg_c s 6
theorem sq_G_b (P : sq_PG) (n g j : Nat) : sq_G P n g j = true ↔ fg_b g (sq_gn P n j) = 1 := by unfold sq_G fg_b; simp
theorem yw_G_b (s i : Nat) : yw_G s i = true ↔ fg_b s i = 1 := by unfold yw_G fg_b; simp
theorem sq_p32 {k : Nat} (h : k ≤ 5) : 2 ^ k ≤ 32 := Nat.le_trans (Nat.pow_le_pow_right (by omega) h) (by decide)
/-- X's sets and Y's sets give the same -/
theorem sq_set_xy {P : sq_PG} {n : Nat} (ok : sq_ok P n) {g : Nat} (hg : g < 2 ^ sq_T P n) : ∃ s, s < 32 ∧ sq_bt P n s ∧ fg_c s 6 = fg_c g 6 ∧ (sq_nos P n (yw_G s) ↔ sq_nos P n (sq_G P n g)) := by
  have n6 := ok.1
  have gm := sq_gm_lt P n 5
  have ec := sq_gm_c P n 5 5 (Nat.le_refl _)
  obtain ⟨s, s1, s2, s3⟩ := fg_xy (sq_gm P n 5) gm g (by rw [ec]; exact hg)
  refine ⟨s, s1, fun i hi b => ?_, s3, sq_nos_cg ok (fun i h1 h2 => ?_)⟩
  · have := (sq_gm_b P n hi).mp ((fg_r_e s2 hi).1 b)
    exact ⟨this.1, this.2.symm⟩
  · have i5 : i < 5 := by omega
    have e1 := (fg_r_e s2 i5).2 ((sq_gm_b P n i5).mpr ⟨h1, h2⟩)
    rw [yw_G_b, sq_G_b, e1, sq_gm_c P n 5 i (by omega)]
theorem sq_set_yx {P : sq_PG} {n : Nat} (ok : sq_ok P n) {s : Nat} (hs : s < 32) (bt : sq_bt P n s) : ∃ g, g < 2 ^ sq_T P n ∧ fg_c g 6 = fg_c s 6 ∧ (sq_nos P n (yw_G s) ↔ sq_nos P n (sq_G P n g)) := by
  have n6 := ok.1
  have gm := sq_gm_lt P n 5
  have ec := sq_gm_c P n 5 5 (Nat.le_refl _)
  obtain ⟨g, s1, s2, s3⟩ := fg_yx (sq_gm P n 5) gm s hs (fun e he b => (sq_gm_b P n he).mpr ⟨(bt e he b).1, (bt e he b).2.symm⟩)
  rw [ec] at s1
  refine ⟨g, s1, s3.symm, sq_nos_cg ok (fun i h1 h2 => ?_)⟩
  have i5 : i < 5 := by omega
  have e1 := (fg_r_e s2 i5).2 ((sq_gm_b P n i5).mpr ⟨h1, h2⟩)
  rw [yw_G_b, sq_G_b, e1, sq_gm_c P n 5 i (by omega)]
theorem sq_min_xy {P : sq_PG} {n : Nat} (ok : sq_ok P n) {r r' : Nat} (h : sq_minX P n r) (h' : sq_minY P n r') : r' = r := by
  obtain ⟨⟨g, g1, g2, g3⟩, hg⟩ := h
  obtain ⟨⟨s, s1, s2, s3, s4⟩, hs⟩ := h'
  obtain ⟨s', t1, t2, t3, t4⟩ := sq_set_xy ok g1
  obtain ⟨g', u1, u2, u3⟩ := sq_set_yx ok s1 s2
  have a := hs s' t1 t2 (t4.mpr g3)
  have b := hg g' u1 (u3.mp s4)
  omega
theorem sq_nos_all {P : sq_PG} {n : Nat} (ok : sq_ok P n) : sq_nos P n (sq_G P n (2 ^ sq_T P n - 1)) := by
  refine sq_full_nos ok (fun i h1 h2 => ?_)
  have t5 := sq_T5 P n
  rw [sq_G_b]
  exact fg_fu _ (by omega) _ (sq_T_lt ok.1 h1 h2)
end
section
/-! X: fencesNeeded -/
theorem fg_i (g i : Nat) (hg : g < 2 ^ 31) (hi : i < 32) : (nI g >>> (nI i &&& 31)) &&& 1 = nI (fg_b g i) := by
  rw [pk_shrN hg _ _ (s_l i hi), pk_andN (Nat.lt_of_le_of_lt (Nat.div_le_self _ _) (by omega)) 1 (by decide)]; rfl
theorem fg_m4 {m : Nat} (h : m < 2 ^ 31) : nI m ≠ -4 := by
  intro c
  have := congrArg Int32.toInt c
  rw [nI_toInt h, show (-4 : Int32).toInt = -4 from by decide] at this
  omega
section
variable {f_total f_loads f_states f_memory f_known f_many f_strictMany : Int32} {a_size a_kind a_variable a_value a_length a_tryKind a_tryVariable a_tryValue a_loadNumber a_position a_content a_table a_at a_done a_list a_strictList : Nat → Int32}
variable {P : sq_PG} {n : Nat} {sz : Nat → Nat}
theorem xw_sizeOf {g : Nat} (hg : g < 2 ^ 31) {post : Int32 → Prop} (h : post (nI (fg_c g 6))) : wpX_sizeOf post (f_total, f_loads, f_states, f_memory, f_known, f_many, f_strictMany, a_size, a_kind, a_variable, a_value, a_length, a_tryKind, a_tryVariable, a_tryValue, a_loadNumber, a_position, a_content, a_table, a_at, a_done, a_list, a_strictList) (nI g) := by
  have lp : ∀ d i k, i + d = 6 → d < k → wX_sizeOf_4 post (nI g) f_total f_loads f_states f_memory f_known f_many f_strictMany a_size a_kind a_variable a_value a_length a_tryKind a_tryVariable a_tryValue a_loadNumber a_position a_content a_table a_at a_done a_list a_strictList k (nI (fg_c g i)) (nI i) := by
    intro d
    induction d with
    | zero =>
      intro i k e hk
      obtain ⟨k, rfl⟩ : ∃ m, k = m + 1 := ⟨k - 1, by omega⟩
      obtain rfl : i = 6 := by omega
      exact br_t (nI_le (a := 6) (b := 6) (by omega) (by omega)) h
    | succ d ih =>
      intro i k e hk
      obtain ⟨k, rfl⟩ : ∃ m, k = m + 1 := ⟨k - 1, by omega⟩
      refine br_f (nI_ge (b := 6) (by omega) (by omega)) ?_
      rw [fg_i g i hg (by omega), nI_add]
      exact nm_e (nm_r (nI_1 _) (ih (i + 1) k (by omega) (by omega)))
  exact ⟨7, lp 6 0 7 (by omega) (by omega)⟩
theorem sq_gn_of (w : sq_wf P n sz) {t : Nat} (t4 : t < 4) : ∀ i, i ≤ sz t → sq_gn P n (sq_of sz t + i) = sq_gn P n (sq_of sz t) + (if i < sz t then i else sz t - 1) := by
  intro i
  induction i with
  | zero => intro _; (repeat' split) <;> (try simp) <;> omega
  | succ i ih =>
    intro h
    have h1 := (w.2.2 t i t4 (by omega)).1
    have hl := sq_wf_lt w t4 (i := i) (by omega)
    show sq_gn P n (sq_of sz t + i) + (if sq_of sz t + i + 1 < n ∧ sq_th P (sq_of sz t + i + 1) = sq_th P (sq_of sz t + i) then 1 else 0) = _
    rw [ih (by omega), if_pos (by omega)]
    have q := (sq_wf_sz w).1 t t4 (sq_of sz t + i + 1)
    by_cases c : i + 1 < sz t
    · have q1 := q.mpr ⟨by omega, by omega⟩
      rw [if_pos ⟨q1.1, by rw [q1.2, h1]⟩, if_pos c]; omega
    · rw [if_neg (fun z => by have := q.mp ⟨z.1, by rw [z.2, h1]⟩; omega), if_neg c]; omega
theorem xw_countGaps (w : sq_wf P n sz) (A : xw_P P n sz f_total a_size a_kind a_variable a_value) {post : Int32 → Prop} (h : post (nI (sq_T P n))) : wpX_countGaps post (f_total, f_loads, f_states, f_memory, f_known, f_many, f_strictMany, a_size, a_kind, a_variable, a_value, a_length, a_tryKind, a_tryVariable, a_tryValue, a_loadNumber, a_position, a_content, a_table, a_at, a_done, a_list, a_strictList) := by
  have n6 := w.2.1
  have lp : ∀ d t k, t + d = 4 → d < k → wX_countGaps_4 post f_total f_loads f_states f_memory f_known f_many f_strictMany a_size a_kind a_variable a_value a_length a_tryKind a_tryVariable a_tryValue a_loadNumber a_position a_content a_table a_at a_done a_list a_strictList k (nI (sq_gn P n (sq_of sz t))) (nI t) := by
    intro d
    induction d with
    | zero =>
      intro t k e hk
      obtain ⟨k, rfl⟩ : ∃ m, k = m + 1 := ⟨k - 1, by omega⟩
      obtain rfl : t = 4 := by omega
      rw [← w.1, sq_T_n n6]
      exact br_t (nI_le (a := 4) (b := 4) (by omega) (by omega)) h
    | succ d ih =>
      intro t k e hk
      obtain ⟨k, rfl⟩ : ∃ m, k = m + 1 := ⟨k - 1, by omega⟩
      have t4 : t < 4 := by omega
      have s6 := sq_sz6 w t4
      have vt : vp_in (nI t) 4 := vp_in_nI t4 (by omega)
      have nx := ih (t + 1) k (by omega) (by omega)
      have ge := sq_gn_of w t4 (sz t) (Nat.le_refl _)
      rw [if_neg (Nat.lt_irrefl _), ← sq_of_s] at ge
      refine br_f (nI_ge (b := 4) (by omega) (by omega)) (And.intro vt ?_)
      rw [nI_clamp (n := t) (by omega), A.2.1 t t4]
      by_cases c : sz t ≤ 1
      · refine br_t (nI_le (b := 1) c (by omega)) (nm_r (nI_1 _) ?_)
        rw [ge, show sz t - 1 = 0 by omega, Nat.add_zero] at nx
        exact nx
      · refine br_f (nI_ge (a := 1) (by omega) (by omega)) (And.intro vt (nm_r ?_ (nm_r (nI_1 _) nx)))
        rw [ge, nI_add, show (1 : Int32) = nI 1 from rfl, pk_sub (by omega)]
        exact congrArg nI (by omega)
  have := lp 4 0 5 (by omega) (by omega)
  exact ⟨5, this⟩
/-- no surprise, by the lists -/
theorem sq_sur_nos {G : Nat → Bool} {o o' : Nat → Nat} {c c' : Nat} {r : Int32} (ok : sq_ok P n) (S : sq_so P n G False o c) (S' : sq_so P n (sq_G P n 0) True o' c') (hr : so_sur o c o' c' r) : r = -4 ↔ sq_nos P n G := by
  constructor
  · intro e m hm
    obtain ⟨i, i1, i2⟩ := (S m).mpr hm
    rcases hr with ⟨h1, _⟩ | ⟨j, j1, j2, j3, j4⟩
    · obtain ⟨j, j1, j2⟩ := h1 i i1
      exact (S' m).mp ⟨j, j1, by rw [j2, i2]⟩
    · exfalso
      have : sq_mid P n G False (o j) := (S _).mp ⟨j, j1, rfl⟩
      have := sq_mid_lt ok this
      rw [e] at j4
      exact fg_m4 (by omega) j4.symm
  · intro hn
    rcases hr with ⟨_, h2⟩ | ⟨j, j1, j2, j3, j4⟩
    · exact h2
    · exact absurd ((S' _).mpr (hn _ ((S _).mp ⟨j, j1, rfl⟩))) j2
theorem xw_fn41 (w : sq_wf P n sz) (A : xw_P P n sz f_total a_size a_kind a_variable a_value) {o' : Nat → Nat} {c' : Nat} (O' : xw_O o' c' f_strictMany a_strictList) (S' : sq_so P n (sq_G P n 0) True o' c') {nn : Nat} (hn : nn < sq_T P n) (hn1 : 0 < nn) {post : Int32 → SX → Prop}
    {J27 : Int32 → Int32 → Int32 → Int32 → Int32 → Int32 → Int32 → Int32 → Int32 → (Nat → Int32) → (Nat → Int32) → (Nat → Int32) → (Nat → Int32) → (Nat → Int32) → (Nat → Int32) → (Nat → Int32) → (Nat → Int32) → (Nat → Int32) → (Nat → Int32) → (Nat → Int32) → (Nat → Int32) → (Nat → Int32) → (Nat → Int32) → (Nat → Int32) → (Nat → Int32) → Prop}
    (hJ1 : (∀ g, g < 2 ^ sq_T P n → fg_c g 6 = nn → ¬ sq_nos P n (sq_G P n g)) → ∀ f_loads f_states f_memory f_many a_length a_tryKind a_tryVariable a_tryValue a_loadNumber a_position a_content a_table a_at a_done a_list, J27 (nI (sq_T P n)) (nI (nn + 1)) f_total f_loads f_states f_memory f_known f_many f_strictMany a_size a_kind a_variable a_value a_length a_tryKind a_tryVariable a_tryValue a_loadNumber a_position a_content a_table a_at a_done a_list a_strictList)
    (hJ2 : (∃ g, g < 2 ^ sq_T P n ∧ fg_c g 6 = nn ∧ sq_nos P n (sq_G P n g)) → ∀ f_loads f_states f_memory f_many a_length a_tryKind a_tryVariable a_tryValue a_loadNumber a_position a_content a_table a_at a_done a_list, J27 (nI nn) (nI (nn + 1)) f_total f_loads f_states f_memory f_known f_many f_strictMany a_size a_kind a_variable a_value a_length a_tryKind a_tryVariable a_tryValue a_loadNumber a_position a_content a_table a_at a_done a_list a_strictList) :
    ∀ d s k f_loads f_states f_memory f_many a_length a_tryKind a_tryVariable a_tryValue a_loadNumber a_position a_content a_table a_at a_done a_list, s + d = 2 ^ sq_T P n → d < k → (∀ g, g < s → fg_c g 6 = nn → ¬ sq_nos P n (sq_G P n g)) →
      wX_fencesNeeded_41 post J27 (nI (sq_T P n)) (nI nn) k (nI (sq_T P n)) (nI s) f_total f_loads f_states f_memory f_known f_many f_strictMany a_size a_kind a_variable a_value a_length a_tryKind a_tryVariable a_tryValue a_loadNumber a_position a_content a_table a_at a_done a_list a_strictList := by
  have ok := sq_wf_ok w
  have t5 := sq_T5 P n
  have p32 := sq_p32 t5
  have e1 : (1 : Int32) <<< (nI (sq_T P n) &&& 31) = nI (2 ^ sq_T P n) := by
    rw [show (1 : Int32) = nI 1 from rfl, pk_shlN _ _ (s_l _ (by omega)) (by omega), Nat.one_mul]
  intro d
  induction d with
  | zero =>
    intro s k f_loads f_states f_memory f_many a_length a_tryKind a_tryVariable a_tryValue a_loadNumber a_position a_content a_table a_at a_done a_list e hk hs
    obtain ⟨k, rfl⟩ : ∃ m, k = m + 1 := ⟨k - 1, by omega⟩
    obtain rfl : s = 2 ^ sq_T P n := by omega
    exact br_t (by rw [e1]; exact nI_le (Nat.le_refl _) (by omega)) (nm_r (nI_1 _) (hJ1 hs _ _ _ _ _ _ _ _ _ _ _ _ _ _ _))
  | succ d ih =>
    intro s k f_loads f_states f_memory f_many a_length a_tryKind a_tryVariable a_tryValue a_loadNumber a_position a_content a_table a_at a_done a_list e hk hs
    obtain ⟨k, rfl⟩ : ∃ m, k = m + 1 := ⟨k - 1, by omega⟩
    have pc := fg_c5 s (by omega)
    refine br_f (by rw [e1]; exact nI_ge (by omega) (by omega)) (br_t rfl (xw_sizeOf (by omega) ?_))
    by_cases c : fg_c s 6 = nn
    · refine br_t (congrArg nI c) (xw_prepare w A (by omega) (fun f_loads a_length a_tryKind a_tryVariable a_tryValue a_loadNumber T el => ?_))
      refine xw_run (str := 0) w (by omega) T (fun o c2 f_states f_memory f_many a_position a_content a_table a_at a_done a_list O so => ?_)
      have e0 : (0 = 1) = False := by simp
      rw [e0] at so
      obtain ⟨r, hr⟩ := so_surT o c2 o' c'
      have iff := sq_sur_nos ok so S' hr
      refine xw_surpriseNow O O' hr ?_
      by_cases z : r = -4
      · refine br_t z (nm_r (nI_1 _) ?_)
        have found : ∃ g, g < 2 ^ sq_T P n ∧ fg_c g 6 = nn ∧ sq_nos P n (sq_G P n g) := ⟨s, by omega, c, iff.mp z⟩
        obtain ⟨k, rfl⟩ : ∃ m, k = m + 1 := ⟨k - 1, by omega⟩
        have j := hJ2 found
        by_cases y : 2 ^ sq_T P n ≤ s + 1
        · exact br_t (by rw [e1]; exact nI_le y (by omega)) (nm_r (nI_1 _) (j _ _ _ _ _ _ _ _ _ _ _ _ _ _ _))
        · refine br_f (by rw [e1]; exact nI_ge (by omega) (by omega)) (br_f (fun q => ?_) (nm_r (nI_1 _) (j _ _ _ _ _ _ _ _ _ _ _ _ _ _ _)))
          rw [nI_eq (by omega) (by omega)] at q
          omega
      · refine br_f z (nm_r (nI_1 _) (ih (s + 1) k _ _ _ _ _ _ _ _ _ _ _ _ _ _ _ (by omega) (by omega) (fun g hg pg => ?_)))
        by_cases y : g = s
        · subst y; exact fun q => z (iff.mpr q)
        · exact hs g (by omega) pg
    · refine br_f (fun z => c ((nI_eq (by omega) (by omega)).mp z)) (nm_r (nI_1 _) (ih (s + 1) k _ _ _ _ _ _ _ _ _ _ _ _ _ _ _ (by omega) (by omega) (fun g hg pg => ?_)))
      by_cases y : g = s
      · subst y; exact absurd pg c
      · exact hs g (by omega) pg
theorem xw_fn27 (w : sq_wf P n sz) (A : xw_P P n sz f_total a_size a_kind a_variable a_value) {o' : Nat → Nat} {c' : Nat} (O' : xw_O o' c' f_strictMany a_strictList) (S' : sq_so P n (sq_G P n 0) True o' c') (h0 : ¬ sq_nos P n (sq_G P n 0)) {post : Int32 → SX → Prop}
    (h : ∀ r f_loads f_states f_memory f_many a_length a_tryKind a_tryVariable a_tryValue a_loadNumber a_position a_content a_table a_at a_done a_list, sq_minX P n r → post (nI r) (f_total, f_loads, f_states, f_memory, 0, f_many, f_strictMany, a_size, a_kind, a_variable, a_value, a_length, a_tryKind, a_tryVariable, a_tryValue, a_loadNumber, a_position, a_content, a_table, a_at, a_done, a_list, a_strictList)) :
    ∀ d nn k f_loads f_states f_memory f_many a_length a_tryKind a_tryVariable a_tryValue a_loadNumber a_position a_content a_table a_at a_done a_list, nn + d = sq_T P n → d < k → 0 < nn → (∀ g, g < 2 ^ sq_T P n → fg_c g 6 < nn → ¬ sq_nos P n (sq_G P n g)) →
      wX_fencesNeeded_27 post (nI (sq_T P n)) k (nI (sq_T P n)) (nI nn) f_total f_loads f_states f_memory f_known f_many f_strictMany a_size a_kind a_variable a_value a_length a_tryKind a_tryVariable a_tryValue a_loadNumber a_position a_content a_table a_at a_done a_list a_strictList := by
  have ok := sq_wf_ok w
  have t5 := sq_T5 P n
  have p32 := sq_p32 t5
  have pp : 0 < 2 ^ sq_T P n := Nat.pow_pos (by omega)
  intro d
  induction d with
  | zero =>
    intro nn k f_loads f_states f_memory f_many a_length a_tryKind a_tryVariable a_tryValue a_loadNumber a_position a_content a_table a_at a_done a_list e hk hn hs
    obtain ⟨k, rfl⟩ : ∃ m, k = m + 1 := ⟨k - 1, by omega⟩
    refine br_t (nI_le (by omega) (by omega)) (h _ _ _ _ _ _ _ _ _ _ _ _ _ _ _ _ ⟨⟨2 ^ sq_T P n - 1, by omega, fg_fc _ (by omega), sq_nos_all ok⟩, fun g hg q => ?_⟩)
    apply Classical.byContradiction
    intro z
    exact hs g hg (by omega) q
  | succ d ih =>
    intro nn k f_loads f_states f_memory f_many a_length a_tryKind a_tryVariable a_tryValue a_loadNumber a_position a_content a_table a_at a_done a_list e hk hn hs
    obtain ⟨k, rfl⟩ : ∃ m, k = m + 1 := ⟨k - 1, by omega⟩
    refine br_f (nI_ge (by omega) (by omega)) (br_t rfl ⟨2 ^ sq_T P n + 1, ?_⟩)
    refine xw_fn41 w A O' S' (by omega) hn (fun nf f_loads f_states f_memory f_many a_length a_tryKind a_tryVariable a_tryValue a_loadNumber a_position a_content a_table a_at a_done a_list => ?_) (fun fo f_loads f_states f_memory f_many a_length a_tryKind a_tryVariable a_tryValue a_loadNumber a_position a_content a_table a_at a_done a_list => ?_)
      (2 ^ sq_T P n) 0 (2 ^ sq_T P n + 1) _ _ _ _ _ _ _ _ _ _ _ _ _ _ _ (by omega) (by omega) (fun g hg => by omega)
    · refine ih (nn + 1) k _ _ _ _ _ _ _ _ _ _ _ _ _ _ _ (by omega) (by omega) (by omega) (fun g hg pg => ?_)
      by_cases z : fg_c g 6 = nn
      · exact nf g hg z
      · exact hs g hg (by omega)
    · obtain ⟨g, g1, g2, g3⟩ := fo
      have mn : sq_minX P n nn := ⟨⟨g, g1, g2, g3⟩, fun g' hg' q => Classical.byContradiction fun z => hs g' hg' (by omega) q⟩
      obtain ⟨k, rfl⟩ : ∃ m, k = m + 1 := ⟨k - 1, by omega⟩
      by_cases y : sq_T P n ≤ nn + 1
      · exact br_t (nI_le y (by omega)) (h _ _ _ _ _ _ _ _ _ _ _ _ _ _ _ _ mn)
      · refine br_f (nI_ge (by omega) (by omega)) (br_f (fun q => ?_) (h _ _ _ _ _ _ _ _ _ _ _ _ _ _ _ _ mn))
        rw [nI_eq (by omega) (by omega)] at q
        omega
theorem xw_fencesNeeded (w : sq_wf P n sz) (A : xw_P P n sz f_total a_size a_kind a_variable a_value) (hk : f_known = 0 ∨ (f_known = 1 ∧ xw_kn P n f_loads f_many f_strictMany a_list a_strictList)) {post : Int32 → SX → Prop}
    (h : ∀ r f_loads f_states f_memory f_known f_many f_strictMany a_length a_tryKind a_tryVariable a_tryValue a_loadNumber a_position a_content a_table a_at a_done a_list a_strictList, sq_minX P n r → (f_known = 0 ∨ (f_known = 1 ∧ xw_kn P n f_loads f_many f_strictMany a_list a_strictList)) → post (nI r) (f_total, f_loads, f_states, f_memory, f_known, f_many, f_strictMany, a_size, a_kind, a_variable, a_value, a_length, a_tryKind, a_tryVariable, a_tryValue, a_loadNumber, a_position, a_content, a_table, a_at, a_done, a_list, a_strictList)) :
    wpX_fencesNeeded post (f_total, f_loads, f_states, f_memory, f_known, f_many, f_strictMany, a_size, a_kind, a_variable, a_value, a_length, a_tryKind, a_tryVariable, a_tryValue, a_loadNumber, a_position, a_content, a_table, a_at, a_done, a_list, a_strictList) := by
  have ok := sq_wf_ok w
  have t5 := sq_T5 P n
  unfold wpX_fencesNeeded
  refine xw_work w A hk (fun f_loads f_states f_memory f_known f_many f_strictMany a_length a_tryKind a_tryVariable a_tryValue a_loadNumber a_position a_content a_table a_at a_done a_list a_strictList ek kn => ?_)
  obtain ⟨k1, ⟨o, c, O, S⟩, ⟨o', c', O', S'⟩⟩ := kn
  obtain ⟨r, hr⟩ := so_surT o c o' c'
  have iff := sq_sur_nos ok S S' hr
  refine xw_surpriseNow O O' hr ?_
  by_cases z : r = -4
  · refine br_t z (h 0 _ _ _ _ _ _ _ _ _ _ _ _ _ _ _ _ _ _ ⟨⟨0, Nat.pow_pos (by omega), rfl, iff.mp z⟩, fun g _ _ => Nat.zero_le _⟩ (Or.inr ⟨ek, k1, ⟨o, c, O, S⟩, ⟨o', c', O', S'⟩⟩))
  · have n0 : ¬ sq_nos P n (sq_G P n 0) := fun q => z (iff.mpr q)
    have T1 : 0 < sq_T P n := by
      apply Classical.byContradiction
      intro y
      have := sq_nos_all ok
      rw [show sq_T P n = 0 by omega] at this
      exact n0 this
    refine br_f z (xw_countGaps w A ⟨sq_T P n + 1, ?_⟩)
    refine xw_fn27 w A O' S' n0 (fun r f_loads f_states f_memory f_many a_length a_tryKind a_tryVariable a_tryValue a_loadNumber a_position a_content a_table a_at a_done a_list mn => h r _ _ _ _ _ _ _ _ _ _ _ _ _ _ _ _ _ _ mn (Or.inl rfl))
      (sq_T P n - 1) 1 (sq_T P n + 1) _ _ _ _ _ _ _ _ _ _ _ _ _ _ _ (by omega) (by omega) (by omega) (fun g hg pg => ?_)
    have p32 := sq_p32 t5
    have : g = 0 := fg_z g (by omega) (by omega)
    subst this
    exact n0
end
end
section
/-! Y: fencesNeeded -/
section
variable {f_size f_fences f_storeCount f_loadCount f_listed f_strictListed : Int32} {a_kinds a_threads a_variables a_values a_stores a_loads a_found a_place a_after a_list a_strictList : Nat → Int32}
variable {P : sq_PG} {n : Nat}
theorem yw_bits {g : Nat} (hg : g < 2 ^ 31) {post : Int32 → Prop} (h : post (nI (fg_c g 6))) : wpY_bits post (f_size, f_fences, f_storeCount, f_loadCount, f_listed, f_strictListed, a_kinds, a_threads, a_variables, a_values, a_stores, a_loads, a_found, a_place, a_after, a_list, a_strictList) (nI g) := by
  have lp : ∀ d i k, i + d = 6 → d < k → wY_bits_4 post (nI g) f_size f_fences f_storeCount f_loadCount f_listed f_strictListed a_kinds a_threads a_variables a_values a_stores a_loads a_found a_place a_after a_list a_strictList k (nI (fg_c g i)) (nI i) := by
    intro d
    induction d with
    | zero =>
      intro i k e hk
      obtain ⟨k, rfl⟩ : ∃ m, k = m + 1 := ⟨k - 1, by omega⟩
      obtain rfl : i = 6 := by omega
      exact br_t (nI_le (a := 6) (b := 6) (by omega) (by omega)) h
    | succ d ih =>
      intro i k e hk
      obtain ⟨k, rfl⟩ : ∃ m, k = m + 1 := ⟨k - 1, by omega⟩
      refine br_f (nI_ge (b := 6) (by omega) (by omega)) ?_
      rw [fg_i g i hg (by omega), nI_add]
      exact nm_e (nm_r (nI_1 _) (ih (i + 1) k (by omega) (by omega)))
  exact ⟨7, lp 6 0 7 (by omega) (by omega)⟩
theorem yw_firstSurprise (ok : sq_ok P n) (A : yw_P P n f_size a_kinds a_threads a_variables a_values) {g : Nat} (hg : g < 64) (ef : f_fences = nI g) {o' : Nat → Nat} {c' : Nat} (O' : yw_O o' c' f_strictListed a_strictList) {post : Int32 → SY → Prop}
    (h : ∀ o c r f_storeCount f_loadCount f_listed a_stores a_loads a_found a_place a_after a_list, yw_O o c f_listed a_list → sq_so P n (yw_G g) False o c → so_sur o c o' c' r → post r (f_size, f_fences, f_storeCount, f_loadCount, f_listed, f_strictListed, a_kinds, a_threads, a_variables, a_values, a_stores, a_loads, a_found, a_place, a_after, a_list, a_strictList)) : wpY_firstSurprise post (f_size, f_fences, f_storeCount, f_loadCount, f_listed, f_strictListed, a_kinds, a_threads, a_variables, a_values, a_stores, a_loads, a_found, a_place, a_after, a_list, a_strictList) := by
  unfold wpY_firstSurprise
  refine yw_goOver0 ok A hg ef (fun o c f_storeCount f_loadCount f_listed a_stores a_loads a_found a_place a_after a_list O so el => ?_)
  obtain ⟨r, hr⟩ := so_surT o c o' c'
  exact ⟨c + 1, yw_fs7 O O' hr (h o c r _ _ _ _ _ _ _ _ _ O so hr) c 0 (c + 1) (by omega) (by omega) (fun j hj => by omega)⟩
/-- the least so far -/
def sq_li (P : sq_PG) (n s r : Nat) : Prop :=
  (r = 6 ∧ ∀ s', s' < s → sq_bt P n s' → ¬ sq_nos P n (yw_G s')) ∨ ((∃ s', s' < s ∧ sq_bt P n s' ∧ fg_c s' 6 = r ∧ sq_nos P n (yw_G s')) ∧ ∀ s', s' < s → sq_bt P n s' → sq_nos P n (yw_G s') → r ≤ fg_c s' 6)
theorem sq_li6 {s r : Nat} (hs : s ≤ 32) (h : sq_li P n s r) : r ≤ 6 := by
  rcases h with h | ⟨⟨s', h1, _, h3, _⟩, _⟩
  · omega
  · have := fg_c5 s' (by omega); omega
theorem sq_li_skip {s r : Nat} (h : sq_li P n s r) (k : sq_bt P n s → sq_nos P n (yw_G s) → r ≠ 6 ∧ r ≤ fg_c s 6) : sq_li P n (s + 1) r := by
  rcases h with ⟨h1, h2⟩ | ⟨⟨s', h1, h2, h3, h4⟩, h5⟩
  · refine Or.inl ⟨h1, fun s' hs' bt nos => ?_⟩
    by_cases c : s' = s
    · subst c; exact (k bt nos).1 h1
    · exact h2 s' (by omega) bt nos
  · refine Or.inr ⟨⟨s', by omega, h2, h3, h4⟩, fun u hu bt nos => ?_⟩
    by_cases c : u = s
    · subst c; exact (k bt nos).2
    · exact h5 u (by omega) bt nos
theorem sq_li_new {s r : Nat} (h : sq_li P n s r) (bt : sq_bt P n s) (nos : sq_nos P n (yw_G s)) (lt : fg_c s 6 < r) : sq_li P n (s + 1) (fg_c s 6) := by
  refine Or.inr ⟨⟨s, by omega, bt, rfl, nos⟩, fun u hu bt' nos' => ?_⟩
  by_cases c : u = s
  · subst c; exact Nat.le_refl _
  · rcases h with ⟨h1, h2⟩ | ⟨_, h5⟩
    · exact absurd nos' (h2 u (by omega) bt')
    · have := h5 u (by omega) bt' nos'; omega
theorem yw_fn21 (ok : sq_ok P n) (A : yw_P P n f_size a_kinds a_threads a_variables a_values) {o' : Nat → Nat} {c' : Nat} (O' : yw_O o' c' f_strictListed a_strictList) (S' : sq_so P n (sq_G P n 0) True o' c') (ef : f_fences = 0) {s r : Nat} (hs : s < 32) (L : sq_li P n s r) {post : Int32 → SY → Prop}
    {J10 : Int32 → Int32 → Int32 → Int32 → Int32 → Int32 → Int32 → Int32 → (Nat → Int32) → (Nat → Int32) → (Nat → Int32) → (Nat → Int32) → (Nat → Int32) → (Nat → Int32) → (Nat → Int32) → (Nat → Int32) → (Nat → Int32) → (Nat → Int32) → (Nat → Int32) → Prop}
    (hJ : ∀ r f_storeCount f_loadCount f_listed a_stores a_loads a_found a_place a_after a_list, sq_li P n (s + 1) r → J10 (nI r) (nI (s + 1)) f_size 0 f_storeCount f_loadCount f_listed f_strictListed a_kinds a_threads a_variables a_values a_stores a_loads a_found a_place a_after a_list a_strictList) :
    ∀ d i k b, i + d = 5 → d < k → b < 2 → (b = 1 ↔ ∀ j, j < i → fg_b s j = 1 → j + 1 < n ∧ sq_th P j = sq_th P (j + 1)) → wY_fencesNeeded_21 post J10 (nI r) (nI s) f_size f_fences f_storeCount f_loadCount f_listed f_strictListed a_kinds a_threads a_variables a_values a_stores a_loads a_found a_place a_after a_list a_strictList k (nI b) (nI i) := by
  have n6 := ok.1
  have r6 := sq_li6 (by omega) L
  have pc := fg_c5 s hs
  have hJ' : ∀ r, sq_li P n (s + 1) r → J10 (nI r) (nI (s + 1)) f_size f_fences f_storeCount f_loadCount f_listed f_strictListed a_kinds a_threads a_variables a_values a_stores a_loads a_found a_place a_after a_list a_strictList := by
    intro r hr
    have := hJ r f_storeCount f_loadCount f_listed a_stores a_loads a_found a_place a_after a_list hr
    rw [ef]; exact this
  intro d
  induction d with
  | zero =>
    intro i k b e hk hb ib
    obtain ⟨k, rfl⟩ : ∃ m, k = m + 1 := ⟨k - 1, by omega⟩
    obtain rfl : i = 5 := by omega
    refine br_t (nI_le (a := 5) (b := 5) (by omega) (by omega)) ?_
    by_cases b0 : b = 0
    · exact br_t (by rw [b0]; exact nI_0) (nm_r (nI_1 _) (hJ' r (sq_li_skip L (fun bt _ => by have := ib.mpr bt; omega))))
    · have bt : sq_bt P n s := ib.mp (by omega)
      refine br_f (nI_ne0 (by omega) (by omega)) (yw_bits (by omega) ?_)
      by_cases c : r ≤ fg_c s 6
      · exact br_t (nI_le c (by omega)) (nm_r (nI_1 _) (hJ' r (sq_li_skip L (fun _ _ => ⟨by omega, c⟩))))
      · refine br_f (nI_ge (by omega) (by omega)) ?_
        refine yw_firstSurprise (f_fences := nI s) ok A (g := s) (by omega) rfl O' (fun o c2 q f_storeCount f_loadCount f_listed a_stores a_loads a_found a_place a_after a_list O so hr => ?_)
        have iff := sq_sur_nos ok so S' hr
        by_cases z : q = -4
        · refine br_t z (yw_bits (by omega) (nm_r (nI_1 _) (hJ _ _ _ _ _ _ _ _ _ _ (sq_li_new L bt (iff.mp z) (by omega)))))
        · exact br_f z (nm_r (nI_1 _) (hJ _ _ _ _ _ _ _ _ _ _ (sq_li_skip L (fun _ nos => absurd (iff.mpr nos) z))))
  | succ d ih =>
    intro i k b e hk hb ib
    obtain ⟨k, rfl⟩ : ∃ m, k = m + 1 := ⟨k - 1, by omega⟩
    have fb := fg_b01 s i
    -- the join: between && (no bit || inside)
    have join : ∀ z : Nat, z < 2 → (z = 1 ↔ i + 1 < n ∧ sq_th P i = sq_th P (i + 1)) → wY_fencesNeeded_62 post J10 (wY_fencesNeeded_21 post J10 (nI r) (nI s) f_size f_fences f_storeCount f_loadCount f_listed f_strictListed a_kinds a_threads a_variables a_values a_stores a_loads a_found a_place a_after a_list a_strictList k) (nI r) (nI s) (nI b) (nI i) (nI z) f_size f_fences f_storeCount f_loadCount f_listed f_strictListed a_kinds a_threads a_variables a_values a_stores a_loads a_found a_place a_after a_list a_strictList := by
      intro z hz ez
      have step : ∀ b', b' < 2 → (b' = 1 ↔ b = 1 ∧ (fg_b s i = 1 → i + 1 < n ∧ sq_th P i = sq_th P (i + 1))) → wY_fencesNeeded_21 post J10 (nI r) (nI s) f_size f_fences f_storeCount f_loadCount f_listed f_strictListed a_kinds a_threads a_variables a_values a_stores a_loads a_found a_place a_after a_list a_strictList k (nI b') (nI (i + 1)) := by
        intro b' hb' e'
        refine ih (i + 1) k b' (by omega) (by omega) hb' (e'.trans ⟨?_, ?_⟩)
        · rintro ⟨y1, y2⟩ j hj w
          by_cases q : j = i
          · subst q; exact y2 w
          · exact (ib.mp y1) j (by omega) w
        · intro y
          exact ⟨ib.mpr (fun j hj => y j (by omega)), y i (by omega)⟩
      by_cases b0 : b = 0
      · exact br_t (by rw [b0]; exact nI_0) (nm_r (nI_1 _) (step 0 (by omega) ⟨fun y => by omega, fun y => by have := y.1; omega⟩))
      · refine br_f (nI_ne0 (by omega) (by omega)) ?_
        rw [fg_i s i (by omega) (by omega)]
        by_cases f0 : fg_b s i = 0
        · exact br_t (by rw [f0]; exact nI_0) (nm_r (nI_1 _) (step 1 (by omega) ⟨fun _ => ⟨by omega, fun y => by omega⟩, fun _ => rfl⟩))
        · refine br_f (nI_ne0 (by omega) (by omega)) ?_
          by_cases z0 : z = 0
          · exact br_t (by rw [z0]; exact nI_0) (nm_r (nI_1 _) (step 0 (by omega) ⟨fun y => by omega, fun y => by have := ez.mpr (y.2 (by omega)); omega⟩))
          · exact br_f (nI_ne0 (by omega) (by omega)) (nm_r (nI_1 _) (step 1 (by omega) ⟨fun _ => ⟨by omega, fun _ => ez.mp (by omega)⟩, fun _ => rfl⟩))
    refine br_f (nI_ge (b := 5) (by omega) (by omega)) ?_
    rw [nI_1]
    by_cases c : n ≤ i + 1
    · exact br_t (by rw [A.1]; exact nI_le c (by omega)) (join 0 (by omega) ⟨fun y => by omega, fun y => by omega⟩)
    · refine br_f (by rw [A.1]; exact nI_ge (by omega) (by omega)) (And.intro (vp_in_nI (by omega) (by omega)) (And.intro (vp_in_nI (by omega) (by omega)) ?_))
      have t1 := (ok.2.1 i (by omega)).1
      have t2 := (ok.2.1 (i + 1) (by omega)).1
      rw [xw_r i (by omega) rfl (A.2 i (by omega)).2.1, xw_r (i + 1) (by omega) rfl (A.2 (i + 1) (by omega)).2.1]
      by_cases q : sq_th P i = sq_th P (i + 1)
      · exact br_t (congrArg nI q) (join 1 (by omega) ⟨fun _ => ⟨by omega, q⟩, fun _ => rfl⟩)
      · exact br_f (fun y => q ((nI_eq (by omega) (by omega)).mp y)) (join 0 (by omega) ⟨fun y => by omega, fun y => absurd y.2 q⟩)
theorem yw_fn10 (ok : sq_ok P n) (A : yw_P P n f_size a_kinds a_threads a_variables a_values) {o' : Nat → Nat} {c' : Nat} (O' : yw_O o' c' f_strictListed a_strictList) (S' : sq_so P n (sq_G P n 0) True o' c') {post : Int32 → SY → Prop}
    (h : ∀ r f_storeCount f_loadCount f_listed a_stores a_loads a_found a_place a_after a_list, sq_minY P n r → post (nI r) (f_size, 0, f_storeCount, f_loadCount, f_listed, f_strictListed, a_kinds, a_threads, a_variables, a_values, a_stores, a_loads, a_found, a_place, a_after, a_list, a_strictList)) :
    ∀ d s k r f_storeCount f_loadCount f_listed a_stores a_loads a_found a_place a_after a_list, s + d = 32 → d < k → sq_li P n s r → wY_fencesNeeded_10 post k (nI r) (nI s) f_size 0 f_storeCount f_loadCount f_listed f_strictListed a_kinds a_threads a_variables a_values a_stores a_loads a_found a_place a_after a_list a_strictList := by
  intro d
  induction d with
  | zero =>
    intro s k r f_storeCount f_loadCount f_listed a_stores a_loads a_found a_place a_after a_list e hk L
    obtain ⟨k, rfl⟩ : ∃ m, k = m + 1 := ⟨k - 1, by omega⟩
    obtain rfl : s = 32 := by omega
    refine br_t (nI_le (a := 32) (b := 32) (by omega) (by omega)) (h r _ _ _ _ _ _ _ _ _ ?_)
    rcases L with ⟨h1, h2⟩ | L
    · exfalso
      have pp : 0 < 2 ^ sq_T P n := Nat.pow_pos (by omega)
      obtain ⟨s', t1, t2, t3, t4⟩ := sq_set_xy ok (g := 2 ^ sq_T P n - 1) (by omega)
      exact h2 s' t1 t2 (t4.mpr (sq_nos_all ok))
    · exact L
  | succ d ih =>
    intro s k r f_storeCount f_loadCount f_listed a_stores a_loads a_found a_place a_after a_list e hk L
    obtain ⟨k, rfl⟩ : ∃ m, k = m + 1 := ⟨k - 1, by omega⟩
    refine br_f (nI_ge (b := 32) (by omega) (by omega)) ⟨6, ?_⟩
    exact yw_fn21 (f_fences := 0) ok A O' S' rfl (by omega) L (fun r f_storeCount f_loadCount f_listed a_stores a_loads a_found a_place a_after a_list L' => ih (s + 1) k r _ _ _ _ _ _ _ _ _ (by omega) (by omega) L')
      5 0 6 1 (by omega) (by omega) (by omega) ⟨fun _ j hj => by omega, fun _ => rfl⟩
theorem yw_fencesNeeded (ok : sq_ok P n) (A : yw_P P n f_size a_kinds a_threads a_variables a_values) (ef : f_fences = 0) {post : Int32 → SY → Prop}
    (h : ∀ r f_storeCount f_loadCount f_listed f_strictListed a_stores a_loads a_found a_place a_after a_list a_strictList, sq_minY P n r → post (nI r) (f_size, 0, f_storeCount, f_loadCount, f_listed, f_strictListed, a_kinds, a_threads, a_variables, a_values, a_stores, a_loads, a_found, a_place, a_after, a_list, a_strictList)) : wpY_fencesNeeded post (f_size, f_fences, f_storeCount, f_loadCount, f_listed, f_strictListed, a_kinds, a_threads, a_variables, a_values, a_stores, a_loads, a_found, a_place, a_after, a_list, a_strictList) := by
  unfold wpY_fencesNeeded
  refine yw_goOver1 (g := 0) ok A (by omega) (by rw [ef]; exact nI_0.symm) (fun o' c' f_storeCount f_loadCount f_strictListed a_stores a_loads a_found a_place a_after a_strictList O' S' el => ?_)
  refine ⟨33, ?_⟩
  rw [ef]
  exact yw_fn10 ok A O' (fun m => (S' m).trans ⟨sq_mid_T, sq_mid_T⟩) (fun r f_storeCount f_loadCount f_listed a_stores a_loads a_found a_place a_after a_list mn => h r _ _ _ _ _ _ _ _ _ _ _ mn)
    32 0 33 6 _ _ _ _ _ _ _ _ _ (by omega) (by omega) (Or.inl ⟨rfl, fun s' hs' => by omega⟩)
end
end
section
/-! the relation; helpers for the calls that change the program -/
def xw_RX (P : sq_PG) (n : Nat) (sz : Nat → Nat) (u : SX) : Prop := match u with
  | (f_total, f_loads, f_states, f_memory, f_known, f_many, f_strictMany, a_size, a_kind, a_variable, a_value, a_length, a_tryKind, a_tryVariable, a_tryValue, a_loadNumber, a_position, a_content, a_table, a_at, a_done, a_list, a_strictList) => xw_P P n sz f_total a_size a_kind a_variable a_value ∧ (f_known = 0 ∨ (f_known = 1 ∧ xw_kn P n f_loads f_many f_strictMany a_list a_strictList))
def yw_RY (P : sq_PG) (n : Nat) (v : SY) : Prop := match v with
  | (g_size, g_fences, g_storeCount, g_loadCount, g_listed, g_strictListed, b_kinds, b_threads, b_variables, b_values, b_stores, b_loads, b_found, b_place, b_after, b_list, b_strictList) => yw_P P n g_size b_kinds b_threads b_variables b_values ∧ g_fences = 0
/-- one program on both sides; what X knows is right -/
def i_Rel (_ : Nat) (u : SX) (v : SY) : Prop := ∃ (P : sq_PG) (n : Nat) (sz : Nat → Nat), sq_wf P n sz ∧ xw_RX P n sz u ∧ yw_RY P n v
section
variable {f_total f_loads f_states f_memory f_known f_many f_strictMany : Int32} {a_size a_kind a_variable a_value a_length a_tryKind a_tryVariable a_tryValue a_loadNumber a_position a_content a_table a_at a_done a_list a_strictList : Nat → Int32}
variable {g_size g_fences g_storeCount g_loadCount g_listed g_strictListed : Int32} {b_kinds b_threads b_variables b_values b_stores b_loads b_found b_place b_after b_list b_strictList : Nat → Int32}
variable {P : sq_PG} {n : Nat} {sz : Nat → Nat}
theorem rl_mk {k : Nat} (w : sq_wf P n sz) (A : xw_P P n sz f_total a_size a_kind a_variable a_value) (K : f_known = 0 ∨ (f_known = 1 ∧ xw_kn P n f_loads f_many f_strictMany a_list a_strictList)) (B : yw_P P n g_size b_kinds b_threads b_variables b_values) (ef : g_fences = 0) :
    i_Rel k (f_total, f_loads, f_states, f_memory, f_known, f_many, f_strictMany, a_size, a_kind, a_variable, a_value, a_length, a_tryKind, a_tryVariable, a_tryValue, a_loadNumber, a_position, a_content, a_table, a_at, a_done, a_list, a_strictList) (g_size, g_fences, g_storeCount, g_loadCount, g_listed, g_strictListed, b_kinds, b_threads, b_variables, b_values, b_stores, b_loads, b_found, b_place, b_after, b_list, b_strictList) := Exists.intro P (Exists.intro n (Exists.intro sz (And.intro w (And.intro (And.intro A K) (And.intro B ef)))))
end
theorem rl_el {k : Nat} {Q : SX → SY → Prop} (h : ∀ (P : sq_PG) (n : Nat) (sz : Nat → Nat) f_total f_loads f_states f_memory f_known f_many f_strictMany a_size a_kind a_variable a_value a_length a_tryKind a_tryVariable a_tryValue a_loadNumber a_position a_content a_table a_at a_done a_list a_strictList g_size g_fences g_storeCount g_loadCount g_listed g_strictListed b_kinds b_threads b_variables b_values b_stores b_loads b_found b_place b_after b_list b_strictList, sq_wf P n sz → xw_P P n sz f_total a_size a_kind a_variable a_value → (f_known = 0 ∨ (f_known = 1 ∧ xw_kn P n f_loads f_many f_strictMany a_list a_strictList)) →
    yw_P P n g_size b_kinds b_threads b_variables b_values → g_fences = 0 → Q (f_total, f_loads, f_states, f_memory, f_known, f_many, f_strictMany, a_size, a_kind, a_variable, a_value, a_length, a_tryKind, a_tryVariable, a_tryValue, a_loadNumber, a_position, a_content, a_table, a_at, a_done, a_list, a_strictList) (g_size, g_fences, g_storeCount, g_loadCount, g_listed, g_strictListed, b_kinds, b_threads, b_variables, b_values, b_stores, b_loads, b_found, b_place, b_after, b_list, b_strictList)) {u : SX} {v : SY} (I : i_Rel k u v) : Q u v := by
  obtain ⟨P, n, sz, w, RX, RY⟩ := I
  obtain ⟨f_total, f_loads, f_states, f_memory, f_known, f_many, f_strictMany, a_size, a_kind, a_variable, a_value, a_length, a_tryKind, a_tryVariable, a_tryValue, a_loadNumber, a_position, a_content, a_table, a_at, a_done, a_list, a_strictList⟩ := u
  obtain ⟨g_size, g_fences, g_storeCount, g_loadCount, g_listed, g_strictListed, b_kinds, b_threads, b_variables, b_values, b_stores, b_loads, b_found, b_place, b_after, b_list, b_strictList⟩ := v
  have RX' : xw_P P n sz f_total a_size a_kind a_variable a_value ∧ (f_known = 0 ∨ (f_known = 1 ∧ xw_kn P n f_loads f_many f_strictMany a_list a_strictList)) := RX
  have RY' : yw_P P n g_size b_kinds b_threads b_variables b_values ∧ g_fences = 0 := RY
  exact h P n sz f_total f_loads f_states f_memory f_known f_many f_strictMany a_size a_kind a_variable a_value a_length a_tryKind a_tryVariable a_tryValue a_loadNumber a_position a_content a_table a_at a_done a_list a_strictList g_size g_fences g_storeCount g_loadCount g_listed g_strictListed b_kinds b_threads b_variables b_values b_stores b_loads b_found b_place b_after b_list b_strictList w RX'.1 RX'.2 RY'.1 RY'.2
theorem i_up {k : Nat} {u : SX} {v : SY} (h : i_Rel k u v) : i_Rel (k + 5) u v := h
theorem i_vc0 : wpX_init (fun u => wpY_init (fun v => i_Rel 0 u v)) := by
  refine rl_mk (k := 0) (P := (fun _ => 0, fun _ => 0, fun _ => 0, fun _ => 0)) (n := 0) (sz := fun _ => 0) ⟨rfl, by omega, fun t i _ hi => absurd hi (Nat.not_lt_zero _)⟩ ⟨nI_0.symm, fun t _ => nI_0.symm, fun t i _ hi => absurd hi (Nat.not_lt_zero _)⟩ (Or.inl rfl) ⟨nI_0.symm, fun j hj => absurd hj (Nat.not_lt_zero _)⟩ rfl
section
variable {f_total f_loads f_states f_memory f_known f_many f_strictMany : Int32} {a_size a_kind a_variable a_value a_length a_tryKind a_tryVariable a_tryValue a_loadNumber a_position a_content a_table a_at a_done a_list a_strictList : Nat → Int32}
variable {P : sq_PG} {n : Nat} {sz : Nat → Nat}
theorem xw_full6 (A : xw_P P n sz f_total a_size a_kind a_variable a_value) (h6 : n = 6) {post : Int32 → SX → Prop} {p0 p1 p2 p3 : Int32} (h : post (-2) (f_total, f_loads, f_states, f_memory, f_known, f_many, f_strictMany, a_size, a_kind, a_variable, a_value, a_length, a_tryKind, a_tryVariable, a_tryValue, a_loadNumber, a_position, a_content, a_table, a_at, a_done, a_list, a_strictList)) : wpX_append post (f_total, f_loads, f_states, f_memory, f_known, f_many, f_strictMany, a_size, a_kind, a_variable, a_value, a_length, a_tryKind, a_tryVariable, a_tryValue, a_loadNumber, a_position, a_content, a_table, a_at, a_done, a_list, a_strictList) p0 p1 p2 p3 :=
  br_t (by rw [A.1, h6]; rfl) h
theorem xw_storeF {p0 p1 p2 : Int32} (hb : (p0 < 0 ∨ nI 4 ≤ p0) ∨ p1 < 0 ∨ 3 ≤ p1 ∨ p2 < 1 ∨ ¬ p2 ≤ 3) {post : Int32 → SX → Prop} (h : post (-1) (f_total, f_loads, f_states, f_memory, f_known, f_many, f_strictMany, a_size, a_kind, a_variable, a_value, a_length, a_tryKind, a_tryVariable, a_tryValue, a_loadNumber, a_position, a_content, a_table, a_at, a_done, a_list, a_strictList)) : wpX_store post (f_total, f_loads, f_states, f_memory, f_known, f_many, f_strictMany, a_size, a_kind, a_variable, a_value, a_length, a_tryKind, a_tryVariable, a_tryValue, a_loadNumber, a_position, a_content, a_table, a_at, a_done, a_list, a_strictList) p0 p1 p2 := by
  unfold wpX_store
  by_cases c : p0 < 0 ∨ nI 4 ≤ p0
  · exact xw_badF c (br_f (by decide) h)
  · obtain ⟨t, t4, et⟩ : ∃ t, t < 4 ∧ p0 = nI t := by
      rcases pk_ix p0 (n := 4) (by omega) with r | r | r
      · exact absurd (Or.inl r) c
      · exact absurd (Or.inr r) c
      · exact r
    rw [et]
    exact xw_badT t4 (br_t rfl (br_c (fun _ => h) fun a1 => br_c (fun _ => h) fun a2 => br_c (fun _ => h) fun a3 => br_c (fun a4 => (hb.elim (fun z => absurd z c) fun z => z.elim (fun z => absurd z a1) fun z => z.elim (fun z => absurd z a2) fun z => z.elim (fun z => absurd z a3) fun z => absurd a4 z)) (fun _ => h)))
theorem xw_storeT {t x v : Nat} (t4 : t < 4) (x3 : x < 3) (v1 : 1 ≤ v) (v3 : v ≤ 3) {post : Int32 → SX → Prop} (h : wpX_append post (f_total, f_loads, f_states, f_memory, f_known, f_many, f_strictMany, a_size, a_kind, a_variable, a_value, a_length, a_tryKind, a_tryVariable, a_tryValue, a_loadNumber, a_position, a_content, a_table, a_at, a_done, a_list, a_strictList) (nI t) 0 (nI x) (nI v)) : wpX_store post (f_total, f_loads, f_states, f_memory, f_known, f_many, f_strictMany, a_size, a_kind, a_variable, a_value, a_length, a_tryKind, a_tryVariable, a_tryValue, a_loadNumber, a_position, a_content, a_table, a_at, a_done, a_list, a_strictList) (nI t) (nI x) (nI v) := by
  unfold wpX_store
  exact xw_badT t4 (br_t rfl (br_f (nI_pos (by omega)) (br_f (nI_ge (b := 3) x3 (by omega)) (br_f (nI_nlt (b := 1) v1 (by omega)) (br_t (nI_le (b := 3) v3 (by omega)) h)))))
theorem xw_loadF {p0 p1 : Int32} (hb : (p0 < 0 ∨ nI 4 ≤ p0) ∨ p1 < 0 ∨ 3 ≤ p1) {post : Int32 → SX → Prop} (h : post (-1) (f_total, f_loads, f_states, f_memory, f_known, f_many, f_strictMany, a_size, a_kind, a_variable, a_value, a_length, a_tryKind, a_tryVariable, a_tryValue, a_loadNumber, a_position, a_content, a_table, a_at, a_done, a_list, a_strictList)) : wpX_load post (f_total, f_loads, f_states, f_memory, f_known, f_many, f_strictMany, a_size, a_kind, a_variable, a_value, a_length, a_tryKind, a_tryVariable, a_tryValue, a_loadNumber, a_position, a_content, a_table, a_at, a_done, a_list, a_strictList) p0 p1 := by
  unfold wpX_load
  by_cases c : p0 < 0 ∨ nI 4 ≤ p0
  · exact xw_badF c (br_f (by decide) h)
  · obtain ⟨t, t4, et⟩ : ∃ t, t < 4 ∧ p0 = nI t := by
      rcases pk_ix p0 (n := 4) (by omega) with r | r | r
      · exact absurd (Or.inl r) c
      · exact absurd (Or.inr r) c
      · exact r
    rw [et]
    exact xw_badT t4 (br_t rfl (br_c (fun _ => h) fun a1 => br_c (fun a2 => (hb.elim (fun z => absurd z c) fun z => z.elim (fun z => absurd z a1) fun z => absurd a2 (Int32.not_lt.mpr z))) (fun _ => h)))
theorem xw_loadT {t x : Nat} (t4 : t < 4) (x3 : x < 3) {post : Int32 → SX → Prop} (h : wpX_append post (f_total, f_loads, f_states, f_memory, f_known, f_many, f_strictMany, a_size, a_kind, a_variable, a_value, a_length, a_tryKind, a_tryVariable, a_tryValue, a_loadNumber, a_position, a_content, a_table, a_at, a_done, a_list, a_strictList) (nI t) 1 (nI x) 0) : wpX_load post (f_total, f_loads, f_states, f_memory, f_known, f_many, f_strictMany, a_size, a_kind, a_variable, a_value, a_length, a_tryKind, a_tryVariable, a_tryValue, a_loadNumber, a_position, a_content, a_table, a_at, a_done, a_list, a_strictList) (nI t) (nI x) := by
  unfold wpX_load
  exact xw_badT t4 (br_t rfl (br_f (nI_pos (by omega)) (br_t (nI_lt (b := 3) x3 (by omega)) h)))
theorem xw_fenceF {p0 : Int32} (hb : p0 < 0 ∨ nI 4 ≤ p0) {post : Int32 → SX → Prop} (h : post (-1) (f_total, f_loads, f_states, f_memory, f_known, f_many, f_strictMany, a_size, a_kind, a_variable, a_value, a_length, a_tryKind, a_tryVariable, a_tryValue, a_loadNumber, a_position, a_content, a_table, a_at, a_done, a_list, a_strictList)) : wpX_fence post (f_total, f_loads, f_states, f_memory, f_known, f_many, f_strictMany, a_size, a_kind, a_variable, a_value, a_length, a_tryKind, a_tryVariable, a_tryValue, a_loadNumber, a_position, a_content, a_table, a_at, a_done, a_list, a_strictList) p0 := by
  unfold wpX_fence
  exact xw_badF hb (br_f (by decide) h)
theorem xw_fenceT {t : Nat} (t4 : t < 4) {post : Int32 → SX → Prop} (h : wpX_append post (f_total, f_loads, f_states, f_memory, f_known, f_many, f_strictMany, a_size, a_kind, a_variable, a_value, a_length, a_tryKind, a_tryVariable, a_tryValue, a_loadNumber, a_position, a_content, a_table, a_at, a_done, a_list, a_strictList) (nI t) 2 0 0) : wpX_fence post (f_total, f_loads, f_states, f_memory, f_known, f_many, f_strictMany, a_size, a_kind, a_variable, a_value, a_length, a_tryKind, a_tryVariable, a_tryValue, a_loadNumber, a_position, a_content, a_table, a_at, a_done, a_list, a_strictList) (nI t) := by
  unfold wpX_fence
  exact xw_badT t4 (br_t rfl h)
theorem xw_dropF {p0 : Int32} (hb : p0 < 0 ∨ nI 4 ≤ p0) {post : Int32 → SX → Prop} (h : post (-1) (f_total, f_loads, f_states, f_memory, f_known, f_many, f_strictMany, a_size, a_kind, a_variable, a_value, a_length, a_tryKind, a_tryVariable, a_tryValue, a_loadNumber, a_position, a_content, a_table, a_at, a_done, a_list, a_strictList)) : wpX_drop post (f_total, f_loads, f_states, f_memory, f_known, f_many, f_strictMany, a_size, a_kind, a_variable, a_value, a_length, a_tryKind, a_tryVariable, a_tryValue, a_loadNumber, a_position, a_content, a_table, a_at, a_done, a_list, a_strictList) p0 := by
  unfold wpX_drop
  exact xw_badF hb (br_f (by decide) h)
end
section
variable {f_size f_fences f_storeCount f_loadCount f_listed f_strictListed : Int32} {a_kinds a_threads a_variables a_values a_stores a_loads a_found a_place a_after a_list a_strictList : Nat → Int32}
variable {P : sq_PG} {n : Nat} {sz : Nat → Nat}
theorem yw_full6 (A : yw_P P n f_size a_kinds a_threads a_variables a_values) (h6 : n = 6) {post : Int32 → SY → Prop} {p0 p1 p2 p3 : Int32} (h : post (-2) (f_size, f_fences, f_storeCount, f_loadCount, f_listed, f_strictListed, a_kinds, a_threads, a_variables, a_values, a_stores, a_loads, a_found, a_place, a_after, a_list, a_strictList)) : wpY_insert post (f_size, f_fences, f_storeCount, f_loadCount, f_listed, f_strictListed, a_kinds, a_threads, a_variables, a_values, a_stores, a_loads, a_found, a_place, a_after, a_list, a_strictList) p0 p1 p2 p3 :=
  br_t (by rw [A.1, h6]; rfl) h
theorem yw_storeF {p0 p1 p2 : Int32} (hb : p0 < 0 ∨ 3 < p0 ∨ p1 < 0 ∨ 2 < p1 ∨ p2 < 1 ∨ 3 < p2) {post : Int32 → SY → Prop} (h : post (-1) (f_size, f_fences, f_storeCount, f_loadCount, f_listed, f_strictListed, a_kinds, a_threads, a_variables, a_values, a_stores, a_loads, a_found, a_place, a_after, a_list, a_strictList)) : wpY_store post (f_size, f_fences, f_storeCount, f_loadCount, f_listed, f_strictListed, a_kinds, a_threads, a_variables, a_values, a_stores, a_loads, a_found, a_place, a_after, a_list, a_strictList) p0 p1 p2 := by
  have B : wY_store_32 post p0 p1 p2 f_size f_fences f_storeCount f_loadCount f_listed f_strictListed a_kinds a_threads a_variables a_values a_stores a_loads a_found a_place a_after a_list a_strictList := br_t rfl h
  exact br_c (fun _ => B) fun a0 => br_c (fun _ => B) fun a1 => br_c (fun _ => B) fun a2 => br_c (fun _ => B) fun a3 => br_c (fun _ => B) fun a4 => br_c (fun _ => B) fun a5 =>
    hb.elim (fun z => absurd z a0) fun z => z.elim (fun z => absurd z a1) fun z => z.elim (fun z => absurd z a2) fun z => z.elim (fun z => absurd z a3) fun z => z.elim (fun z => absurd z a4) fun z => absurd z a5
theorem yw_storeT {t x v : Nat} (t4 : t < 4) (x3 : x < 3) (v1 : 1 ≤ v) (v3 : v ≤ 3) {post : Int32 → SY → Prop} (h : wpY_insert post (f_size, f_fences, f_storeCount, f_loadCount, f_listed, f_strictListed, a_kinds, a_threads, a_variables, a_values, a_stores, a_loads, a_found, a_place, a_after, a_list, a_strictList) 0 (nI t) (nI x) (nI v)) : wpY_store post (f_size, f_fences, f_storeCount, f_loadCount, f_listed, f_strictListed, a_kinds, a_threads, a_variables, a_values, a_stores, a_loads, a_found, a_place, a_after, a_list, a_strictList) (nI t) (nI x) (nI v) := by
  refine br_f (nI_pos (by omega)) (br_f (nI_nlt (a := 3) (by omega) (by omega)) (br_f (nI_pos (by omega)) (br_f (nI_nlt (a := 2) (by omega) (by omega)) (br_f (nI_nlt (b := 1) v1 (by omega)) (br_f (nI_nlt (a := 3) (by omega) (by omega)) ?_)))))
  exact br_f (by decide) h
theorem yw_loadF {p0 p1 : Int32} (hb : p0 < 0 ∨ 3 < p0 ∨ p1 < 0 ∨ 2 < p1) {post : Int32 → SY → Prop} (h : post (-1) (f_size, f_fences, f_storeCount, f_loadCount, f_listed, f_strictListed, a_kinds, a_threads, a_variables, a_values, a_stores, a_loads, a_found, a_place, a_after, a_list, a_strictList)) : wpY_load post (f_size, f_fences, f_storeCount, f_loadCount, f_listed, f_strictListed, a_kinds, a_threads, a_variables, a_values, a_stores, a_loads, a_found, a_place, a_after, a_list, a_strictList) p0 p1 := by
  have B : wY_load_22 post p0 p1 f_size f_fences f_storeCount f_loadCount f_listed f_strictListed a_kinds a_threads a_variables a_values a_stores a_loads a_found a_place a_after a_list a_strictList := br_t rfl h
  exact br_c (fun _ => B) fun a0 => br_c (fun _ => B) fun a1 => br_c (fun _ => B) fun a2 => br_c (fun _ => B) fun a3 =>
    hb.elim (fun z => absurd z a0) fun z => z.elim (fun z => absurd z a1) fun z => z.elim (fun z => absurd z a2) fun z => absurd z a3
theorem yw_loadT {t x : Nat} (t4 : t < 4) (x3 : x < 3) {post : Int32 → SY → Prop} (h : wpY_insert post (f_size, f_fences, f_storeCount, f_loadCount, f_listed, f_strictListed, a_kinds, a_threads, a_variables, a_values, a_stores, a_loads, a_found, a_place, a_after, a_list, a_strictList) 1 (nI t) (nI x) 0) : wpY_load post (f_size, f_fences, f_storeCount, f_loadCount, f_listed, f_strictListed, a_kinds, a_threads, a_variables, a_values, a_stores, a_loads, a_found, a_place, a_after, a_list, a_strictList) (nI t) (nI x) := by
  refine br_f (nI_pos (by omega)) (br_f (nI_nlt (a := 3) (by omega) (by omega)) (br_f (nI_pos (by omega)) (br_f (nI_nlt (a := 2) (by omega) (by omega)) ?_)))
  exact br_f (by decide) h
theorem yw_fenceF {p0 : Int32} (hb : p0 < 0 ∨ 3 < p0) {post : Int32 → SY → Prop} (h : post (-1) (f_size, f_fences, f_storeCount, f_loadCount, f_listed, f_strictListed, a_kinds, a_threads, a_variables, a_values, a_stores, a_loads, a_found, a_place, a_after, a_list, a_strictList)) : wpY_fence post (f_size, f_fences, f_storeCount, f_loadCount, f_listed, f_strictListed, a_kinds, a_threads, a_variables, a_values, a_stores, a_loads, a_found, a_place, a_after, a_list, a_strictList) p0 :=
  br_c (fun _ => h) fun a0 => br_c (fun _ => h) fun a1 => hb.elim (fun z => absurd z a0) fun z => absurd z a1
theorem yw_fenceT {t : Nat} (t4 : t < 4) {post : Int32 → SY → Prop} (h : wpY_insert post (f_size, f_fences, f_storeCount, f_loadCount, f_listed, f_strictListed, a_kinds, a_threads, a_variables, a_values, a_stores, a_loads, a_found, a_place, a_after, a_list, a_strictList) 2 (nI t) 0 0) : wpY_fence post (f_size, f_fences, f_storeCount, f_loadCount, f_listed, f_strictListed, a_kinds, a_threads, a_variables, a_values, a_stores, a_loads, a_found, a_place, a_after, a_list, a_strictList) (nI t) :=
  br_f (nI_pos (by omega)) (br_f (nI_nlt (a := 3) (by omega) (by omega)) h)
theorem yw_dropF {p0 : Int32} (hb : p0 < 0 ∨ 3 < p0) {post : Int32 → SY → Prop} (h : post (-1) (f_size, f_fences, f_storeCount, f_loadCount, f_listed, f_strictListed, a_kinds, a_threads, a_variables, a_values, a_stores, a_loads, a_found, a_place, a_after, a_list, a_strictList)) : wpY_drop post (f_size, f_fences, f_storeCount, f_loadCount, f_listed, f_strictListed, a_kinds, a_threads, a_variables, a_values, a_stores, a_loads, a_found, a_place, a_after, a_list, a_strictList) p0 :=
  br_c (fun _ => h) fun a0 => br_c (fun a1 => hb.elim (fun z => absurd z a0) fun z => absurd a1 (Int32.not_le.mpr z)) (fun _ => h)
end
/-- where an argument lies -/
theorem rg_t (p : Int32) : (p < 0 ∧ (p < 0 ∨ nI 4 ≤ p)) ∨ (3 < p ∧ (p < 0 ∨ nI 4 ≤ p)) ∨ ∃ t, t < 4 ∧ p = nI t := by
  rcases pk_ix p (n := 4) (by omega) with r | r | r
  · exact Or.inl ⟨r, Or.inl r⟩
  · exact Or.inr (Or.inl ⟨Int32.lt_of_lt_of_le (by decide) r, Or.inr r⟩)
  · exact Or.inr (Or.inr r)
theorem rg_x (p : Int32) : p < 0 ∨ (2 < p ∧ 3 ≤ p) ∨ ∃ x, x < 3 ∧ p = nI x := by
  rcases pk_ix p (n := 3) (by omega) with r | r | r
  · exact Or.inl r
  · exact Or.inr (Or.inl ⟨Int32.lt_of_lt_of_le (by decide) r, r⟩)
  · exact Or.inr (Or.inr r)
theorem rg_v (p : Int32) : p < 1 ∨ (3 < p ∧ ¬ p ≤ 3) ∨ ∃ v, 1 ≤ v ∧ v ≤ 3 ∧ p = nI v := by
  rcases pk_ix p (n := 4) (by omega) with r | r | ⟨v, r, e⟩
  · exact Or.inl (Int32.lt_trans r (by decide))
  · have := Int32.lt_of_lt_of_le (by decide : (3 : Int32) < nI 4) r
    exact Or.inr (Or.inl ⟨this, Int32.not_le.mpr this⟩)
  · by_cases c : v = 0
    · subst c; rw [e]; exact Or.inl (by decide)
    · exact Or.inr (Or.inr ⟨v, by omega, by omega, e⟩)
end
section
/-! what is owed (printed by tools/gen38.py) -/
theorem i_vc_store {k : Nat} {u : SX} {v : SY} (I : i_Rel k u v) (hk : k + 5 ≤ 2560) (v1 : Int32) (v2 : Int32) (v3 : Int32) : wpX_store (fun r u' => wpY_store (fun r' v' => r' = r ∧ i_Rel (k + 5) u' v') v v1 v2 v3) u v1 v2 v3 := by
  refine rl_el (Q := fun u v => wpX_store (fun r u' => wpY_store (fun r' v' => r' = r ∧ i_Rel (k + 5) u' v') v v1 v2 v3) u v1 v2 v3) ?_ I
  intro P n sz f_total f_loads f_states f_memory f_known f_many f_strictMany a_size a_kind a_variable a_value a_length a_tryKind a_tryVariable a_tryValue a_loadNumber a_position a_content a_table a_at a_done a_list a_strictList g_size g_fences g_storeCount g_loadCount g_listed g_strictListed b_kinds b_threads b_variables b_values b_stores b_loads b_found b_place b_after b_list b_strictList w A K B ef
  rcases rg_t v1 with ⟨y1, x1⟩ | ⟨y1, x1⟩ | ⟨t, t4, rfl⟩
  · exact xw_storeF (Or.inl x1) (yw_storeF (Or.inl y1) ⟨rfl, rl_mk w A K B ef⟩)
  · exact xw_storeF (Or.inl x1) (yw_storeF (Or.inr (Or.inl y1)) ⟨rfl, rl_mk w A K B ef⟩)
  rcases rg_x v2 with y2 | ⟨y2, x2⟩ | ⟨x, x3, rfl⟩
  · exact xw_storeF (Or.inr (Or.inl y2)) (yw_storeF (Or.inr (Or.inr (Or.inl y2))) ⟨rfl, rl_mk w A K B ef⟩)
  · exact xw_storeF (Or.inr (Or.inr (Or.inl x2))) (yw_storeF (Or.inr (Or.inr (Or.inr (Or.inl y2)))) ⟨rfl, rl_mk w A K B ef⟩)
  rcases rg_v v3 with y3 | ⟨y3, x3'⟩ | ⟨v, v1', v3', rfl⟩
  · exact xw_storeF (Or.inr (Or.inr (Or.inr (Or.inl y3)))) (yw_storeF (Or.inr (Or.inr (Or.inr (Or.inr (Or.inl y3))))) ⟨rfl, rl_mk w A K B ef⟩)
  · exact xw_storeF (Or.inr (Or.inr (Or.inr (Or.inr x3')))) (yw_storeF (Or.inr (Or.inr (Or.inr (Or.inr (Or.inr y3))))) ⟨rfl, rl_mk w A K B ef⟩)
  by_cases h6 : n = 6
  · exact xw_storeT t4 x3 v1' v3' (xw_full6 A h6 (yw_storeT t4 x3 v1' v3' (yw_full6 B h6 ⟨rfl, rl_mk w A K B ef⟩)))
  · have n6 : n < 6 := by have := w.2.1; omega
    refine xw_storeT t4 x3 v1' v3' (xw_append (k := 0) (x := x) (v := v) w A t4 n6 (fun f_total a_size a_kind a_variable a_value A' => yw_storeT t4 x3 v1' v3' (yw_insert (k := 0) (x := x) (v := v) w B t4 n6 (by omega) (by omega) (by omega) (fun g_size b_kinds b_threads b_variables b_values B' => ⟨rfl, ?_⟩))))
    exact rl_mk (pg_ins_wf w t4 n6 (by omega) (by omega) (by omega)) A' (Or.inl rfl) B' ef
theorem i_vc_load {k : Nat} {u : SX} {v : SY} (I : i_Rel k u v) (hk : k + 5 ≤ 2560) (v1 : Int32) (v2 : Int32) : wpX_load (fun r u' => wpY_load (fun r' v' => r' = r ∧ i_Rel (k + 5) u' v') v v1 v2) u v1 v2 := by
  refine rl_el (Q := fun u v => wpX_load (fun r u' => wpY_load (fun r' v' => r' = r ∧ i_Rel (k + 5) u' v') v v1 v2) u v1 v2) ?_ I
  intro P n sz f_total f_loads f_states f_memory f_known f_many f_strictMany a_size a_kind a_variable a_value a_length a_tryKind a_tryVariable a_tryValue a_loadNumber a_position a_content a_table a_at a_done a_list a_strictList g_size g_fences g_storeCount g_loadCount g_listed g_strictListed b_kinds b_threads b_variables b_values b_stores b_loads b_found b_place b_after b_list b_strictList w A K B ef
  rcases rg_t v1 with ⟨y1, x1⟩ | ⟨y1, x1⟩ | ⟨t, t4, rfl⟩
  · exact xw_loadF (Or.inl x1) (yw_loadF (Or.inl y1) ⟨rfl, rl_mk w A K B ef⟩)
  · exact xw_loadF (Or.inl x1) (yw_loadF (Or.inr (Or.inl y1)) ⟨rfl, rl_mk w A K B ef⟩)
  rcases rg_x v2 with y2 | ⟨y2, x2⟩ | ⟨x, x3, rfl⟩
  · exact xw_loadF (Or.inr (Or.inl y2)) (yw_loadF (Or.inr (Or.inr (Or.inl y2))) ⟨rfl, rl_mk w A K B ef⟩)
  · exact xw_loadF (Or.inr (Or.inr x2)) (yw_loadF (Or.inr (Or.inr (Or.inr y2))) ⟨rfl, rl_mk w A K B ef⟩)
  by_cases h6 : n = 6
  · exact xw_loadT t4 x3 (xw_full6 A h6 (yw_loadT t4 x3 (yw_full6 B h6 ⟨rfl, rl_mk w A K B ef⟩)))
  · have n6 : n < 6 := by have := w.2.1; omega
    refine xw_loadT t4 x3 (xw_append (k := 1) (x := x) (v := 0) w A t4 n6 (fun f_total a_size a_kind a_variable a_value A' => yw_loadT t4 x3 (yw_insert (k := 1) (x := x) (v := 0) w B t4 n6 (by omega) (by omega) (by omega) (fun g_size b_kinds b_threads b_variables b_values B' => ⟨rfl, ?_⟩))))
    exact rl_mk (pg_ins_wf w t4 n6 (by omega) (by omega) (by omega)) A' (Or.inl rfl) B' ef
theorem i_vc_fence {k : Nat} {u : SX} {v : SY} (I : i_Rel k u v) (hk : k + 5 ≤ 2560) (v1 : Int32) : wpX_fence (fun r u' => wpY_fence (fun r' v' => r' = r ∧ i_Rel (k + 5) u' v') v v1) u v1 := by
  refine rl_el (Q := fun u v => wpX_fence (fun r u' => wpY_fence (fun r' v' => r' = r ∧ i_Rel (k + 5) u' v') v v1) u v1) ?_ I
  intro P n sz f_total f_loads f_states f_memory f_known f_many f_strictMany a_size a_kind a_variable a_value a_length a_tryKind a_tryVariable a_tryValue a_loadNumber a_position a_content a_table a_at a_done a_list a_strictList g_size g_fences g_storeCount g_loadCount g_listed g_strictListed b_kinds b_threads b_variables b_values b_stores b_loads b_found b_place b_after b_list b_strictList w A K B ef
  rcases rg_t v1 with ⟨y1, x1⟩ | ⟨y1, x1⟩ | ⟨t, t4, rfl⟩
  · exact xw_fenceF x1 (yw_fenceF (Or.inl y1) ⟨rfl, rl_mk w A K B ef⟩)
  · exact xw_fenceF x1 (yw_fenceF (Or.inr y1) ⟨rfl, rl_mk w A K B ef⟩)
  by_cases h6 : n = 6
  · exact xw_fenceT t4 (xw_full6 A h6 (yw_fenceT t4 (yw_full6 B h6 ⟨rfl, rl_mk w A K B ef⟩)))
  · have n6 : n < 6 := by have := w.2.1; omega
    refine xw_fenceT t4 (xw_append (k := 2) (x := 0) (v := 0) w A t4 n6 (fun f_total a_size a_kind a_variable a_value A' => yw_fenceT t4 (yw_insert (k := 2) (x := 0) (v := 0) w B t4 n6 (by omega) (by omega) (by omega) (fun g_size b_kinds b_threads b_variables b_values B' => ⟨rfl, ?_⟩))))
    exact rl_mk (pg_ins_wf w t4 n6 (by omega) (by omega) (by omega)) A' (Or.inl rfl) B' ef
theorem i_vc_drop {k : Nat} {u : SX} {v : SY} (I : i_Rel k u v) (hk : k + 5 ≤ 2560) (v1 : Int32) : wpX_drop (fun r u' => wpY_drop (fun r' v' => r' = r ∧ i_Rel (k + 5) u' v') v v1) u v1 := by
  refine rl_el (Q := fun u v => wpX_drop (fun r u' => wpY_drop (fun r' v' => r' = r ∧ i_Rel (k + 5) u' v') v v1) u v1) ?_ I
  intro P n sz f_total f_loads f_states f_memory f_known f_many f_strictMany a_size a_kind a_variable a_value a_length a_tryKind a_tryVariable a_tryValue a_loadNumber a_position a_content a_table a_at a_done a_list a_strictList g_size g_fences g_storeCount g_loadCount g_listed g_strictListed b_kinds b_threads b_variables b_values b_stores b_loads b_found b_place b_after b_list b_strictList w A K B ef
  rcases rg_t v1 with ⟨y1, x1⟩ | ⟨y1, x1⟩ | ⟨t, t4, rfl⟩
  · exact xw_dropF x1 (yw_dropF (Or.inl y1) ⟨rfl, rl_mk w A K B ef⟩)
  · exact xw_dropF x1 (yw_dropF (Or.inr y1) ⟨rfl, rl_mk w A K B ef⟩)
  refine xw_drop w A t4 (fun z => yw_drop w B t4 (fun _ => ⟨rfl, rl_mk w A K B ef⟩) (fun z' => by omega)) (fun z f_total a_size A' => yw_drop w B t4 (fun z' => by omega) (fun _ g_size b_kinds b_threads b_variables b_values B' => ⟨rfl, ?_⟩))
  exact rl_mk (pg_del_wf w t4 z) A' (Or.inl rfl) B' ef
theorem i_vc_clear {k : Nat} {u : SX} {v : SY} (I : i_Rel k u v) (hk : k + 5 ≤ 2560) : wpX_clear (fun u' => wpY_clear (fun v' => i_Rel (k + 5) u' v') v) u := by
  refine rl_el (Q := fun u v => wpX_clear (fun u' => wpY_clear (fun v' => i_Rel (k + 5) u' v') v) u) ?_ I
  intro P n sz f_total f_loads f_states f_memory f_known f_many f_strictMany a_size a_kind a_variable a_value a_length a_tryKind a_tryVariable a_tryValue a_loadNumber a_position a_content a_table a_at a_done a_list a_strictList g_size g_fences g_storeCount g_loadCount g_listed g_strictListed b_kinds b_threads b_variables b_values b_stores b_loads b_found b_place b_after b_list b_strictList w A K B ef
  refine ⟨5, xw_cl2 (fun a_size hs => ?_) 4 0 5 a_size (by omega) (by omega) (fun u hu => by omega)⟩
  exact rl_mk (k := k + 5) (P := P) (n := 0) (sz := fun _ => 0) ⟨rfl, by omega, fun t i _ hi => absurd hi (Nat.not_lt_zero _)⟩ ⟨nI_0.symm, hs, fun t i _ hi => absurd hi (Nat.not_lt_zero _)⟩ (Or.inl rfl) ⟨nI_0.symm, fun j hj => absurd hj (Nat.not_lt_zero _)⟩ ef
theorem i_vc_size {k : Nat} {u : SX} {v : SY} (I : i_Rel k u v) (hk : k + 5 ≤ 2560) : wpX_size (fun r => wpY_size (fun r' => r' = r ∧ i_Rel (k + 5) u v) v) u := by
  refine rl_el (Q := fun u v => wpX_size (fun r => wpY_size (fun r' => r' = r ∧ i_Rel (k + 5) u v) v) u) ?_ I
  intro P n sz f_total f_loads f_states f_memory f_known f_many f_strictMany a_size a_kind a_variable a_value a_length a_tryKind a_tryVariable a_tryValue a_loadNumber a_position a_content a_table a_at a_done a_list a_strictList g_size g_fences g_storeCount g_loadCount g_listed g_strictListed b_kinds b_threads b_variables b_values b_stores b_loads b_found b_place b_after b_list b_strictList w A K B ef
  exact And.intro (by rw [A.1, B.1]) (rl_mk w A K B ef)
theorem i_vc_outcomes {k : Nat} {u : SX} {v : SY} (I : i_Rel k u v) (hk : k + 5 ≤ 2560) : wpX_outcomes (fun r u' => wpY_outcomes (fun r' v' => r' = r ∧ i_Rel (k + 5) u' v') v) u := by
  refine rl_el (Q := fun u v => wpX_outcomes (fun r u' => wpY_outcomes (fun r' v' => r' = r ∧ i_Rel (k + 5) u' v') v) u) ?_ I
  intro P n sz f_total f_loads f_states f_memory f_known f_many f_strictMany a_size a_kind a_variable a_value a_length a_tryKind a_tryVariable a_tryValue a_loadNumber a_position a_content a_table a_at a_done a_list a_strictList g_size g_fences g_storeCount g_loadCount g_listed g_strictListed b_kinds b_threads b_variables b_values b_stores b_loads b_found b_place b_after b_list b_strictList w A K B ef
  have ok := sq_wf_ok w
  unfold wpX_outcomes
  refine xw_work w A K (fun f_loads f_states f_memory f_known f_many f_strictMany a_length a_tryKind a_tryVariable a_tryValue a_loadNumber a_position a_content a_table a_at a_done a_list a_strictList ek kn => ?_)
  have K' : f_known = 0 ∨ (f_known = 1 ∧ xw_kn P n f_loads f_many f_strictMany a_list a_strictList) := Or.inr ⟨ek, kn⟩
  obtain ⟨k1, ⟨o, c, O, S⟩, ⟨o', c', O', S'⟩⟩ := kn
  unfold wpY_outcomes
  refine yw_goOver0 (g := 0) ok B (by omega) (by rw [ef]; exact nI_0.symm) (fun o2 c2 g_storeCount g_loadCount g_listed b_stores b_loads b_found b_place b_after b_list O2 S2 el => ?_)
  have Y := so_xy ok (fun i _ _ => by rw [sq_G0, yw_G0]) O S O2 S2
  exact ⟨by rw [O.1, Y.1], rl_mk w A K' B ef⟩
theorem i_vc_strictOutcomes {k : Nat} {u : SX} {v : SY} (I : i_Rel k u v) (hk : k + 5 ≤ 2560) : wpX_strictOutcomes (fun r u' => wpY_strictOutcomes (fun r' v' => r' = r ∧ i_Rel (k + 5) u' v') v) u := by
  refine rl_el (Q := fun u v => wpX_strictOutcomes (fun r u' => wpY_strictOutcomes (fun r' v' => r' = r ∧ i_Rel (k + 5) u' v') v) u) ?_ I
  intro P n sz f_total f_loads f_states f_memory f_known f_many f_strictMany a_size a_kind a_variable a_value a_length a_tryKind a_tryVariable a_tryValue a_loadNumber a_position a_content a_table a_at a_done a_list a_strictList g_size g_fences g_storeCount g_loadCount g_listed g_strictListed b_kinds b_threads b_variables b_values b_stores b_loads b_found b_place b_after b_list b_strictList w A K B ef
  have ok := sq_wf_ok w
  unfold wpX_strictOutcomes
  refine xw_work w A K (fun f_loads f_states f_memory f_known f_many f_strictMany a_length a_tryKind a_tryVariable a_tryValue a_loadNumber a_position a_content a_table a_at a_done a_list a_strictList ek kn => ?_)
  have K' : f_known = 0 ∨ (f_known = 1 ∧ xw_kn P n f_loads f_many f_strictMany a_list a_strictList) := Or.inr ⟨ek, kn⟩
  obtain ⟨k1, ⟨o, c, O, S⟩, ⟨o', c', O', S'⟩⟩ := kn
  unfold wpY_strictOutcomes
  refine yw_goOver1 (g := 0) ok B (by omega) (by rw [ef]; exact nI_0.symm) (fun o2 c2 g_storeCount g_loadCount g_strictListed b_stores b_loads b_found b_place b_after b_strictList O2 S2 el => ?_)
  have Y := so_xy ok (fun i _ _ => by rw [sq_G0, yw_G0]) O' S' O2 S2
  exact ⟨by rw [O'.1, Y.1], rl_mk w A K' B ef⟩
theorem i_vc_outcome {k : Nat} {u : SX} {v : SY} (I : i_Rel k u v) (hk : k + 5 ≤ 2560) (v1 : Int32) : wpX_outcome (fun r u' => wpY_outcome (fun r' v' => r' = r ∧ i_Rel (k + 5) u' v') v v1) u v1 := by
  refine rl_el (Q := fun u v => wpX_outcome (fun r u' => wpY_outcome (fun r' v' => r' = r ∧ i_Rel (k + 5) u' v') v v1) u v1) ?_ I
  intro P n sz f_total f_loads f_states f_memory f_known f_many f_strictMany a_size a_kind a_variable a_value a_length a_tryKind a_tryVariable a_tryValue a_loadNumber a_position a_content a_table a_at a_done a_list a_strictList g_size g_fences g_storeCount g_loadCount g_listed g_strictListed b_kinds b_threads b_variables b_values b_stores b_loads b_found b_place b_after b_list b_strictList w A K B ef
  have ok := sq_wf_ok w
  unfold wpX_outcome
  refine xw_work w A K (fun f_loads f_states f_memory f_known f_many f_strictMany a_length a_tryKind a_tryVariable a_tryValue a_loadNumber a_position a_content a_table a_at a_done a_list a_strictList ek kn => ?_)
  have K' : f_known = 0 ∨ (f_known = 1 ∧ xw_kn P n f_loads f_many f_strictMany a_list a_strictList) := Or.inr ⟨ek, kn⟩
  obtain ⟨k1, ⟨o, c, O, S⟩, ⟨o', c', O', S'⟩⟩ := kn
  have c5 := O.2.1
  rcases pk_ix v1 (n := c) (by omega) with z | z | ⟨i, i1, rfl⟩
  · refine br_t z ?_
    unfold wpY_outcome
    refine yw_goOver0 (g := 0) ok B (by omega) (by rw [ef]; exact nI_0.symm) (fun o2 c2 g_storeCount g_loadCount g_listed b_stores b_loads b_found b_place b_after b_list O2 S2 el => ?_)
    exact br_t z ⟨rfl, rl_mk w A K' B ef⟩
  · have n0 : ¬ v1 < 0 := Int32.not_lt.mpr (Int32.le_trans (nI_pos' (by omega)) z)
    refine br_f n0 (br_f (by rw [O.1]; exact Int32.not_lt.mpr z) ?_)
    unfold wpY_outcome
    refine yw_goOver0 (g := 0) ok B (by omega) (by rw [ef]; exact nI_0.symm) (fun o2 c2 g_storeCount g_loadCount g_listed b_stores b_loads b_found b_place b_after b_list O2 S2 el => ?_)
    have Y := so_xy ok (fun i _ _ => by rw [sq_G0, yw_G0]) O S O2 S2
    exact br_f n0 (br_t (by rw [Y.1]; exact z) ⟨rfl, rl_mk w A K' B ef⟩)
  · have n0 : ¬ nI i < 0 := nI_pos (by omega)
    refine br_f n0 (br_t (by rw [O.1]; exact nI_lt i1 (by omega)) (And.intro (vp_in_nI (by omega) (by omega)) ?_))
    unfold wpY_outcome
    refine yw_goOver0 (g := 0) ok B (by omega) (by rw [ef]; exact nI_0.symm) (fun o2 c2 g_storeCount g_loadCount g_listed b_stores b_loads b_found b_place b_after b_list O2 S2 el => ?_)
    have Y := so_xy ok (fun i _ _ => by rw [sq_G0, yw_G0]) O S O2 S2
    refine br_f n0 (br_f (by rw [Y.1]; exact nI_ge i1 (by omega)) (And.intro (vp_in_nI (by omega) (by omega)) ⟨?_, rl_mk w A K' B ef⟩))
    rw [nI_clamp (n := i) (by omega), (O.2.2.2 i i1).1, (Y.2.2.2 i i1).1]
theorem i_vc_possible {k : Nat} {u : SX} {v : SY} (I : i_Rel k u v) (hk : k + 5 ≤ 2560) (v1 : Int32) : wpX_possible (fun r u' => wpY_possible (fun r' v' => r' = r ∧ i_Rel (k + 5) u' v') v v1) u v1 := by
  refine rl_el (Q := fun u v => wpX_possible (fun r u' => wpY_possible (fun r' v' => r' = r ∧ i_Rel (k + 5) u' v') v v1) u v1) ?_ I
  intro P n sz f_total f_loads f_states f_memory f_known f_many f_strictMany a_size a_kind a_variable a_value a_length a_tryKind a_tryVariable a_tryValue a_loadNumber a_position a_content a_table a_at a_done a_list a_strictList g_size g_fences g_storeCount g_loadCount g_listed g_strictListed b_kinds b_threads b_variables b_values b_stores b_loads b_found b_place b_after b_list b_strictList w A K B ef
  have ok := sq_wf_ok w
  unfold wpX_possible
  refine xw_work w A K (fun f_loads f_states f_memory f_known f_many f_strictMany a_length a_tryKind a_tryVariable a_tryValue a_loadNumber a_position a_content a_table a_at a_done a_list a_strictList ek kn => ?_)
  have K' : f_known = 0 ∨ (f_known = 1 ∧ xw_kn P n f_loads f_many f_strictMany a_list a_strictList) := Or.inr ⟨ek, kn⟩
  obtain ⟨k1, ⟨o, c, O, S⟩, ⟨o', c', O', S'⟩⟩ := kn
  refine xw_has0 O (fun t => And.intro rfl ?_) (fun t => And.intro rfl ?_)
  · unfold wpY_possible
    refine yw_goOver0 (g := 0) ok B (by omega) (by rw [ef]; exact nI_0.symm) (fun o2 c2 g_storeCount g_loadCount g_listed b_stores b_loads b_found b_place b_after b_list O2 S2 el => ?_)
    have Y := so_xy ok (fun i _ _ => by rw [sq_G0, yw_G0]) O S O2 S2
    exact ⟨c + 1, yw_ps7 Y (fun _ => ⟨rfl, rl_mk w A K' B ef⟩) (fun t' => absurd t t') c 0 (c + 1) (by omega) (by omega) (fun j hj => by omega)⟩
  · unfold wpY_possible
    refine yw_goOver0 (g := 0) ok B (by omega) (by rw [ef]; exact nI_0.symm) (fun o2 c2 g_storeCount g_loadCount g_listed b_stores b_loads b_found b_place b_after b_list O2 S2 el => ?_)
    have Y := so_xy ok (fun i _ _ => by rw [sq_G0, yw_G0]) O S O2 S2
    exact ⟨c + 1, yw_ps7 Y (fun t' => absurd t' t) (fun _ => ⟨rfl, rl_mk w A K' B ef⟩) c 0 (c + 1) (by omega) (by omega) (fun j hj => by omega)⟩
theorem i_vc_strictlyPossible {k : Nat} {u : SX} {v : SY} (I : i_Rel k u v) (hk : k + 5 ≤ 2560) (v1 : Int32) : wpX_strictlyPossible (fun r u' => wpY_strictlyPossible (fun r' v' => r' = r ∧ i_Rel (k + 5) u' v') v v1) u v1 := by
  refine rl_el (Q := fun u v => wpX_strictlyPossible (fun r u' => wpY_strictlyPossible (fun r' v' => r' = r ∧ i_Rel (k + 5) u' v') v v1) u v1) ?_ I
  intro P n sz f_total f_loads f_states f_memory f_known f_many f_strictMany a_size a_kind a_variable a_value a_length a_tryKind a_tryVariable a_tryValue a_loadNumber a_position a_content a_table a_at a_done a_list a_strictList g_size g_fences g_storeCount g_loadCount g_listed g_strictListed b_kinds b_threads b_variables b_values b_stores b_loads b_found b_place b_after b_list b_strictList w A K B ef
  have ok := sq_wf_ok w
  unfold wpX_strictlyPossible
  refine xw_work w A K (fun f_loads f_states f_memory f_known f_many f_strictMany a_length a_tryKind a_tryVariable a_tryValue a_loadNumber a_position a_content a_table a_at a_done a_list a_strictList ek kn => ?_)
  have K' : f_known = 0 ∨ (f_known = 1 ∧ xw_kn P n f_loads f_many f_strictMany a_list a_strictList) := Or.inr ⟨ek, kn⟩
  obtain ⟨k1, ⟨o, c, O, S⟩, ⟨o', c', O', S'⟩⟩ := kn
  refine xw_has1 O' (fun t => And.intro rfl ?_) (fun t => And.intro rfl ?_)
  · unfold wpY_strictlyPossible
    refine yw_goOver1 (g := 0) ok B (by omega) (by rw [ef]; exact nI_0.symm) (fun o2 c2 g_storeCount g_loadCount g_strictListed b_stores b_loads b_found b_place b_after b_strictList O2 S2 el => ?_)
    have Y := so_xy ok (fun i _ _ => by rw [sq_G0, yw_G0]) O' S' O2 S2
    exact yw_isStrict Y (fun _ => And.intro rfl ⟨rfl, rl_mk w A K' B ef⟩) (fun t' => absurd t t')
  · unfold wpY_strictlyPossible
    refine yw_goOver1 (g := 0) ok B (by omega) (by rw [ef]; exact nI_0.symm) (fun o2 c2 g_storeCount g_loadCount g_strictListed b_stores b_loads b_found b_place b_after b_strictList O2 S2 el => ?_)
    have Y := so_xy ok (fun i _ _ => by rw [sq_G0, yw_G0]) O' S' O2 S2
    exact yw_isStrict Y (fun t' => absurd t' t) (fun _ => And.intro rfl ⟨rfl, rl_mk w A K' B ef⟩)
theorem i_vc_surprise {k : Nat} {u : SX} {v : SY} (I : i_Rel k u v) (hk : k + 5 ≤ 2560) : wpX_surprise (fun r u' => wpY_surprise (fun r' v' => r' = r ∧ i_Rel (k + 5) u' v') v) u := by
  refine rl_el (Q := fun u v => wpX_surprise (fun r u' => wpY_surprise (fun r' v' => r' = r ∧ i_Rel (k + 5) u' v') v) u) ?_ I
  intro P n sz f_total f_loads f_states f_memory f_known f_many f_strictMany a_size a_kind a_variable a_value a_length a_tryKind a_tryVariable a_tryValue a_loadNumber a_position a_content a_table a_at a_done a_list a_strictList g_size g_fences g_storeCount g_loadCount g_listed g_strictListed b_kinds b_threads b_variables b_values b_stores b_loads b_found b_place b_after b_list b_strictList w A K B ef
  have ok := sq_wf_ok w
  unfold wpX_surprise
  refine xw_work w A K (fun f_loads f_states f_memory f_known f_many f_strictMany a_length a_tryKind a_tryVariable a_tryValue a_loadNumber a_position a_content a_table a_at a_done a_list a_strictList ek kn => ?_)
  have K' : f_known = 0 ∨ (f_known = 1 ∧ xw_kn P n f_loads f_many f_strictMany a_list a_strictList) := Or.inr ⟨ek, kn⟩
  obtain ⟨k1, ⟨o, c, O, S⟩, ⟨o', c', O', S'⟩⟩ := kn
  obtain ⟨r, hr⟩ := so_surT o c o' c'
  refine xw_surpriseNow O O' hr ?_
  unfold wpY_surprise
  refine yw_goOver1 (g := 0) ok B (by omega) (by rw [ef]; exact nI_0.symm) (fun o2 c2 g_storeCount g_loadCount g_strictListed b_stores b_loads b_found b_place b_after b_strictList O2 S2 el => ?_)
  have Y := so_xy ok (fun i _ _ => by rw [sq_G0, yw_G0]) O' S' O2 S2
  refine yw_firstSurprise ok B (g := 0) (by omega) (by rw [ef]; exact nI_0.symm) Y (fun o3 c3 r3 g_storeCount g_loadCount g_listed b_stores b_loads b_found b_place b_after b_list O3 S3 hr3 => ?_)
  obtain ⟨e1, e2⟩ := so_eq O3.2.2.1 O.2.2.1 (fun x => (S3 x).trans ((sq_mid_cg ok (fun i _ _ => by rw [sq_G0, yw_G0])).symm.trans (S x).symm))
  subst e1
  refine ⟨so_sur1 hr ?_, rl_mk w A K' B ef⟩
  rcases hr3 with ⟨h1, h2⟩ | ⟨i, h1, h2, h3, h4⟩
  · exact Or.inl ⟨fun i hi => by rw [← e2 i hi]; exact h1 i hi, h2⟩
  · exact Or.inr ⟨i, h1, by rw [← e2 i h1]; exact h2, fun q hq => by rw [← e2 q (by omega)]; exact h3 q hq, by rw [← e2 i h1]; exact h4⟩
theorem i_vc_finds {k : Nat} {u : SX} {v : SY} (I : i_Rel k u v) (hk : k + 5 ≤ 2560) (v1 : Int32) : wpX_finds (fun r u' => wpY_finds (fun r' v' => r' = r ∧ i_Rel (k + 5) u' v') v v1) u v1 := by
  refine rl_el (Q := fun u v => wpX_finds (fun r u' => wpY_finds (fun r' v' => r' = r ∧ i_Rel (k + 5) u' v') v v1) u v1) ?_ I
  intro P n sz f_total f_loads f_states f_memory f_known f_many f_strictMany a_size a_kind a_variable a_value a_length a_tryKind a_tryVariable a_tryValue a_loadNumber a_position a_content a_table a_at a_done a_list a_strictList g_size g_fences g_storeCount g_loadCount g_listed g_strictListed b_kinds b_threads b_variables b_values b_stores b_loads b_found b_place b_after b_list b_strictList w A K B ef
  have ok := sq_wf_ok w
  have n6 := w.2.1
  have l6 := sq_ln_le P n
  unfold wpX_finds
  refine xw_work w A K (fun f_loads f_states f_memory f_known f_many f_strictMany a_length a_tryKind a_tryVariable a_tryValue a_loadNumber a_position a_content a_table a_at a_done a_list a_strictList ek kn => ?_)
  have K' : f_known = 0 ∨ (f_known = 1 ∧ xw_kn P n f_loads f_many f_strictMany a_list a_strictList) := Or.inr ⟨ek, kn⟩
  obtain ⟨k1, ⟨o, c, O, S⟩, ⟨o', c', O', S'⟩⟩ := kn
  rcases pk_ix v1 (n := sq_ln P n) (by omega) with z | z | ⟨i, i1, rfl⟩
  · refine br_t z ?_
    unfold wpY_finds
    refine yw_goOver0 (g := 0) ok B (by omega) (by rw [ef]; exact nI_0.symm) (fun o2 c2 g_storeCount g_loadCount g_listed b_stores b_loads b_found b_place b_after b_list O2 S2 el => ?_)
    exact br_t z ⟨rfl, rl_mk w A K' B ef⟩
  · have n0 : ¬ v1 < 0 := Int32.not_lt.mpr (Int32.le_trans (nI_pos' (by omega)) z)
    refine br_f n0 (br_f (by rw [k1]; exact Int32.not_lt.mpr z) ?_)
    unfold wpY_finds
    refine yw_goOver0 (g := 0) ok B (by omega) (by rw [ef]; exact nI_0.symm) (fun o2 c2 g_storeCount g_loadCount g_listed b_stores b_loads b_found b_place b_after b_list O2 S2 el => ?_)
    exact br_f n0 (br_f (by rw [el]; exact Int32.not_lt.mpr z) ⟨rfl, rl_mk w A K' B ef⟩)
  · have n0 : ¬ nI i < 0 := nI_pos (by omega)
    refine br_f n0 (br_t (by rw [k1]; exact nI_lt i1 (by omega)) ⟨c + 1, xw_fi23 (by omega) O ?_ c 0 (c + 1) (by omega) (by omega)⟩)
    unfold wpY_finds
    refine yw_goOver0 (g := 0) ok B (by omega) (by rw [ef]; exact nI_0.symm) (fun o2 c2 g_storeCount g_loadCount g_listed b_stores b_loads b_found b_place b_after b_list O2 S2 el => ?_)
    have Y := so_xy ok (fun i _ _ => by rw [sq_G0, yw_G0]) O S O2 S2
    exact br_f n0 (br_t (by rw [el]; exact nI_lt i1 (by omega)) ⟨c + 1, yw_fi24 (by omega) Y ⟨rfl, rl_mk w A K' B ef⟩ c 0 (c + 1) (by omega) (by omega)⟩)
theorem i_vc_ends {k : Nat} {u : SX} {v : SY} (I : i_Rel k u v) (hk : k + 5 ≤ 2560) (v1 : Int32) : wpX_ends (fun r u' => wpY_ends (fun r' v' => r' = r ∧ i_Rel (k + 5) u' v') v v1) u v1 := by
  refine rl_el (Q := fun u v => wpX_ends (fun r u' => wpY_ends (fun r' v' => r' = r ∧ i_Rel (k + 5) u' v') v v1) u v1) ?_ I
  intro P n sz f_total f_loads f_states f_memory f_known f_many f_strictMany a_size a_kind a_variable a_value a_length a_tryKind a_tryVariable a_tryValue a_loadNumber a_position a_content a_table a_at a_done a_list a_strictList g_size g_fences g_storeCount g_loadCount g_listed g_strictListed b_kinds b_threads b_variables b_values b_stores b_loads b_found b_place b_after b_list b_strictList w A K B ef
  have ok := sq_wf_ok w
  unfold wpX_ends
  rcases rg_x v1 with z | ⟨z, z'⟩ | ⟨x, x3, rfl⟩
  · refine br_t z ?_
    unfold wpY_ends
    exact br_t z ⟨rfl, rl_mk w A K B ef⟩
  · have n0 : ¬ v1 < 0 := Int32.not_lt.mpr (Int32.le_trans (by decide) z')
    refine br_f n0 (br_f (Int32.not_lt.mpr z') ?_)
    unfold wpY_ends
    exact br_f n0 (br_f (Int32.not_le.mpr z) ⟨rfl, rl_mk w A K B ef⟩)
  · have n0 : ¬ nI x < 0 := nI_pos (by omega)
    refine br_f n0 (br_t (nI_lt (b := 3) x3 (by omega)) ?_)
    refine xw_work w A K (fun f_loads f_states f_memory f_known f_many f_strictMany a_length a_tryKind a_tryVariable a_tryValue a_loadNumber a_position a_content a_table a_at a_done a_list a_strictList ek kn => ?_)
    have K' : f_known = 0 ∨ (f_known = 1 ∧ xw_kn P n f_loads f_many f_strictMany a_list a_strictList) := Or.inr ⟨ek, kn⟩
    obtain ⟨k1, ⟨o, c, O, S⟩, ⟨o', c', O', S'⟩⟩ := kn
    refine ⟨c + 1, xw_en19 x3 O ?_ c 0 (c + 1) (by omega) (by omega)⟩
    unfold wpY_ends
    refine br_f n0 (br_t (nI_le (b := 2) (by omega) (by omega)) ?_)
    refine yw_goOver0 (g := 0) ok B (by omega) (by rw [ef]; exact nI_0.symm) (fun o2 c2 g_storeCount g_loadCount g_listed b_stores b_loads b_found b_place b_after b_list O2 S2 el => ?_)
    have Y := so_xy ok (fun i _ _ => by rw [sq_G0, yw_G0]) O S O2 S2
    exact ⟨c + 1, yw_en20 x3 Y ⟨rfl, rl_mk w A K' B ef⟩ c 0 (c + 1) (by omega) (by omega)⟩
theorem i_vc_implies {k : Nat} {u : SX} {v : SY} (I : i_Rel k u v) (hk : k + 5 ≤ 2560) (v1 : Int32) (v2 : Int32) (v3 : Int32) (v4 : Int32) : wpX_implies (fun r u' => wpY_implies (fun r' v' => r' = r ∧ i_Rel (k + 5) u' v') v v1 v2 v3 v4) u v1 v2 v3 v4 := by
  refine rl_el (Q := fun u v => wpX_implies (fun r u' => wpY_implies (fun r' v' => r' = r ∧ i_Rel (k + 5) u' v') v v1 v2 v3 v4) u v1 v2 v3 v4) ?_ I
  intro P n sz f_total f_loads f_states f_memory f_known f_many f_strictMany a_size a_kind a_variable a_value a_length a_tryKind a_tryVariable a_tryValue a_loadNumber a_position a_content a_table a_at a_done a_list a_strictList g_size g_fences g_storeCount g_loadCount g_listed g_strictListed b_kinds b_threads b_variables b_values b_stores b_loads b_found b_place b_after b_list b_strictList w A K B ef
  have ok := sq_wf_ok w
  have n6 := w.2.1
  have l6 := sq_ln_le P n
  unfold wpX_implies
  refine xw_work w A K (fun f_loads f_states f_memory f_known f_many f_strictMany a_length a_tryKind a_tryVariable a_tryValue a_loadNumber a_position a_content a_table a_at a_done a_list a_strictList ek kn => ?_)
  have K' : f_known = 0 ∨ (f_known = 1 ∧ xw_kn P n f_loads f_many f_strictMany a_list a_strictList) := Or.inr ⟨ek, kn⟩
  obtain ⟨k1, ⟨o, c, O, S⟩, ⟨o', c', O', S'⟩⟩ := kn
  rcases pk_ix v1 (n := sq_ln P n) (by omega) with z | z | ⟨i, i1, rfl⟩
  · refine br_t z ?_
    unfold wpY_implies
    refine yw_goOver0 (g := 0) ok B (by omega) (by rw [ef]; exact nI_0.symm) (fun o2 c2 g_storeCount g_loadCount g_listed b_stores b_loads b_found b_place b_after b_list O2 S2 el => ?_)
    exact br_t z ⟨rfl, rl_mk w A K' B ef⟩
  · have n0 : ¬ v1 < 0 := Int32.not_lt.mpr (Int32.le_trans (nI_pos' (by omega)) z)
    refine br_f n0 (br_t (by rw [k1]; exact z) ?_)
    unfold wpY_implies
    refine yw_goOver0 (g := 0) ok B (by omega) (by rw [ef]; exact nI_0.symm) (fun o2 c2 g_storeCount g_loadCount g_listed b_stores b_loads b_found b_place b_after b_list O2 S2 el => ?_)
    exact br_f n0 (br_t (by rw [el]; exact z) ⟨rfl, rl_mk w A K' B ef⟩)
  have n0 : ¬ nI i < 0 := nI_pos (by omega)
  refine br_f n0 (br_f (by rw [k1]; exact nI_ge i1 (by omega)) ?_)
  rcases pk_ix v3 (n := sq_ln P n) (by omega) with z | z | ⟨j, j1, rfl⟩
  · refine br_t z ?_
    unfold wpY_implies
    refine yw_goOver0 (g := 0) ok B (by omega) (by rw [ef]; exact nI_0.symm) (fun o2 c2 g_storeCount g_loadCount g_listed b_stores b_loads b_found b_place b_after b_list O2 S2 el => ?_)
    exact br_f n0 (br_f (by rw [el]; exact nI_ge i1 (by omega)) (br_t z ⟨rfl, rl_mk w A K' B ef⟩))
  · have m0 : ¬ v3 < 0 := Int32.not_lt.mpr (Int32.le_trans (nI_pos' (by omega)) z)
    refine br_f m0 (br_f (by rw [k1]; exact Int32.not_lt.mpr z) ?_)
    unfold wpY_implies
    refine yw_goOver0 (g := 0) ok B (by omega) (by rw [ef]; exact nI_0.symm) (fun o2 c2 g_storeCount g_loadCount g_listed b_stores b_loads b_found b_place b_after b_list O2 S2 el => ?_)
    exact br_f n0 (br_f (by rw [el]; exact nI_ge i1 (by omega)) (br_f m0 (br_f (by rw [el]; exact Int32.not_lt.mpr z) ⟨rfl, rl_mk w A K' B ef⟩)))
  have m0 : ¬ nI j < 0 := nI_pos (by omega)
  refine br_f m0 (br_t (by rw [k1]; exact nI_lt j1 (by omega)) ⟨c + 1, xw_im36 (by omega) (by omega) O (fun t => ?_) (fun t => ?_) c 0 (c + 1) 1 (by omega) (by omega) (by omega) ⟨fun _ j hj => by omega, fun _ => rfl⟩⟩)
  · unfold wpY_implies
    refine yw_goOver0 (g := 0) ok B (by omega) (by rw [ef]; exact nI_0.symm) (fun o2 c2 g_storeCount g_loadCount g_listed b_stores b_loads b_found b_place b_after b_list O2 S2 el => ?_)
    have Y := so_xy ok (fun i _ _ => by rw [sq_G0, yw_G0]) O S O2 S2
    exact br_f n0 (br_f (by rw [el]; exact nI_ge i1 (by omega)) (br_f m0 (br_t (by rw [el]; exact nI_lt j1 (by omega)) ⟨c + 1, yw_im34 (by omega) (by omega) Y (fun _ => ⟨rfl, rl_mk w A K' B ef⟩) (fun t' => absurd t t') c 0 (c + 1) (by omega) (by omega) (fun j hj => by omega)⟩)))
  · unfold wpY_implies
    refine yw_goOver0 (g := 0) ok B (by omega) (by rw [ef]; exact nI_0.symm) (fun o2 c2 g_storeCount g_loadCount g_listed b_stores b_loads b_found b_place b_after b_list O2 S2 el => ?_)
    have Y := so_xy ok (fun i _ _ => by rw [sq_G0, yw_G0]) O S O2 S2
    exact br_f n0 (br_f (by rw [el]; exact nI_ge i1 (by omega)) (br_f m0 (br_t (by rw [el]; exact nI_lt j1 (by omega)) ⟨c + 1, yw_im34 (by omega) (by omega) Y (fun t' => absurd t' t) (fun _ => ⟨rfl, rl_mk w A K' B ef⟩) c 0 (c + 1) (by omega) (by omega) (fun j hj => by omega)⟩)))
theorem i_vc_fencesNeeded {k : Nat} {u : SX} {v : SY} (I : i_Rel k u v) (hk : k + 5 ≤ 2560) : wpX_fencesNeeded (fun r u' => wpY_fencesNeeded (fun r' v' => r' = r ∧ i_Rel (k + 5) u' v') v) u := by
  refine rl_el (Q := fun u v => wpX_fencesNeeded (fun r u' => wpY_fencesNeeded (fun r' v' => r' = r ∧ i_Rel (k + 5) u' v') v) u) ?_ I
  intro P n sz f_total f_loads f_states f_memory f_known f_many f_strictMany a_size a_kind a_variable a_value a_length a_tryKind a_tryVariable a_tryValue a_loadNumber a_position a_content a_table a_at a_done a_list a_strictList g_size g_fences g_storeCount g_loadCount g_listed g_strictListed b_kinds b_threads b_variables b_values b_stores b_loads b_found b_place b_after b_list b_strictList w A K B ef
  have ok := sq_wf_ok w
  refine xw_fencesNeeded w A K (fun r f_loads f_states f_memory f_known f_many f_strictMany a_length a_tryKind a_tryVariable a_tryValue a_loadNumber a_position a_content a_table a_at a_done a_list a_strictList mx K' => ?_)
  refine yw_fencesNeeded ok B ef (fun r' g_storeCount g_loadCount g_listed g_strictListed b_stores b_loads b_found b_place b_after b_list b_strictList my => ⟨?_, rl_mk w A K' B rfl⟩)
  rw [sq_min_xy ok mx my]
end
