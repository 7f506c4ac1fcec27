section
/-! pure rows to paste: stores, nI and lN arithmetic, masks, shifts, narrowing, branches by naturals (pk_le, pk_lt, pk_eq), loops (lp1 .. lp16: the measure of the state; rp1 ..: recursion), negatives. Take what you need -/
theorem pk_us {f : Nat → Int32} {k : Nat} {x : Int32} : upd f k x k = x := if_pos rfl
theorem pk_un {f : Nat → Int32} {k j : Nat} {x : Int32} (h : j ≠ k) : upd f k x j = f j := if_neg h
theorem pk_uLs {f : Nat → Int64} {k : Nat} {x : Int64} : vp_updL f k x k = x := if_pos rfl
theorem pk_uLn {f : Nat → Int64} {k j : Nat} {x : Int64} (h : j ≠ k) : vp_updL f k x j = f j := if_neg h
theorem pk_sub {a b : Nat} (h : b ≤ a) : nI a - nI b = nI (a - b) := by
  obtain ⟨c, rfl⟩ : ∃ c, a = c + b := ⟨a - b, by omega⟩
  rw [← nI_add, Int32.add_sub_cancel, Nat.add_sub_cancel]
theorem pk_m1 (n : Nat) : nI (n + 1) + (-1) = nI n := by
  rw [← nI_1, Int32.add_assoc, show (1 : Int32) + (-1) = 0 from rfl, Int32.add_zero]
theorem pk_mul (a b : Nat) : nI a * nI b = nI (a * b) := (Int32.ofNat_mul a b).symm
theorem pk_div {a d : Nat} (ha : a < 2 ^ 31) (h0 : 0 < d) (hd : d < 2 ^ 31) : nI a / nI d = nI (a / d) := by
  apply Int32.toInt_inj.mp
  rw [lg_idiv_nonneg (by rw [nI_toInt ha]; omega) (by rw [nI_toInt hd]; omega), nI_toInt ha, nI_toInt hd, nI_toInt (Nat.lt_of_le_of_lt (Nat.div_le_self a d) ha)]
  first | rfl | exact (Int.natCast_ediv _ _).symm
theorem pk_rem {a d : Nat} (ha : a < 2 ^ 31) (h0 : 0 < d) (hd : d < 2 ^ 31) : nI a - nI a / nI d * nI d = nI (a % d) := by
  rw [pk_div ha h0 hd, pk_mul, pk_sub (Nat.div_mul_le_self a d)]
  exact congrArg nI (by have := Nat.div_add_mod' a d; omega)
theorem pk_sub_toInt {a b : Nat} (ha : a < 2 ^ 30) (hb : b < 2 ^ 30) : (nI a - nI b).toInt = (a : Int) - b := by
  rw [Int32.toInt_sub, nI_toInt (by omega), nI_toInt (by omega)]
  exact Int.bmod_eq_of_le (by omega) (by omega)
theorem pk_sneg {a b : Nat} (hb : b < 2 ^ 30) (h : a < b) : nI a - nI b < 0 := by
  rw [Int32.lt_iff_toInt_lt, pk_sub_toInt (by omega) hb, show (0 : Int32).toInt = 0 from by decide]
  omega
theorem pk_ix (x : Int32) {n : Nat} (hn : n < 2 ^ 31) : x < 0 ∨ nI n ≤ x ∨ ∃ j : Nat, j < n ∧ x = nI j := by
  by_cases h : x < 0
  · exact Or.inl h
  · obtain ⟨j, hj, rfl⟩ := nI_of h
    by_cases h2 : j < n
    · exact Or.inr (Or.inr ⟨j, h2, rfl⟩)
    · exact Or.inr (Or.inl (nI_le (by omega) hj))
theorem pk_le {x y : Int32} {A B : Prop} (a b : Nat) (f : a ≤ b → A) (g : b < a → B) (hx : x = nI a := by rfl) (hy : y = nI b := by rfl) (ha : a < 2 ^ 31 := by omega) (hb : b < 2 ^ 31 := by omega) : (x ≤ y → A) ∧ (¬ x ≤ y → B) := by
  subst hx hy
  rw [nI_leI ha hb]
  exact ⟨f, fun z => g (by omega)⟩
theorem pk_lt {x y : Int32} {A B : Prop} (a b : Nat) (f : a < b → A) (g : b ≤ a → B) (hx : x = nI a := by rfl) (hy : y = nI b := by rfl) (ha : a < 2 ^ 31 := by omega) (hb : b < 2 ^ 31 := by omega) : (x < y → A) ∧ (¬ x < y → B) := by
  subst hx hy
  rw [nI_ltI ha hb]
  exact ⟨f, fun z => g (by omega)⟩
theorem pk_eq {x y : Int32} {A B : Prop} (a b : Nat) (f : a = b → A) (g : a ≠ b → B) (hx : x = nI a := by rfl) (hy : y = nI b := by rfl) (ha : a < 2 ^ 31 := by omega) (hb : b < 2 ^ 31 := by omega) : (x = y → A) ∧ (¬ x = y → B) := by
  subst hx hy
  rw [nI_eq ha hb]
  exact ⟨f, g⟩
theorem pk_in {x : Int32} (n N : Nat) (h : n < N) (hx : x = nI n := by rfl) (hN : N < 2 ^ 31 := by omega) : vp_in x N := by
  subst hx
  exact vp_in_nI h hN
theorem pk_cl {x : Int32} (n : Nat) (hx : x = nI n := by rfl) (h : n < 2 ^ 31 := by omega) : x.toNatClampNeg = n := by
  subst hx
  exact nI_clamp h
theorem pk_tn {n : Nat} (h : n < 2 ^ 32) : (nI n).toBitVec.toNat = n := Nat.mod_eq_of_lt h
theorem pk_and (x : Int32) {m : Int32} (k : Nat) (hm : m.toBitVec.toNat = 2 ^ k - 1) : x &&& m = nI (x.toBitVec.toNat % 2 ^ k) := by
  apply Int32.toBitVec_inj.mp
  apply BitVec.eq_of_toNat_eq
  rw [Int32.toBitVec_and, BitVec.toNat_and, hm, Nat.and_two_pow_sub_one_eq_mod]
  show _ = (BitVec.ofNat 32 _).toNat
  rw [BitVec.toNat_ofNat]
  exact (Nat.mod_eq_of_lt (Nat.lt_of_le_of_lt (Nat.mod_le _ _) x.toBitVec.isLt)).symm
theorem pk_andN {n : Nat} (h : n < 2 ^ 32) {m : Int32} (k : Nat) (hm : m.toBitVec.toNat = 2 ^ k - 1) : nI n &&& m = nI (n % 2 ^ k) := by
  rw [pk_and _ k hm, pk_tn h]
theorem pk_andE (x : Int32) {m : Int32} (k : Nat) (hm : m.toBitVec.toNat = 2 ^ k - 1) : ∃ j : Nat, j < 2 ^ k ∧ x &&& m = nI j := ⟨_, Nat.mod_lt _ (Nat.two_pow_pos k), pk_and x k hm⟩
theorem pk_andIn (x : Int32) {m : Int32} (k : Nat) (hm : m.toBitVec.toNat = 2 ^ k - 1) (hk : k ≤ 30) : vp_in (x &&& m) (2 ^ k) := by
  obtain ⟨j, hj, e⟩ := pk_andE x k hm
  rw [e]
  exact vp_in_nI hj (Nat.lt_of_le_of_lt (Nat.pow_le_pow_right (by decide) hk) (by decide))
theorem pk_shl (a s : Int32) (k : Nat) (hs : (s.toBitVec.smod 32).toNat = k) : (a <<< s).toBitVec.toNat = a.toBitVec.toNat * 2 ^ k % 2 ^ 32 := by
  show (a.toBitVec <<< (s.toBitVec.smod 32).toNat).toNat = _
  rw [hs, BitVec.toNat_shiftLeft, Nat.shiftLeft_eq]
theorem pk_shlN {n : Nat} (s : Int32) (k : Nat) (hs : (s.toBitVec.smod 32).toNat = k) (h : n * 2 ^ k < 2 ^ 32) : nI n <<< s = nI (n * 2 ^ k) := by
  apply Int32.toBitVec_inj.mp
  apply BitVec.eq_of_toNat_eq
  have hn : n < 2 ^ 32 := Nat.lt_of_le_of_lt (Nat.le_mul_of_pos_right n (Nat.two_pow_pos k)) h
  rw [pk_shl _ _ k hs, pk_tn hn, pk_tn h, Nat.mod_eq_of_lt h]
theorem pk_shr (a s : Int32) (k : Nat) (hs : (s.toBitVec.smod 32).toNat = k) : (a >>> s).toInt = a.toInt >>> k := by
  show (a.toBitVec.sshiftRight (s.toBitVec.smod 32).toNat).toInt = _
  rw [hs, BitVec.toInt_sshiftRight]
  rfl
theorem pk_shrN {n : Nat} (h : n < 2 ^ 31) (s : Int32) (k : Nat) (hs : (s.toBitVec.smod 32).toNat = k) : nI n >>> s = nI (n / 2 ^ k) := by
  apply Int32.toInt_inj.mp
  have h2 : n / 2 ^ k ≤ n := Nat.div_le_self _ _
  rw [pk_shr _ _ k hs, nI_toInt h, nI_toInt (by omega), Int.shiftRight_eq_div_pow]
  rfl
theorem pk_ushr (x s : Int32) (k : Nat) (hs : ((s.toUInt32 &&& Int32.toUInt32 31).toBitVec % 32).toNat = k) : (x.toUInt32 >>> (s.toUInt32 &&& Int32.toUInt32 31)).toInt32.toBitVec.toNat = x.toBitVec.toNat / 2 ^ k := by
  have e : (x.toUInt32 >>> (s.toUInt32 &&& Int32.toUInt32 31)).toInt32.toBitVec = x.toBitVec >>> k := by
    rw [← hs]
    exact UInt32.toBitVec_shiftRight _ _
  rw [e, BitVec.toNat_ushiftRight, Nat.shiftRight_eq_div_pow]
theorem pk_ushrN {n : Nat} (hn : n < 2 ^ 32) (s : Int32) (k : Nat) (hs : ((s.toUInt32 &&& Int32.toUInt32 31).toBitVec % 32).toNat = k) : ((nI n).toUInt32 >>> (s.toUInt32 &&& Int32.toUInt32 31)).toInt32 = nI (n / 2 ^ k) := by
  apply Int32.toBitVec_inj.mp
  apply BitVec.eq_of_toNat_eq
  rw [pk_ushr _ s k hs, pk_tn hn, pk_tn (Nat.lt_of_le_of_lt (Nat.div_le_self _ _) hn)]
theorem pk_nb (z : Int32) : narrow .byte (.int z.toInt8.toInt32) = .int z.toInt8.toInt32 := congrArg Value.int (by simp)
theorem pk_ns (z : Int32) : narrow .short (.int z.toInt16.toInt32) = .int z.toInt16.toInt32 := congrArg Value.int (by simp)
theorem pk_fb (r : Int32) : fits .byte (.int r.toInt8.toInt32) = true := by
  have ⟨a, b⟩ := lg_i2b_range r
  have h1 : (-128 : Int32).toInt = -128 := by decide
  have h2 : (127 : Int32).toInt = 127 := by decide
  simp only [fits, Bool.and_eq_true, decide_eq_true_eq, Int32.le_iff_toInt_le, h1, h2]
  omega
theorem pk_fs (r : Int32) : fits .short (.int r.toInt16.toInt32) = true := by
  have ⟨a, b⟩ := lg_i2s_range r
  have h1 : (-32768 : Int32).toInt = -32768 := by decide
  have h2 : (32767 : Int32).toInt = 32767 := by decide
  simp only [fits, Bool.and_eq_true, decide_eq_true_eq, Int32.le_iff_toInt_le, h1, h2]
  omega
theorem pk_charN {q : Nat} (hq : q < 65536) : narrow .char (.int (nI q)) = .int (nI q) ∧ fits .char (.int (nI q)) = true := by
  constructor
  · have e : (nI q).toUInt32.toUInt16.toUInt32.toInt32 = nI q := by
      apply Int32.toBitVec_inj.mp
      apply BitVec.eq_of_toNat_eq
      show (nI q).toUInt32.toUInt16.toUInt32.toNat = q % 2 ^ 32
      rw [UInt16.toNat_toUInt32, UInt32.toNat_toUInt16, show (nI q).toUInt32.toNat = q % 2 ^ 32 from rfl]
      omega
    exact congrArg Value.int e
  · have a : (0 : Int32) ≤ nI q := nI_pos' (by omega)
    have b : nI q ≤ 65535 := nI_le (b := 65535) (by omega) (by decide)
    show (decide ((0 : Int32) ≤ nI q) && decide (nI q ≤ 65535)) = true
    rw [decide_eq_true a, decide_eq_true b]
    rfl
theorem pk_char (x : Int32) : (x.toUInt32 % 65536).toInt32 = nI (x.toBitVec.toNat % 65536) := by
  apply Int32.toBitVec_inj.mp
  apply BitVec.eq_of_toNat_eq
  rw [pk_tn (by omega)]
  show (x.toUInt32 % 65536).toNat = _
  rw [UInt32.toNat_mod]
  rfl
theorem pk_nc (x : Int32) : narrow .char (.int (x.toUInt32 % 65536).toInt32) = .int (x.toUInt32 % 65536).toInt32 := by
  rw [pk_char]
  exact (pk_charN (Nat.mod_lt _ (by decide))).1
theorem pk_fc (x : Int32) : fits .char (.int (x.toUInt32 % 65536).toInt32) = true := by
  rw [pk_char]
  exact (pk_charN (Nat.mod_lt _ (by decide))).2
theorem pk_vb (z : Int32) : vp_nar .byte z.toInt8.toInt32 = z.toInt8.toInt32 := by rw [vp_nar_byte]; simp
theorem pk_vs (z : Int32) : vp_nar .short z.toInt16.toInt32 = z.toInt16.toInt32 := by rw [vp_nar_short]; simp
theorem pk_vc (z : Int32) : vp_nar .char (z.toUInt32 % 65536).toInt32 = (z.toUInt32 % 65536).toInt32 := Value.int.inj (pk_nc z)
theorem pk_lT {n : Nat} (h : n < 2 ^ 63) : (lN n).toInt = (n : Int) := lg_ofNat_toInt h
theorem pk_lLT {a b : Nat} (ha : a < 2 ^ 63) (hb : b < 2 ^ 63) : lN a < lN b ↔ a < b := by
  rw [Int64.lt_iff_toInt_lt, pk_lT ha, pk_lT hb]; omega
theorem pk_lLE {a b : Nat} (ha : a < 2 ^ 63) (hb : b < 2 ^ 63) : lN a ≤ lN b ↔ a ≤ b := by
  rw [Int64.le_iff_toInt_le, pk_lT ha, pk_lT hb]; omega
theorem pk_lEQ {a b : Nat} (ha : a < 2 ^ 63) (hb : b < 2 ^ 63) : lN a = lN b ↔ a = b := by
  rw [← Int64.toInt_inj, pk_lT ha, pk_lT hb]; omega
theorem pk_lOf {x : Int64} (h : ¬ x < 0) : ∃ k : Nat, k < 2 ^ 63 ∧ x = lN k := by
  rw [Int64.lt_iff_toInt_lt] at h
  have h0 : (0 : Int64).toInt = 0 := by decide
  have hx := Int64.toInt_lt x
  refine ⟨x.toInt.toNat, by omega, Int64.toInt_inj.mp ?_⟩
  rw [pk_lT (by omega)]
  omega
theorem pk_lDiv {a b : Nat} (ha : a < 2 ^ 63) (h0 : 0 < b) (hb : b < 2 ^ 63) : lN a / lN b = lN (a / b) := by
  apply Int64.toInt_inj.mp
  rw [lg_ldiv_nonneg (by rw [pk_lT ha]; omega) (by rw [pk_lT hb]; omega), pk_lT ha, pk_lT hb, pk_lT (Nat.lt_of_le_of_lt (Nat.div_le_self a b) ha)]
  rfl
theorem pk_lRem {a b : Nat} (ha : a < 2 ^ 63) (h0 : 0 < b) (hb : b < 2 ^ 63) : lN a - lN a / lN b * lN b = lN (a % b) := by
  rw [pk_lDiv ha h0 hb, lN_mul, lN_sub (Nat.div_mul_le_self a b)]
  exact congrArg lN (by have := Nat.div_add_mod' a b; omega)
theorem pk_loop {σ : Type} (W : Nat → Nat → σ → Prop) (I : Nat → σ → Prop) (e i0 : Nat) (s : σ) (hi : i0 ≤ e) (h0 : I i0 s) (hx : ∀ n s, I e s → W (n + 1) e s)
    (hs : ∀ n i s, i < e → I i s → (∀ s', I (i + 1) s' → W n (i + 1) s') → W (n + 1) i s) : ∃ n, W n i0 s :=
  ⟨e + 1, loop_i W I e hx hs (e + 1) i0 s hi (by omega) h0⟩
theorem pk_loopD {σ : Type} (W : Nat → Nat → σ → Prop) (I : Nat → σ → Prop) (hx : ∀ n s, I 0 s → W (n + 1) 0 s)
    (hs : ∀ n i s, I (i + 1) s → (∀ s', I i s' → W n i s') → W (n + 1) (i + 1) s) : ∀ (e : Nat) (s : σ), I e s → W (e + 1) e s := by
  intro e
  induction e with
  | zero => exact fun s h => hx 0 s h
  | succ e ih => exact fun s h => hs (e + 1) e s h (fun s' h' => ih s' h')
theorem lp1 {A1 : Type} (W : Nat → A1 → Prop) (I : A1 → Prop) (μ : A1 → Nat) (hs : ∀ (n : Nat) (a1 : A1), I a1 → (∀ (b1 : A1), I b1 → μ b1 < μ a1 → W n b1) → W (n + 1) a1) (a1 : A1) (h : I a1) : ∃ n, W n a1 :=
  loop_m (σ := A1) (fun n s => W n s) (fun s => I s) (fun s => μ s) (fun n s hI hk => hs n s hI (fun b1 h9 hm => hk b1 h9 hm)) a1 h
theorem lp2 {A1 A2 : Type} (W : Nat → A1 → A2 → Prop) (I : A1 → A2 → Prop) (μ : A1 → A2 → Nat) (hs : ∀ (n : Nat) (a1 : A1) (a2 : A2), I a1 a2 → (∀ (b1 : A1) (b2 : A2), I b1 b2 → μ b1 b2 < μ a1 a2 → W n b1 b2) → W (n + 1) a1 a2) (a1 : A1) (a2 : A2) (h : I a1 a2) : ∃ n, W n a1 a2 :=
  loop_m (σ := A1 × A2) (fun n s => W n s.1 s.2) (fun s => I s.1 s.2) (fun s => μ s.1 s.2) (fun n s hI hk => hs n s.1 s.2 hI (fun b1 b2 h9 hm => hk (b1, b2) h9 hm)) (a1, a2) h
theorem lp3 {A1 A2 A3 : Type} (W : Nat → A1 → A2 → A3 → Prop) (I : A1 → A2 → A3 → Prop) (μ : A1 → A2 → A3 → Nat) (hs : ∀ (n : Nat) (a1 : A1) (a2 : A2) (a3 : A3), I a1 a2 a3 → (∀ (b1 : A1) (b2 : A2) (b3 : A3), I b1 b2 b3 → μ b1 b2 b3 < μ a1 a2 a3 → W n b1 b2 b3) → W (n + 1) a1 a2 a3) (a1 : A1) (a2 : A2) (a3 : A3) (h : I a1 a2 a3) : ∃ n, W n a1 a2 a3 :=
  loop_m (σ := A1 × A2 × A3) (fun n s => W n s.1 s.2.1 s.2.2) (fun s => I s.1 s.2.1 s.2.2) (fun s => μ s.1 s.2.1 s.2.2) (fun n s hI hk => hs n s.1 s.2.1 s.2.2 hI (fun b1 b2 b3 h9 hm => hk (b1, b2, b3) h9 hm)) (a1, a2, a3) h
theorem lp4 {A1 A2 A3 A4 : Type} (W : Nat → A1 → A2 → A3 → A4 → Prop) (I : A1 → A2 → A3 → A4 → Prop) (μ : A1 → A2 → A3 → A4 → Nat) (hs : ∀ (n : Nat) (a1 : A1) (a2 : A2) (a3 : A3) (a4 : A4), I a1 a2 a3 a4 → (∀ (b1 : A1) (b2 : A2) (b3 : A3) (b4 : A4), I b1 b2 b3 b4 → μ b1 b2 b3 b4 < μ a1 a2 a3 a4 → W n b1 b2 b3 b4) → W (n + 1) a1 a2 a3 a4) (a1 : A1) (a2 : A2) (a3 : A3) (a4 : A4) (h : I a1 a2 a3 a4) : ∃ n, W n a1 a2 a3 a4 :=
  loop_m (σ := A1 × A2 × A3 × A4) (fun n s => W n s.1 s.2.1 s.2.2.1 s.2.2.2) (fun s => I s.1 s.2.1 s.2.2.1 s.2.2.2) (fun s => μ s.1 s.2.1 s.2.2.1 s.2.2.2) (fun n s hI hk => hs n s.1 s.2.1 s.2.2.1 s.2.2.2 hI (fun b1 b2 b3 b4 h9 hm => hk (b1, b2, b3, b4) h9 hm)) (a1, a2, a3, a4) h
theorem lp5 {A1 A2 A3 A4 A5 : Type} (W : Nat → A1 → A2 → A3 → A4 → A5 → Prop) (I : A1 → A2 → A3 → A4 → A5 → Prop) (μ : A1 → A2 → A3 → A4 → A5 → Nat) (hs : ∀ (n : Nat) (a1 : A1) (a2 : A2) (a3 : A3) (a4 : A4) (a5 : A5), I a1 a2 a3 a4 a5 → (∀ (b1 : A1) (b2 : A2) (b3 : A3) (b4 : A4) (b5 : A5), I b1 b2 b3 b4 b5 → μ b1 b2 b3 b4 b5 < μ a1 a2 a3 a4 a5 → W n b1 b2 b3 b4 b5) → W (n + 1) a1 a2 a3 a4 a5) (a1 : A1) (a2 : A2) (a3 : A3) (a4 : A4) (a5 : A5) (h : I a1 a2 a3 a4 a5) : ∃ n, W n a1 a2 a3 a4 a5 :=
  loop_m (σ := A1 × A2 × A3 × A4 × A5) (fun n s => W n s.1 s.2.1 s.2.2.1 s.2.2.2.1 s.2.2.2.2) (fun s => I s.1 s.2.1 s.2.2.1 s.2.2.2.1 s.2.2.2.2) (fun s => μ s.1 s.2.1 s.2.2.1 s.2.2.2.1 s.2.2.2.2) (fun n s hI hk => hs n s.1 s.2.1 s.2.2.1 s.2.2.2.1 s.2.2.2.2 hI (fun b1 b2 b3 b4 b5 h9 hm => hk (b1, b2, b3, b4, b5) h9 hm)) (a1, a2, a3, a4, a5) h
theorem lp6 {A1 A2 A3 A4 A5 A6 : Type} (W : Nat → A1 → A2 → A3 → A4 → A5 → A6 → Prop) (I : A1 → A2 → A3 → A4 → A5 → A6 → Prop) (μ : A1 → A2 → A3 → A4 → A5 → A6 → Nat) (hs : ∀ (n : Nat) (a1 : A1) (a2 : A2) (a3 : A3) (a4 : A4) (a5 : A5) (a6 : A6), I a1 a2 a3 a4 a5 a6 → (∀ (b1 : A1) (b2 : A2) (b3 : A3) (b4 : A4) (b5 : A5) (b6 : A6), I b1 b2 b3 b4 b5 b6 → μ b1 b2 b3 b4 b5 b6 < μ a1 a2 a3 a4 a5 a6 → W n b1 b2 b3 b4 b5 b6) → W (n + 1) a1 a2 a3 a4 a5 a6) (a1 : A1) (a2 : A2) (a3 : A3) (a4 : A4) (a5 : A5) (a6 : A6) (h : I a1 a2 a3 a4 a5 a6) : ∃ n, W n a1 a2 a3 a4 a5 a6 :=
  loop_m (σ := A1 × A2 × A3 × A4 × A5 × A6) (fun n s => W n s.1 s.2.1 s.2.2.1 s.2.2.2.1 s.2.2.2.2.1 s.2.2.2.2.2) (fun s => I s.1 s.2.1 s.2.2.1 s.2.2.2.1 s.2.2.2.2.1 s.2.2.2.2.2) (fun s => μ s.1 s.2.1 s.2.2.1 s.2.2.2.1 s.2.2.2.2.1 s.2.2.2.2.2) (fun n s hI hk => hs n s.1 s.2.1 s.2.2.1 s.2.2.2.1 s.2.2.2.2.1 s.2.2.2.2.2 hI (fun b1 b2 b3 b4 b5 b6 h9 hm => hk (b1, b2, b3, b4, b5, b6) h9 hm)) (a1, a2, a3, a4, a5, a6) h
theorem lp7 {A1 A2 A3 A4 A5 A6 A7 : Type} (W : Nat → A1 → A2 → A3 → A4 → A5 → A6 → A7 → Prop) (I : A1 → A2 → A3 → A4 → A5 → A6 → A7 → Prop) (μ : A1 → A2 → A3 → A4 → A5 → A6 → A7 → Nat) (hs : ∀ (n : Nat) (a1 : A1) (a2 : A2) (a3 : A3) (a4 : A4) (a5 : A5) (a6 : A6) (a7 : A7), I a1 a2 a3 a4 a5 a6 a7 → (∀ (b1 : A1) (b2 : A2) (b3 : A3) (b4 : A4) (b5 : A5) (b6 : A6) (b7 : A7), I b1 b2 b3 b4 b5 b6 b7 → μ b1 b2 b3 b4 b5 b6 b7 < μ a1 a2 a3 a4 a5 a6 a7 → W n b1 b2 b3 b4 b5 b6 b7) → W (n + 1) a1 a2 a3 a4 a5 a6 a7) (a1 : A1) (a2 : A2) (a3 : A3) (a4 : A4) (a5 : A5) (a6 : A6) (a7 : A7) (h : I a1 a2 a3 a4 a5 a6 a7) : ∃ n, W n a1 a2 a3 a4 a5 a6 a7 :=
  loop_m (σ := A1 × A2 × A3 × A4 × A5 × A6 × A7) (fun n s => W n s.1 s.2.1 s.2.2.1 s.2.2.2.1 s.2.2.2.2.1 s.2.2.2.2.2.1 s.2.2.2.2.2.2) (fun s => I s.1 s.2.1 s.2.2.1 s.2.2.2.1 s.2.2.2.2.1 s.2.2.2.2.2.1 s.2.2.2.2.2.2) (fun s => μ s.1 s.2.1 s.2.2.1 s.2.2.2.1 s.2.2.2.2.1 s.2.2.2.2.2.1 s.2.2.2.2.2.2) (fun n s hI hk => hs n s.1 s.2.1 s.2.2.1 s.2.2.2.1 s.2.2.2.2.1 s.2.2.2.2.2.1 s.2.2.2.2.2.2 hI (fun b1 b2 b3 b4 b5 b6 b7 h9 hm => hk (b1, b2, b3, b4, b5, b6, b7) h9 hm)) (a1, a2, a3, a4, a5, a6, a7) h
theorem lp8 {A1 A2 A3 A4 A5 A6 A7 A8 : Type} (W : Nat → A1 → A2 → A3 → A4 → A5 → A6 → A7 → A8 → Prop) (I : A1 → A2 → A3 → A4 → A5 → A6 → A7 → A8 → Prop) (μ : A1 → A2 → A3 → A4 → A5 → A6 → A7 → A8 → Nat) (hs : ∀ (n : Nat) (a1 : A1) (a2 : A2) (a3 : A3) (a4 : A4) (a5 : A5) (a6 : A6) (a7 : A7) (a8 : A8), I a1 a2 a3 a4 a5 a6 a7 a8 → (∀ (b1 : A1) (b2 : A2) (b3 : A3) (b4 : A4) (b5 : A5) (b6 : A6) (b7 : A7) (b8 : A8), I b1 b2 b3 b4 b5 b6 b7 b8 → μ b1 b2 b3 b4 b5 b6 b7 b8 < μ a1 a2 a3 a4 a5 a6 a7 a8 → W n b1 b2 b3 b4 b5 b6 b7 b8) → W (n + 1) a1 a2 a3 a4 a5 a6 a7 a8) (a1 : A1) (a2 : A2) (a3 : A3) (a4 : A4) (a5 : A5) (a6 : A6) (a7 : A7) (a8 : A8) (h : I a1 a2 a3 a4 a5 a6 a7 a8) : ∃ n, W n a1 a2 a3 a4 a5 a6 a7 a8 :=
  loop_m (σ := A1 × A2 × A3 × A4 × A5 × A6 × A7 × A8) (fun n s => W n s.1 s.2.1 s.2.2.1 s.2.2.2.1 s.2.2.2.2.1 s.2.2.2.2.2.1 s.2.2.2.2.2.2.1 s.2.2.2.2.2.2.2) (fun s => I s.1 s.2.1 s.2.2.1 s.2.2.2.1 s.2.2.2.2.1 s.2.2.2.2.2.1 s.2.2.2.2.2.2.1 s.2.2.2.2.2.2.2) (fun s => μ s.1 s.2.1 s.2.2.1 s.2.2.2.1 s.2.2.2.2.1 s.2.2.2.2.2.1 s.2.2.2.2.2.2.1 s.2.2.2.2.2.2.2) (fun n s hI hk => hs n s.1 s.2.1 s.2.2.1 s.2.2.2.1 s.2.2.2.2.1 s.2.2.2.2.2.1 s.2.2.2.2.2.2.1 s.2.2.2.2.2.2.2 hI (fun b1 b2 b3 b4 b5 b6 b7 b8 h9 hm => hk (b1, b2, b3, b4, b5, b6, b7, b8) h9 hm)) (a1, a2, a3, a4, a5, a6, a7, a8) h
theorem lp9 {A1 A2 A3 A4 A5 A6 A7 A8 A9 : Type} (W : Nat → A1 → A2 → A3 → A4 → A5 → A6 → A7 → A8 → A9 → Prop) (I : A1 → A2 → A3 → A4 → A5 → A6 → A7 → A8 → A9 → Prop) (μ : A1 → A2 → A3 → A4 → A5 → A6 → A7 → A8 → A9 → Nat) (hs : ∀ (n : Nat) (a1 : A1) (a2 : A2) (a3 : A3) (a4 : A4) (a5 : A5) (a6 : A6) (a7 : A7) (a8 : A8) (a9 : A9), I a1 a2 a3 a4 a5 a6 a7 a8 a9 → (∀ (b1 : A1) (b2 : A2) (b3 : A3) (b4 : A4) (b5 : A5) (b6 : A6) (b7 : A7) (b8 : A8) (b9 : A9), I b1 b2 b3 b4 b5 b6 b7 b8 b9 → μ b1 b2 b3 b4 b5 b6 b7 b8 b9 < μ a1 a2 a3 a4 a5 a6 a7 a8 a9 → W n b1 b2 b3 b4 b5 b6 b7 b8 b9) → W (n + 1) a1 a2 a3 a4 a5 a6 a7 a8 a9) (a1 : A1) (a2 : A2) (a3 : A3) (a4 : A4) (a5 : A5) (a6 : A6) (a7 : A7) (a8 : A8) (a9 : A9) (h : I a1 a2 a3 a4 a5 a6 a7 a8 a9) : ∃ n, W n a1 a2 a3 a4 a5 a6 a7 a8 a9 :=
  loop_m (σ := A1 × A2 × A3 × A4 × A5 × A6 × A7 × A8 × A9) (fun n s => W n s.1 s.2.1 s.2.2.1 s.2.2.2.1 s.2.2.2.2.1 s.2.2.2.2.2.1 s.2.2.2.2.2.2.1 s.2.2.2.2.2.2.2.1 s.2.2.2.2.2.2.2.2) (fun s => I s.1 s.2.1 s.2.2.1 s.2.2.2.1 s.2.2.2.2.1 s.2.2.2.2.2.1 s.2.2.2.2.2.2.1 s.2.2.2.2.2.2.2.1 s.2.2.2.2.2.2.2.2) (fun s => μ s.1 s.2.1 s.2.2.1 s.2.2.2.1 s.2.2.2.2.1 s.2.2.2.2.2.1 s.2.2.2.2.2.2.1 s.2.2.2.2.2.2.2.1 s.2.2.2.2.2.2.2.2) (fun n s hI hk => hs n s.1 s.2.1 s.2.2.1 s.2.2.2.1 s.2.2.2.2.1 s.2.2.2.2.2.1 s.2.2.2.2.2.2.1 s.2.2.2.2.2.2.2.1 s.2.2.2.2.2.2.2.2 hI (fun b1 b2 b3 b4 b5 b6 b7 b8 b9 h9 hm => hk (b1, b2, b3, b4, b5, b6, b7, b8, b9) h9 hm)) (a1, a2, a3, a4, a5, a6, a7, a8, a9) h
theorem lp10 {A1 A2 A3 A4 A5 A6 A7 A8 A9 A10 : Type} (W : Nat → A1 → A2 → A3 → A4 → A5 → A6 → A7 → A8 → A9 → A10 → Prop) (I : A1 → A2 → A3 → A4 → A5 → A6 → A7 → A8 → A9 → A10 → Prop) (μ : A1 → A2 → A3 → A4 → A5 → A6 → A7 → A8 → A9 → A10 → Nat) (hs : ∀ (n : Nat) (a1 : A1) (a2 : A2) (a3 : A3) (a4 : A4) (a5 : A5) (a6 : A6) (a7 : A7) (a8 : A8) (a9 : A9) (a10 : A10), I a1 a2 a3 a4 a5 a6 a7 a8 a9 a10 → (∀ (b1 : A1) (b2 : A2) (b3 : A3) (b4 : A4) (b5 : A5) (b6 : A6) (b7 : A7) (b8 : A8) (b9 : A9) (b10 : A10), I b1 b2 b3 b4 b5 b6 b7 b8 b9 b10 → μ b1 b2 b3 b4 b5 b6 b7 b8 b9 b10 < μ a1 a2 a3 a4 a5 a6 a7 a8 a9 a10 → W n b1 b2 b3 b4 b5 b6 b7 b8 b9 b10) → W (n + 1) a1 a2 a3 a4 a5 a6 a7 a8 a9 a10) (a1 : A1) (a2 : A2) (a3 : A3) (a4 : A4) (a5 : A5) (a6 : A6) (a7 : A7) (a8 : A8) (a9 : A9) (a10 : A10) (h : I a1 a2 a3 a4 a5 a6 a7 a8 a9 a10) : ∃ n, W n a1 a2 a3 a4 a5 a6 a7 a8 a9 a10 :=
  loop_m (σ := A1 × A2 × A3 × A4 × A5 × A6 × A7 × A8 × A9 × A10) (fun n s => W n s.1 s.2.1 s.2.2.1 s.2.2.2.1 s.2.2.2.2.1 s.2.2.2.2.2.1 s.2.2.2.2.2.2.1 s.2.2.2.2.2.2.2.1 s.2.2.2.2.2.2.2.2.1 s.2.2.2.2.2.2.2.2.2) (fun s => I s.1 s.2.1 s.2.2.1 s.2.2.2.1 s.2.2.2.2.1 s.2.2.2.2.2.1 s.2.2.2.2.2.2.1 s.2.2.2.2.2.2.2.1 s.2.2.2.2.2.2.2.2.1 s.2.2.2.2.2.2.2.2.2) (fun s => μ s.1 s.2.1 s.2.2.1 s.2.2.2.1 s.2.2.2.2.1 s.2.2.2.2.2.1 s.2.2.2.2.2.2.1 s.2.2.2.2.2.2.2.1 s.2.2.2.2.2.2.2.2.1 s.2.2.2.2.2.2.2.2.2) (fun n s hI hk => hs n s.1 s.2.1 s.2.2.1 s.2.2.2.1 s.2.2.2.2.1 s.2.2.2.2.2.1 s.2.2.2.2.2.2.1 s.2.2.2.2.2.2.2.1 s.2.2.2.2.2.2.2.2.1 s.2.2.2.2.2.2.2.2.2 hI (fun b1 b2 b3 b4 b5 b6 b7 b8 b9 b10 h9 hm => hk (b1, b2, b3, b4, b5, b6, b7, b8, b9, b10) h9 hm)) (a1, a2, a3, a4, a5, a6, a7, a8, a9, a10) h
theorem lp11 {A1 A2 A3 A4 A5 A6 A7 A8 A9 A10 A11 : Type} (W : Nat → A1 → A2 → A3 → A4 → A5 → A6 → A7 → A8 → A9 → A10 → A11 → Prop) (I : A1 → A2 → A3 → A4 → A5 → A6 → A7 → A8 → A9 → A10 → A11 → Prop) (μ : A1 → A2 → A3 → A4 → A5 → A6 → A7 → A8 → A9 → A10 → A11 → Nat) (hs : ∀ (n : Nat) (a1 : A1) (a2 : A2) (a3 : A3) (a4 : A4) (a5 : A5) (a6 : A6) (a7 : A7) (a8 : A8) (a9 : A9) (a10 : A10) (a11 : A11), I a1 a2 a3 a4 a5 a6 a7 a8 a9 a10 a11 → (∀ (b1 : A1) (b2 : A2) (b3 : A3) (b4 : A4) (b5 : A5) (b6 : A6) (b7 : A7) (b8 : A8) (b9 : A9) (b10 : A10) (b11 : A11), I b1 b2 b3 b4 b5 b6 b7 b8 b9 b10 b11 → μ b1 b2 b3 b4 b5 b6 b7 b8 b9 b10 b11 < μ a1 a2 a3 a4 a5 a6 a7 a8 a9 a10 a11 → W n b1 b2 b3 b4 b5 b6 b7 b8 b9 b10 b11) → W (n + 1) a1 a2 a3 a4 a5 a6 a7 a8 a9 a10 a11) (a1 : A1) (a2 : A2) (a3 : A3) (a4 : A4) (a5 : A5) (a6 : A6) (a7 : A7) (a8 : A8) (a9 : A9) (a10 : A10) (a11 : A11) (h : I a1 a2 a3 a4 a5 a6 a7 a8 a9 a10 a11) : ∃ n, W n a1 a2 a3 a4 a5 a6 a7 a8 a9 a10 a11 :=
  loop_m (σ := A1 × A2 × A3 × A4 × A5 × A6 × A7 × A8 × A9 × A10 × A11) (fun n s => W n s.1 s.2.1 s.2.2.1 s.2.2.2.1 s.2.2.2.2.1 s.2.2.2.2.2.1 s.2.2.2.2.2.2.1 s.2.2.2.2.2.2.2.1 s.2.2.2.2.2.2.2.2.1 s.2.2.2.2.2.2.2.2.2.1 s.2.2.2.2.2.2.2.2.2.2) (fun s => I s.1 s.2.1 s.2.2.1 s.2.2.2.1 s.2.2.2.2.1 s.2.2.2.2.2.1 s.2.2.2.2.2.2.1 s.2.2.2.2.2.2.2.1 s.2.2.2.2.2.2.2.2.1 s.2.2.2.2.2.2.2.2.2.1 s.2.2.2.2.2.2.2.2.2.2) (fun s => μ s.1 s.2.1 s.2.2.1 s.2.2.2.1 s.2.2.2.2.1 s.2.2.2.2.2.1 s.2.2.2.2.2.2.1 s.2.2.2.2.2.2.2.1 s.2.2.2.2.2.2.2.2.1 s.2.2.2.2.2.2.2.2.2.1 s.2.2.2.2.2.2.2.2.2.2) (fun n s hI hk => hs n s.1 s.2.1 s.2.2.1 s.2.2.2.1 s.2.2.2.2.1 s.2.2.2.2.2.1 s.2.2.2.2.2.2.1 s.2.2.2.2.2.2.2.1 s.2.2.2.2.2.2.2.2.1 s.2.2.2.2.2.2.2.2.2.1 s.2.2.2.2.2.2.2.2.2.2 hI (fun b1 b2 b3 b4 b5 b6 b7 b8 b9 b10 b11 h9 hm => hk (b1, b2, b3, b4, b5, b6, b7, b8, b9, b10, b11) h9 hm)) (a1, a2, a3, a4, a5, a6, a7, a8, a9, a10, a11) h
theorem lp12 {A1 A2 A3 A4 A5 A6 A7 A8 A9 A10 A11 A12 : Type} (W : Nat → A1 → A2 → A3 → A4 → A5 → A6 → A7 → A8 → A9 → A10 → A11 → A12 → Prop) (I : A1 → A2 → A3 → A4 → A5 → A6 → A7 → A8 → A9 → A10 → A11 → A12 → Prop) (μ : A1 → A2 → A3 → A4 → A5 → A6 → A7 → A8 → A9 → A10 → A11 → A12 → Nat) (hs : ∀ (n : Nat) (a1 : A1) (a2 : A2) (a3 : A3) (a4 : A4) (a5 : A5) (a6 : A6) (a7 : A7) (a8 : A8) (a9 : A9) (a10 : A10) (a11 : A11) (a12 : A12), I a1 a2 a3 a4 a5 a6 a7 a8 a9 a10 a11 a12 → (∀ (b1 : A1) (b2 : A2) (b3 : A3) (b4 : A4) (b5 : A5) (b6 : A6) (b7 : A7) (b8 : A8) (b9 : A9) (b10 : A10) (b11 : A11) (b12 : A12), I b1 b2 b3 b4 b5 b6 b7 b8 b9 b10 b11 b12 → μ b1 b2 b3 b4 b5 b6 b7 b8 b9 b10 b11 b12 < μ a1 a2 a3 a4 a5 a6 a7 a8 a9 a10 a11 a12 → W n b1 b2 b3 b4 b5 b6 b7 b8 b9 b10 b11 b12) → W (n + 1) a1 a2 a3 a4 a5 a6 a7 a8 a9 a10 a11 a12) (a1 : A1) (a2 : A2) (a3 : A3) (a4 : A4) (a5 : A5) (a6 : A6) (a7 : A7) (a8 : A8) (a9 : A9) (a10 : A10) (a11 : A11) (a12 : A12) (h : I a1 a2 a3 a4 a5 a6 a7 a8 a9 a10 a11 a12) : ∃ n, W n a1 a2 a3 a4 a5 a6 a7 a8 a9 a10 a11 a12 :=
  loop_m (σ := A1 × A2 × A3 × A4 × A5 × A6 × A7 × A8 × A9 × A10 × A11 × A12) (fun n s => W n s.1 s.2.1 s.2.2.1 s.2.2.2.1 s.2.2.2.2.1 s.2.2.2.2.2.1 s.2.2.2.2.2.2.1 s.2.2.2.2.2.2.2.1 s.2.2.2.2.2.2.2.2.1 s.2.2.2.2.2.2.2.2.2.1 s.2.2.2.2.2.2.2.2.2.2.1 s.2.2.2.2.2.2.2.2.2.2.2) (fun s => I s.1 s.2.1 s.2.2.1 s.2.2.2.1 s.2.2.2.2.1 s.2.2.2.2.2.1 s.2.2.2.2.2.2.1 s.2.2.2.2.2.2.2.1 s.2.2.2.2.2.2.2.2.1 s.2.2.2.2.2.2.2.2.2.1 s.2.2.2.2.2.2.2.2.2.2.1 s.2.2.2.2.2.2.2.2.2.2.2) (fun s => μ s.1 s.2.1 s.2.2.1 s.2.2.2.1 s.2.2.2.2.1 s.2.2.2.2.2.1 s.2.2.2.2.2.2.1 s.2.2.2.2.2.2.2.1 s.2.2.2.2.2.2.2.2.1 s.2.2.2.2.2.2.2.2.2.1 s.2.2.2.2.2.2.2.2.2.2.1 s.2.2.2.2.2.2.2.2.2.2.2) (fun n s hI hk => hs n s.1 s.2.1 s.2.2.1 s.2.2.2.1 s.2.2.2.2.1 s.2.2.2.2.2.1 s.2.2.2.2.2.2.1 s.2.2.2.2.2.2.2.1 s.2.2.2.2.2.2.2.2.1 s.2.2.2.2.2.2.2.2.2.1 s.2.2.2.2.2.2.2.2.2.2.1 s.2.2.2.2.2.2.2.2.2.2.2 hI (fun b1 b2 b3 b4 b5 b6 b7 b8 b9 b10 b11 b12 h9 hm => hk (b1, b2, b3, b4, b5, b6, b7, b8, b9, b10, b11, b12) h9 hm)) (a1, a2, a3, a4, a5, a6, a7, a8, a9, a10, a11, a12) h
theorem lp13 {A1 A2 A3 A4 A5 A6 A7 A8 A9 A10 A11 A12 A13 : Type} (W : Nat → A1 → A2 → A3 → A4 → A5 → A6 → A7 → A8 → A9 → A10 → A11 → A12 → A13 → Prop) (I : A1 → A2 → A3 → A4 → A5 → A6 → A7 → A8 → A9 → A10 → A11 → A12 → A13 → Prop) (μ : A1 → A2 → A3 → A4 → A5 → A6 → A7 → A8 → A9 → A10 → A11 → A12 → A13 → Nat) (hs : ∀ (n : Nat) (a1 : A1) (a2 : A2) (a3 : A3) (a4 : A4) (a5 : A5) (a6 : A6) (a7 : A7) (a8 : A8) (a9 : A9) (a10 : A10) (a11 : A11) (a12 : A12) (a13 : A13), I a1 a2 a3 a4 a5 a6 a7 a8 a9 a10 a11 a12 a13 → (∀ (b1 : A1) (b2 : A2) (b3 : A3) (b4 : A4) (b5 : A5) (b6 : A6) (b7 : A7) (b8 : A8) (b9 : A9) (b10 : A10) (b11 : A11) (b12 : A12) (b13 : A13), I b1 b2 b3 b4 b5 b6 b7 b8 b9 b10 b11 b12 b13 → μ b1 b2 b3 b4 b5 b6 b7 b8 b9 b10 b11 b12 b13 < μ a1 a2 a3 a4 a5 a6 a7 a8 a9 a10 a11 a12 a13 → W n b1 b2 b3 b4 b5 b6 b7 b8 b9 b10 b11 b12 b13) → W (n + 1) a1 a2 a3 a4 a5 a6 a7 a8 a9 a10 a11 a12 a13) (a1 : A1) (a2 : A2) (a3 : A3) (a4 : A4) (a5 : A5) (a6 : A6) (a7 : A7) (a8 : A8) (a9 : A9) (a10 : A10) (a11 : A11) (a12 : A12) (a13 : A13) (h : I a1 a2 a3 a4 a5 a6 a7 a8 a9 a10 a11 a12 a13) : ∃ n, W n a1 a2 a3 a4 a5 a6 a7 a8 a9 a10 a11 a12 a13 :=
  loop_m (σ := A1 × A2 × A3 × A4 × A5 × A6 × A7 × A8 × A9 × A10 × A11 × A12 × A13) (fun n s => W n s.1 s.2.1 s.2.2.1 s.2.2.2.1 s.2.2.2.2.1 s.2.2.2.2.2.1 s.2.2.2.2.2.2.1 s.2.2.2.2.2.2.2.1 s.2.2.2.2.2.2.2.2.1 s.2.2.2.2.2.2.2.2.2.1 s.2.2.2.2.2.2.2.2.2.2.1 s.2.2.2.2.2.2.2.2.2.2.2.1 s.2.2.2.2.2.2.2.2.2.2.2.2) (fun s => I s.1 s.2.1 s.2.2.1 s.2.2.2.1 s.2.2.2.2.1 s.2.2.2.2.2.1 s.2.2.2.2.2.2.1 s.2.2.2.2.2.2.2.1 s.2.2.2.2.2.2.2.2.1 s.2.2.2.2.2.2.2.2.2.1 s.2.2.2.2.2.2.2.2.2.2.1 s.2.2.2.2.2.2.2.2.2.2.2.1 s.2.2.2.2.2.2.2.2.2.2.2.2) (fun s => μ s.1 s.2.1 s.2.2.1 s.2.2.2.1 s.2.2.2.2.1 s.2.2.2.2.2.1 s.2.2.2.2.2.2.1 s.2.2.2.2.2.2.2.1 s.2.2.2.2.2.2.2.2.1 s.2.2.2.2.2.2.2.2.2.1 s.2.2.2.2.2.2.2.2.2.2.1 s.2.2.2.2.2.2.2.2.2.2.2.1 s.2.2.2.2.2.2.2.2.2.2.2.2) (fun n s hI hk => hs n s.1 s.2.1 s.2.2.1 s.2.2.2.1 s.2.2.2.2.1 s.2.2.2.2.2.1 s.2.2.2.2.2.2.1 s.2.2.2.2.2.2.2.1 s.2.2.2.2.2.2.2.2.1 s.2.2.2.2.2.2.2.2.2.1 s.2.2.2.2.2.2.2.2.2.2.1 s.2.2.2.2.2.2.2.2.2.2.2.1 s.2.2.2.2.2.2.2.2.2.2.2.2 hI (fun b1 b2 b3 b4 b5 b6 b7 b8 b9 b10 b11 b12 b13 h9 hm => hk (b1, b2, b3, b4, b5, b6, b7, b8, b9, b10, b11, b12, b13) h9 hm)) (a1, a2, a3, a4, a5, a6, a7, a8, a9, a10, a11, a12, a13) h
theorem lp14 {A1 A2 A3 A4 A5 A6 A7 A8 A9 A10 A11 A12 A13 A14 : Type} (W : Nat → A1 → A2 → A3 → A4 → A5 → A6 → A7 → A8 → A9 → A10 → A11 → A12 → A13 → A14 → Prop) (I : A1 → A2 → A3 → A4 → A5 → A6 → A7 → A8 → A9 → A10 → A11 → A12 → A13 → A14 → Prop) (μ : A1 → A2 → A3 → A4 → A5 → A6 → A7 → A8 → A9 → A10 → A11 → A12 → A13 → A14 → Nat) (hs : ∀ (n : Nat) (a1 : A1) (a2 : A2) (a3 : A3) (a4 : A4) (a5 : A5) (a6 : A6) (a7 : A7) (a8 : A8) (a9 : A9) (a10 : A10) (a11 : A11) (a12 : A12) (a13 : A13) (a14 : A14), I a1 a2 a3 a4 a5 a6 a7 a8 a9 a10 a11 a12 a13 a14 → (∀ (b1 : A1) (b2 : A2) (b3 : A3) (b4 : A4) (b5 : A5) (b6 : A6) (b7 : A7) (b8 : A8) (b9 : A9) (b10 : A10) (b11 : A11) (b12 : A12) (b13 : A13) (b14 : A14), I b1 b2 b3 b4 b5 b6 b7 b8 b9 b10 b11 b12 b13 b14 → μ b1 b2 b3 b4 b5 b6 b7 b8 b9 b10 b11 b12 b13 b14 < μ a1 a2 a3 a4 a5 a6 a7 a8 a9 a10 a11 a12 a13 a14 → W n b1 b2 b3 b4 b5 b6 b7 b8 b9 b10 b11 b12 b13 b14) → W (n + 1) a1 a2 a3 a4 a5 a6 a7 a8 a9 a10 a11 a12 a13 a14) (a1 : A1) (a2 : A2) (a3 : A3) (a4 : A4) (a5 : A5) (a6 : A6) (a7 : A7) (a8 : A8) (a9 : A9) (a10 : A10) (a11 : A11) (a12 : A12) (a13 : A13) (a14 : A14) (h : I a1 a2 a3 a4 a5 a6 a7 a8 a9 a10 a11 a12 a13 a14) : ∃ n, W n a1 a2 a3 a4 a5 a6 a7 a8 a9 a10 a11 a12 a13 a14 :=
  loop_m (σ := A1 × A2 × A3 × A4 × A5 × A6 × A7 × A8 × A9 × A10 × A11 × A12 × A13 × A14) (fun n s => W n s.1 s.2.1 s.2.2.1 s.2.2.2.1 s.2.2.2.2.1 s.2.2.2.2.2.1 s.2.2.2.2.2.2.1 s.2.2.2.2.2.2.2.1 s.2.2.2.2.2.2.2.2.1 s.2.2.2.2.2.2.2.2.2.1 s.2.2.2.2.2.2.2.2.2.2.1 s.2.2.2.2.2.2.2.2.2.2.2.1 s.2.2.2.2.2.2.2.2.2.2.2.2.1 s.2.2.2.2.2.2.2.2.2.2.2.2.2) (fun s => I s.1 s.2.1 s.2.2.1 s.2.2.2.1 s.2.2.2.2.1 s.2.2.2.2.2.1 s.2.2.2.2.2.2.1 s.2.2.2.2.2.2.2.1 s.2.2.2.2.2.2.2.2.1 s.2.2.2.2.2.2.2.2.2.1 s.2.2.2.2.2.2.2.2.2.2.1 s.2.2.2.2.2.2.2.2.2.2.2.1 s.2.2.2.2.2.2.2.2.2.2.2.2.1 s.2.2.2.2.2.2.2.2.2.2.2.2.2) (fun s => μ s.1 s.2.1 s.2.2.1 s.2.2.2.1 s.2.2.2.2.1 s.2.2.2.2.2.1 s.2.2.2.2.2.2.1 s.2.2.2.2.2.2.2.1 s.2.2.2.2.2.2.2.2.1 s.2.2.2.2.2.2.2.2.2.1 s.2.2.2.2.2.2.2.2.2.2.1 s.2.2.2.2.2.2.2.2.2.2.2.1 s.2.2.2.2.2.2.2.2.2.2.2.2.1 s.2.2.2.2.2.2.2.2.2.2.2.2.2) (fun n s hI hk => hs n s.1 s.2.1 s.2.2.1 s.2.2.2.1 s.2.2.2.2.1 s.2.2.2.2.2.1 s.2.2.2.2.2.2.1 s.2.2.2.2.2.2.2.1 s.2.2.2.2.2.2.2.2.1 s.2.2.2.2.2.2.2.2.2.1 s.2.2.2.2.2.2.2.2.2.2.1 s.2.2.2.2.2.2.2.2.2.2.2.1 s.2.2.2.2.2.2.2.2.2.2.2.2.1 s.2.2.2.2.2.2.2.2.2.2.2.2.2 hI (fun b1 b2 b3 b4 b5 b6 b7 b8 b9 b10 b11 b12 b13 b14 h9 hm => hk (b1, b2, b3, b4, b5, b6, b7, b8, b9, b10, b11, b12, b13, b14) h9 hm)) (a1, a2, a3, a4, a5, a6, a7, a8, a9, a10, a11, a12, a13, a14) h
theorem lp15 {A1 A2 A3 A4 A5 A6 A7 A8 A9 A10 A11 A12 A13 A14 A15 : Type} (W : Nat → A1 → A2 → A3 → A4 → A5 → A6 → A7 → A8 → A9 → A10 → A11 → A12 → A13 → A14 → A15 → Prop) (I : A1 → A2 → A3 → A4 → A5 → A6 → A7 → A8 → A9 → A10 → A11 → A12 → A13 → A14 → A15 → Prop) (μ : A1 → A2 → A3 → A4 → A5 → A6 → A7 → A8 → A9 → A10 → A11 → A12 → A13 → A14 → A15 → Nat) (hs : ∀ (n : Nat) (a1 : A1) (a2 : A2) (a3 : A3) (a4 : A4) (a5 : A5) (a6 : A6) (a7 : A7) (a8 : A8) (a9 : A9) (a10 : A10) (a11 : A11) (a12 : A12) (a13 : A13) (a14 : A14) (a15 : A15), I a1 a2 a3 a4 a5 a6 a7 a8 a9 a10 a11 a12 a13 a14 a15 → (∀ (b1 : A1) (b2 : A2) (b3 : A3) (b4 : A4) (b5 : A5) (b6 : A6) (b7 : A7) (b8 : A8) (b9 : A9) (b10 : A10) (b11 : A11) (b12 : A12) (b13 : A13) (b14 : A14) (b15 : A15), I b1 b2 b3 b4 b5 b6 b7 b8 b9 b10 b11 b12 b13 b14 b15 → μ b1 b2 b3 b4 b5 b6 b7 b8 b9 b10 b11 b12 b13 b14 b15 < μ a1 a2 a3 a4 a5 a6 a7 a8 a9 a10 a11 a12 a13 a14 a15 → W n b1 b2 b3 b4 b5 b6 b7 b8 b9 b10 b11 b12 b13 b14 b15) → W (n + 1) a1 a2 a3 a4 a5 a6 a7 a8 a9 a10 a11 a12 a13 a14 a15) (a1 : A1) (a2 : A2) (a3 : A3) (a4 : A4) (a5 : A5) (a6 : A6) (a7 : A7) (a8 : A8) (a9 : A9) (a10 : A10) (a11 : A11) (a12 : A12) (a13 : A13) (a14 : A14) (a15 : A15) (h : I a1 a2 a3 a4 a5 a6 a7 a8 a9 a10 a11 a12 a13 a14 a15) : ∃ n, W n a1 a2 a3 a4 a5 a6 a7 a8 a9 a10 a11 a12 a13 a14 a15 :=
  loop_m (σ := A1 × A2 × A3 × A4 × A5 × A6 × A7 × A8 × A9 × A10 × A11 × A12 × A13 × A14 × A15) (fun n s => W n s.1 s.2.1 s.2.2.1 s.2.2.2.1 s.2.2.2.2.1 s.2.2.2.2.2.1 s.2.2.2.2.2.2.1 s.2.2.2.2.2.2.2.1 s.2.2.2.2.2.2.2.2.1 s.2.2.2.2.2.2.2.2.2.1 s.2.2.2.2.2.2.2.2.2.2.1 s.2.2.2.2.2.2.2.2.2.2.2.1 s.2.2.2.2.2.2.2.2.2.2.2.2.1 s.2.2.2.2.2.2.2.2.2.2.2.2.2.1 s.2.2.2.2.2.2.2.2.2.2.2.2.2.2) (fun s => I s.1 s.2.1 s.2.2.1 s.2.2.2.1 s.2.2.2.2.1 s.2.2.2.2.2.1 s.2.2.2.2.2.2.1 s.2.2.2.2.2.2.2.1 s.2.2.2.2.2.2.2.2.1 s.2.2.2.2.2.2.2.2.2.1 s.2.2.2.2.2.2.2.2.2.2.1 s.2.2.2.2.2.2.2.2.2.2.2.1 s.2.2.2.2.2.2.2.2.2.2.2.2.1 s.2.2.2.2.2.2.2.2.2.2.2.2.2.1 s.2.2.2.2.2.2.2.2.2.2.2.2.2.2) (fun s => μ s.1 s.2.1 s.2.2.1 s.2.2.2.1 s.2.2.2.2.1 s.2.2.2.2.2.1 s.2.2.2.2.2.2.1 s.2.2.2.2.2.2.2.1 s.2.2.2.2.2.2.2.2.1 s.2.2.2.2.2.2.2.2.2.1 s.2.2.2.2.2.2.2.2.2.2.1 s.2.2.2.2.2.2.2.2.2.2.2.1 s.2.2.2.2.2.2.2.2.2.2.2.2.1 s.2.2.2.2.2.2.2.2.2.2.2.2.2.1 s.2.2.2.2.2.2.2.2.2.2.2.2.2.2) (fun n s hI hk => hs n s.1 s.2.1 s.2.2.1 s.2.2.2.1 s.2.2.2.2.1 s.2.2.2.2.2.1 s.2.2.2.2.2.2.1 s.2.2.2.2.2.2.2.1 s.2.2.2.2.2.2.2.2.1 s.2.2.2.2.2.2.2.2.2.1 s.2.2.2.2.2.2.2.2.2.2.1 s.2.2.2.2.2.2.2.2.2.2.2.1 s.2.2.2.2.2.2.2.2.2.2.2.2.1 s.2.2.2.2.2.2.2.2.2.2.2.2.2.1 s.2.2.2.2.2.2.2.2.2.2.2.2.2.2 hI (fun b1 b2 b3 b4 b5 b6 b7 b8 b9 b10 b11 b12 b13 b14 b15 h9 hm => hk (b1, b2, b3, b4, b5, b6, b7, b8, b9, b10, b11, b12, b13, b14, b15) h9 hm)) (a1, a2, a3, a4, a5, a6, a7, a8, a9, a10, a11, a12, a13, a14, a15) h
theorem lp16 {A1 A2 A3 A4 A5 A6 A7 A8 A9 A10 A11 A12 A13 A14 A15 A16 : Type} (W : Nat → A1 → A2 → A3 → A4 → A5 → A6 → A7 → A8 → A9 → A10 → A11 → A12 → A13 → A14 → A15 → A16 → Prop) (I : A1 → A2 → A3 → A4 → A5 → A6 → A7 → A8 → A9 → A10 → A11 → A12 → A13 → A14 → A15 → A16 → Prop) (μ : A1 → A2 → A3 → A4 → A5 → A6 → A7 → A8 → A9 → A10 → A11 → A12 → A13 → A14 → A15 → A16 → Nat) (hs : ∀ (n : Nat) (a1 : A1) (a2 : A2) (a3 : A3) (a4 : A4) (a5 : A5) (a6 : A6) (a7 : A7) (a8 : A8) (a9 : A9) (a10 : A10) (a11 : A11) (a12 : A12) (a13 : A13) (a14 : A14) (a15 : A15) (a16 : A16), I a1 a2 a3 a4 a5 a6 a7 a8 a9 a10 a11 a12 a13 a14 a15 a16 → (∀ (b1 : A1) (b2 : A2) (b3 : A3) (b4 : A4) (b5 : A5) (b6 : A6) (b7 : A7) (b8 : A8) (b9 : A9) (b10 : A10) (b11 : A11) (b12 : A12) (b13 : A13) (b14 : A14) (b15 : A15) (b16 : A16), I b1 b2 b3 b4 b5 b6 b7 b8 b9 b10 b11 b12 b13 b14 b15 b16 → μ b1 b2 b3 b4 b5 b6 b7 b8 b9 b10 b11 b12 b13 b14 b15 b16 < μ a1 a2 a3 a4 a5 a6 a7 a8 a9 a10 a11 a12 a13 a14 a15 a16 → W n b1 b2 b3 b4 b5 b6 b7 b8 b9 b10 b11 b12 b13 b14 b15 b16) → W (n + 1) a1 a2 a3 a4 a5 a6 a7 a8 a9 a10 a11 a12 a13 a14 a15 a16) (a1 : A1) (a2 : A2) (a3 : A3) (a4 : A4) (a5 : A5) (a6 : A6) (a7 : A7) (a8 : A8) (a9 : A9) (a10 : A10) (a11 : A11) (a12 : A12) (a13 : A13) (a14 : A14) (a15 : A15) (a16 : A16) (h : I a1 a2 a3 a4 a5 a6 a7 a8 a9 a10 a11 a12 a13 a14 a15 a16) : ∃ n, W n a1 a2 a3 a4 a5 a6 a7 a8 a9 a10 a11 a12 a13 a14 a15 a16 :=
  loop_m (σ := A1 × A2 × A3 × A4 × A5 × A6 × A7 × A8 × A9 × A10 × A11 × A12 × A13 × A14 × A15 × A16) (fun n s => W n s.1 s.2.1 s.2.2.1 s.2.2.2.1 s.2.2.2.2.1 s.2.2.2.2.2.1 s.2.2.2.2.2.2.1 s.2.2.2.2.2.2.2.1 s.2.2.2.2.2.2.2.2.1 s.2.2.2.2.2.2.2.2.2.1 s.2.2.2.2.2.2.2.2.2.2.1 s.2.2.2.2.2.2.2.2.2.2.2.1 s.2.2.2.2.2.2.2.2.2.2.2.2.1 s.2.2.2.2.2.2.2.2.2.2.2.2.2.1 s.2.2.2.2.2.2.2.2.2.2.2.2.2.2.1 s.2.2.2.2.2.2.2.2.2.2.2.2.2.2.2) (fun s => I s.1 s.2.1 s.2.2.1 s.2.2.2.1 s.2.2.2.2.1 s.2.2.2.2.2.1 s.2.2.2.2.2.2.1 s.2.2.2.2.2.2.2.1 s.2.2.2.2.2.2.2.2.1 s.2.2.2.2.2.2.2.2.2.1 s.2.2.2.2.2.2.2.2.2.2.1 s.2.2.2.2.2.2.2.2.2.2.2.1 s.2.2.2.2.2.2.2.2.2.2.2.2.1 s.2.2.2.2.2.2.2.2.2.2.2.2.2.1 s.2.2.2.2.2.2.2.2.2.2.2.2.2.2.1 s.2.2.2.2.2.2.2.2.2.2.2.2.2.2.2) (fun s => μ s.1 s.2.1 s.2.2.1 s.2.2.2.1 s.2.2.2.2.1 s.2.2.2.2.2.1 s.2.2.2.2.2.2.1 s.2.2.2.2.2.2.2.1 s.2.2.2.2.2.2.2.2.1 s.2.2.2.2.2.2.2.2.2.1 s.2.2.2.2.2.2.2.2.2.2.1 s.2.2.2.2.2.2.2.2.2.2.2.1 s.2.2.2.2.2.2.2.2.2.2.2.2.1 s.2.2.2.2.2.2.2.2.2.2.2.2.2.1 s.2.2.2.2.2.2.2.2.2.2.2.2.2.2.1 s.2.2.2.2.2.2.2.2.2.2.2.2.2.2.2) (fun n s hI hk => hs n s.1 s.2.1 s.2.2.1 s.2.2.2.1 s.2.2.2.2.1 s.2.2.2.2.2.1 s.2.2.2.2.2.2.1 s.2.2.2.2.2.2.2.1 s.2.2.2.2.2.2.2.2.1 s.2.2.2.2.2.2.2.2.2.1 s.2.2.2.2.2.2.2.2.2.2.1 s.2.2.2.2.2.2.2.2.2.2.2.1 s.2.2.2.2.2.2.2.2.2.2.2.2.1 s.2.2.2.2.2.2.2.2.2.2.2.2.2.1 s.2.2.2.2.2.2.2.2.2.2.2.2.2.2.1 s.2.2.2.2.2.2.2.2.2.2.2.2.2.2.2 hI (fun b1 b2 b3 b4 b5 b6 b7 b8 b9 b10 b11 b12 b13 b14 b15 b16 h9 hm => hk (b1, b2, b3, b4, b5, b6, b7, b8, b9, b10, b11, b12, b13, b14, b15, b16) h9 hm)) (a1, a2, a3, a4, a5, a6, a7, a8, a9, a10, a11, a12, a13, a14, a15, a16) h
theorem pk_least (P : Nat → Prop) (h : ∃ k, P k) : ∃ k, P k ∧ ∀ j, j < k → ¬ P j := by
  obtain ⟨k, hk⟩ := h
  induction k using Nat.strongRecOn with
  | ind k ih =>
    by_cases e : ∃ j, j < k ∧ P j
    · obtain ⟨j, hj, pj⟩ := e
      exact ih j hj pj
    · exact ⟨k, hk, fun j hj pj => e ⟨j, hj, pj⟩⟩
theorem rp1 {ρ A1 : Type} (W : Nat → (ρ → Prop) → A1 → Prop) (ok : A1 → Prop) (μ : A1 → Nat) (val : A1 → ρ)
    (hs : ∀ (d : Nat) (post : ρ → Prop) (a1 : A1), ok a1 → post (val a1) → (∀ (post' : ρ → Prop) (b1 : A1), ok b1 → μ b1 < μ a1 → post' (val b1) → W d post' b1) → W (d + 1) post a1) :
    ∀ (d : Nat) (post : ρ → Prop) (a1 : A1), ok a1 → μ a1 < d → post (val a1) → W d post a1 := by
  intro d
  induction d with
  | zero => intro post a1 _ h; omega
  | succ d ih =>
    intro post a1 ho hm hp
    exact hs d post a1 ho hp (fun post' b1 ho' hm' hp' => ih post' b1 ho' (by omega) hp')
theorem rp2 {ρ A1 A2 : Type} (W : Nat → (ρ → Prop) → A1 → A2 → Prop) (ok : A1 → A2 → Prop) (μ : A1 → A2 → Nat) (val : A1 → A2 → ρ)
    (hs : ∀ (d : Nat) (post : ρ → Prop) (a1 : A1) (a2 : A2), ok a1 a2 → post (val a1 a2) → (∀ (post' : ρ → Prop) (b1 : A1) (b2 : A2), ok b1 b2 → μ b1 b2 < μ a1 a2 → post' (val b1 b2) → W d post' b1 b2) → W (d + 1) post a1 a2) :
    ∀ (d : Nat) (post : ρ → Prop) (a1 : A1) (a2 : A2), ok a1 a2 → μ a1 a2 < d → post (val a1 a2) → W d post a1 a2 := by
  intro d
  induction d with
  | zero => intro post a1 a2 _ h; omega
  | succ d ih =>
    intro post a1 a2 ho hm hp
    exact hs d post a1 a2 ho hp (fun post' b1 b2 ho' hm' hp' => ih post' b1 b2 ho' (by omega) hp')
theorem rp3 {ρ A1 A2 A3 : Type} (W : Nat → (ρ → Prop) → A1 → A2 → A3 → Prop) (ok : A1 → A2 → A3 → Prop) (μ : A1 → A2 → A3 → Nat) (val : A1 → A2 → A3 → ρ)
    (hs : ∀ (d : Nat) (post : ρ → Prop) (a1 : A1) (a2 : A2) (a3 : A3), ok a1 a2 a3 → post (val a1 a2 a3) → (∀ (post' : ρ → Prop) (b1 : A1) (b2 : A2) (b3 : A3), ok b1 b2 b3 → μ b1 b2 b3 < μ a1 a2 a3 → post' (val b1 b2 b3) → W d post' b1 b2 b3) → W (d + 1) post a1 a2 a3) :
    ∀ (d : Nat) (post : ρ → Prop) (a1 : A1) (a2 : A2) (a3 : A3), ok a1 a2 a3 → μ a1 a2 a3 < d → post (val a1 a2 a3) → W d post a1 a2 a3 := by
  intro d
  induction d with
  | zero => intro post a1 a2 a3 _ h; omega
  | succ d ih =>
    intro post a1 a2 a3 ho hm hp
    exact hs d post a1 a2 a3 ho hp (fun post' b1 b2 b3 ho' hm' hp' => ih post' b1 b2 b3 ho' (by omega) hp')
theorem rp4 {ρ A1 A2 A3 A4 : Type} (W : Nat → (ρ → Prop) → A1 → A2 → A3 → A4 → Prop) (ok : A1 → A2 → A3 → A4 → Prop) (μ : A1 → A2 → A3 → A4 → Nat) (val : A1 → A2 → A3 → A4 → ρ)
    (hs : ∀ (d : Nat) (post : ρ → Prop) (a1 : A1) (a2 : A2) (a3 : A3) (a4 : A4), ok a1 a2 a3 a4 → post (val a1 a2 a3 a4) → (∀ (post' : ρ → Prop) (b1 : A1) (b2 : A2) (b3 : A3) (b4 : A4), ok b1 b2 b3 b4 → μ b1 b2 b3 b4 < μ a1 a2 a3 a4 → post' (val b1 b2 b3 b4) → W d post' b1 b2 b3 b4) → W (d + 1) post a1 a2 a3 a4) :
    ∀ (d : Nat) (post : ρ → Prop) (a1 : A1) (a2 : A2) (a3 : A3) (a4 : A4), ok a1 a2 a3 a4 → μ a1 a2 a3 a4 < d → post (val a1 a2 a3 a4) → W d post a1 a2 a3 a4 := by
  intro d
  induction d with
  | zero => intro post a1 a2 a3 a4 _ h; omega
  | succ d ih =>
    intro post a1 a2 a3 a4 ho hm hp
    exact hs d post a1 a2 a3 a4 ho hp (fun post' b1 b2 b3 b4 ho' hm' hp' => ih post' b1 b2 b3 b4 ho' (by omega) hp')
theorem rp5 {ρ A1 A2 A3 A4 A5 : Type} (W : Nat → (ρ → Prop) → A1 → A2 → A3 → A4 → A5 → Prop) (ok : A1 → A2 → A3 → A4 → A5 → Prop) (μ : A1 → A2 → A3 → A4 → A5 → Nat) (val : A1 → A2 → A3 → A4 → A5 → ρ)
    (hs : ∀ (d : Nat) (post : ρ → Prop) (a1 : A1) (a2 : A2) (a3 : A3) (a4 : A4) (a5 : A5), ok a1 a2 a3 a4 a5 → post (val a1 a2 a3 a4 a5) → (∀ (post' : ρ → Prop) (b1 : A1) (b2 : A2) (b3 : A3) (b4 : A4) (b5 : A5), ok b1 b2 b3 b4 b5 → μ b1 b2 b3 b4 b5 < μ a1 a2 a3 a4 a5 → post' (val b1 b2 b3 b4 b5) → W d post' b1 b2 b3 b4 b5) → W (d + 1) post a1 a2 a3 a4 a5) :
    ∀ (d : Nat) (post : ρ → Prop) (a1 : A1) (a2 : A2) (a3 : A3) (a4 : A4) (a5 : A5), ok a1 a2 a3 a4 a5 → μ a1 a2 a3 a4 a5 < d → post (val a1 a2 a3 a4 a5) → W d post a1 a2 a3 a4 a5 := by
  intro d
  induction d with
  | zero => intro post a1 a2 a3 a4 a5 _ h; omega
  | succ d ih =>
    intro post a1 a2 a3 a4 a5 ho hm hp
    exact hs d post a1 a2 a3 a4 a5 ho hp (fun post' b1 b2 b3 b4 b5 ho' hm' hp' => ih post' b1 b2 b3 b4 b5 ho' (by omega) hp')
theorem rp6 {ρ A1 A2 A3 A4 A5 A6 : Type} (W : Nat → (ρ → Prop) → A1 → A2 → A3 → A4 → A5 → A6 → Prop) (ok : A1 → A2 → A3 → A4 → A5 → A6 → Prop) (μ : A1 → A2 → A3 → A4 → A5 → A6 → Nat) (val : A1 → A2 → A3 → A4 → A5 → A6 → ρ)
    (hs : ∀ (d : Nat) (post : ρ → Prop) (a1 : A1) (a2 : A2) (a3 : A3) (a4 : A4) (a5 : A5) (a6 : A6), ok a1 a2 a3 a4 a5 a6 → post (val a1 a2 a3 a4 a5 a6) → (∀ (post' : ρ → Prop) (b1 : A1) (b2 : A2) (b3 : A3) (b4 : A4) (b5 : A5) (b6 : A6), ok b1 b2 b3 b4 b5 b6 → μ b1 b2 b3 b4 b5 b6 < μ a1 a2 a3 a4 a5 a6 → post' (val b1 b2 b3 b4 b5 b6) → W d post' b1 b2 b3 b4 b5 b6) → W (d + 1) post a1 a2 a3 a4 a5 a6) :
    ∀ (d : Nat) (post : ρ → Prop) (a1 : A1) (a2 : A2) (a3 : A3) (a4 : A4) (a5 : A5) (a6 : A6), ok a1 a2 a3 a4 a5 a6 → μ a1 a2 a3 a4 a5 a6 < d → post (val a1 a2 a3 a4 a5 a6) → W d post a1 a2 a3 a4 a5 a6 := by
  intro d
  induction d with
  | zero => intro post a1 a2 a3 a4 a5 a6 _ h; omega
  | succ d ih =>
    intro post a1 a2 a3 a4 a5 a6 ho hm hp
    exact hs d post a1 a2 a3 a4 a5 a6 ho hp (fun post' b1 b2 b3 b4 b5 b6 ho' hm' hp' => ih post' b1 b2 b3 b4 b5 b6 ho' (by omega) hp')
theorem rec_p {σ ρ : Type} (W : Nat → (ρ → Prop) → σ → Prop) (ok : σ → Prop) (μ : σ → Nat) (val : σ → ρ)
    (hs : ∀ d s post, ok s → post (val s) → (∀ s' post', ok s' → μ s' < μ s → post' (val s') → W d post' s') → W (d + 1) post s) :
    ∀ d s post, ok s → μ s < d → post (val s) → W d post s := by
  intro d
  induction d with
  | zero => intro s post _ h; omega
  | succ d ih =>
    intro s post ho hm hp
    exact hs d s post ho hp (fun s' post' ho' hm' hp' => ih s' post' ho' (by omega) hp')
theorem rec_q {σ ρ : Type} (W : Nat → (ρ → Prop) → σ → Prop) (ok : σ → Prop) (μ : σ → Nat) (Q : σ → ρ → Prop)
    (hs : ∀ d s post, ok s → (∀ r, Q s r → post r) → (∀ s' post', ok s' → μ s' < μ s → (∀ r, Q s' r → post' r) → W d post' s') → W (d + 1) post s) :
    ∀ d s post, ok s → μ s < d → (∀ r, Q s r → post r) → W d post s := by
  intro d
  induction d with
  | zero => intro s post _ h; omega
  | succ d ih =>
    intro s post ho hm hp
    exact hs d s post ho hp (fun s' post' ho' hm' hp' => ih s' post' ho' (by omega) hp')
def bx_sum (f : Nat → Int32) : Nat → Int32
  | 0 => 0
  | n + 1 => bx_sum f n + f n
theorem ek_u {A : Prop} {B : Nat → Prop} {k N : Nat} (hk : k < N) (h : B k) : (some k = none → A) ∧ (∀ y : Nat, some k = some y → (y < N ∧ B y)) :=
  ⟨fun z => absurd z (Option.some_ne_none k), fun _ e => (by cases e; exact ⟨hk, h⟩)⟩
theorem ek_nu {A : Prop} {B : Nat → Prop} (h : A) : ((none : Option Nat) = none → A) ∧ (∀ y : Nat, (none : Option Nat) = some y → B y) :=
  ⟨fun _ => h, fun _ e => (by cases e)⟩
theorem ek_if {c d A B : Prop} (e : c ↔ d) (f : d → A) (g : ¬ d → B) : (c → A) ∧ (¬ c → B) :=
  ⟨fun z => f (e.mp z), fun z => g (fun y => z (e.mpr y))⟩
theorem ek_v {α : Sort _} {P : α → Prop} {a b : α} (e : a = b) (h : P b) : P a := e ▸ h
theorem co_some {x : Option Nat} {A : Prop} {B : Nat → Prop} (i : Nat) (h : B i) (hx : x = some i := by rfl) : (x = none → A) ∧ (∀ y : Nat, x = some y → B y) := by
  subst hx
  exact ⟨fun e => (nomatch e), fun y e => Option.some.inj e ▸ h⟩
theorem co_none {x : Option Nat} {A : Prop} {B : Nat → Prop} (h : A) (hx : x = none := by rfl) : (x = none → A) ∧ (∀ y : Nat, x = some y → B y) := by
  subst hx
  exact ⟨fun _ => h, fun y e => (nomatch e)⟩
theorem co_any {x : Option Nat} {A : Prop} {B : Nat → Prop} (hn : x = none → A) (hs : ∀ i : Nat, x = some i → B i) : (x = none → A) ∧ (∀ y : Nat, x = some y → B y) := ⟨hn, hs⟩
theorem co_2 {P : Nat → Prop} (h0 : P 0) (h1 : P 1) {i : Nat} (hi : i < 2) : P i :=
  match i, hi with
  | 0, _ => h0
  | 1, _ => h1
theorem co_3 {P : Nat → Prop} (h0 : P 0) (h1 : P 1) (h2 : P 2) {i : Nat} (hi : i < 3) : P i :=
  match i, hi with
  | 0, _ => h0
  | 1, _ => h1
  | 2, _ => h2
theorem co_4 {P : Nat → Prop} (h0 : P 0) (h1 : P 1) (h2 : P 2) (h3 : P 3) {i : Nat} (hi : i < 4) : P i :=
  match i, hi with
  | 0, _ => h0
  | 1, _ => h1
  | 2, _ => h2
  | 3, _ => h3
theorem co_dec {N : Nat} {P : Nat → Prop} [DecidablePred P] (h : (List.range N).all (fun i => decide (P i)) = true) {i : Nat} (hi : i < N) : P i := by
  have := List.all_eq_true.mp h i (List.mem_range.mpr hi)
  exact of_decide_eq_true this
theorem co_tab {α : Type} {l : List α} {d : α} {P : α → Prop} (h : ∀ a, a ∈ l → P a) {i : Nat} (hi : i < l.length) : P (l.getD i d) := by
  rw [List.getD_eq_getElem?_getD, List.getElem?_eq_getElem hi]
  exact h _ (List.getElem_mem hi)
theorem pk_mu {x : Int32} {L : Nat} (h0 : ¬ x < 0) (h : ¬ nI L ≤ x) (hL : L < 2 ^ 31) : ∃ j : Nat, j < L ∧ x = nI j ∧ x + 1 = nI (j + 1) ∧ x.toNatClampNeg = j ∧ L - (x + 1).toNatClampNeg < L - x.toNatClampNeg := by
  obtain ⟨j, hj, rfl⟩ := nI_of h0
  have hl : j < L := Nat.not_le.mp fun q => h (nI_le q hj)
  refine ⟨j, hl, rfl, nI_1 j, nI_clamp hj, ?_⟩
  rw [nI_1, nI_clamp (by omega), nI_clamp hj]
  omega
theorem op_s {α : Type} {r : Option α} {A : Prop} {B : α → Prop} {y : α} (h : r = some y) (b : B y) : (r = none → A) ∧ ∀ z, r = some z → B z :=
  ⟨fun e => (by rw [h] at e; cases e), fun z e => (by rw [h] at e; cases e; exact b)⟩
def l_holds {α : Type} (a : Nat → Option Nat) (LP : List Nat) (p : Nat → α) (c : Nat) (b : Nat → α) : Prop :=
  ∀ j, j < c → ∃ y, a j = some y ∧ y ∈ LP ∧ p y = b j
theorem l_holds_0 {α : Type} {a : Nat → Option Nat} {LP : List Nat} {p b : Nat → α} : l_holds a LP p 0 b := fun j h => absurd h (Nat.not_lt_zero j)
theorem l_in_new (LP : List Nat) (q : Nat) : q ∈ LP ++ [q] := List.mem_append.mpr (Or.inr (List.mem_singleton.mpr rfl))
def l_sum (b : Nat → Int32) : Nat → Int32
  | 0 => 0
  | k + 1 => l_sum b k + b k
theorem sb_shr0 (x : Int32) : x >>> ((0 : Int32) &&& 31) = x := by
  rw [show ((0 : Int32) &&& 31) = 0 by decide]
  simp
theorem sb_shl0 (x : Int32) : x <<< ((0 : Int32) &&& 31) = x := by
  rw [show ((0 : Int32) &&& 31) = 0 by decide]
  simp
theorem sb_cl0 : (0 : Int32).toNatClampNeg = 0 := by decide
theorem sb_m1 {p : Nat} (h : 0 < p) : nI p + (-1) = nI (p - 1) := by
  obtain ⟨q, rfl⟩ : ∃ q, p = q + 1 := ⟨p - 1, by omega⟩
  exact pk_m1 q
def sb_b (c : Nat) : Int32 := (nI c).toInt8.toInt32
theorem sb_byte : ∀ c, c < 256 → sb_b c &&& 255 = nI c ∧ ((nI c).toUInt32 % 65536).toInt32 = nI c ∧ nI c ≤ 255 := by decide +kernel
def sb_Fit (a : Nat → Int32) : Prop := ∀ j, fits .byte (.int (a j)) = true
def sb_Lat (t : Nat → Nat) (n : Nat) (a : Nat → Int32) : Prop := ∀ j, j < n → t j < 256 ∧ a j = sb_b (t j)
theorem sb_fitB (c : Nat) : fits .byte (.int (sb_b c)) = true := pk_fb _
theorem sb_fit0 : sb_Fit (fun _ => 0) := fun _ => by
  show fits .byte (.int 0) = true
  decide
theorem sb_fitU {a : Nat → Int32} {k : Nat} {x : Int32} (h : sb_Fit a) (hx : fits .byte (.int x) = true) : sb_Fit (upd a k x) := by
  intro j
  by_cases e : j = k
  · subst e
    rw [pk_us]
    exact hx
  · rw [pk_un e]
    exact h j
def sb_cat (t : Nat → Nat) (n : Nat) (s : Nat → Nat) : Nat → Nat := fun j => if j < n then t j else s (j - n)
theorem sb_cat_lo {t s : Nat → Nat} {n j : Nat} (h : j < n) : sb_cat t n s j = t j := if_pos h
theorem sb_cat_hi {t s : Nat → Nat} {n j : Nat} : sb_cat t n s (n + j) = s j := by
  show (if n + j < n then t (n + j) else s (n + j - n)) = s j
  rw [if_neg (by omega), Nat.add_sub_cancel_left]
theorem sb_latPut {t s : Nat → Nat} {n w : Nat} {a a' : Nat → Int32} (h : sb_Lat t n a) (hk : ∀ j, j < n → a' j = a j) (hs : ∀ i, i < w → s i < 256 ∧ a' (n + i) = sb_b (s i)) : sb_Lat (sb_cat t n s) (n + w) a' := by
  intro j hj
  by_cases e : j < n
  · rw [sb_cat_lo e, hk j e]
    exact h j e
  · obtain ⟨i, rfl⟩ : ∃ i, j = n + i := ⟨j - n, by omega⟩
    rw [sb_cat_hi]
    exact hs i (by omega)
theorem sb_latKeep {t : Nat → Nat} {n : Nat} {a a' : Nat → Int32} (h : sb_Lat t n a) (hk : ∀ j, j < n → a' j = a j) : sb_Lat t n a' := fun j hj => by
  rw [hk j hj]
  exact h j hj
def sb_cap (q m : Nat) : Nat := if q ≤ m then m else if 2 * m + 2 < q then q else 2 * m + 2
def sb_Room (q m mc ms : Nat) : Prop := q ≤ m ∨ (1 ≤ mc ∧ sb_cap q m ≤ ms ∧ sb_cap q m ≤ 65536)
theorem sb_cap_ge (q m : Nat) : q ≤ sb_cap q m := by
  unfold sb_cap
  split
  · omega
  · split <;> omega
theorem sb_cap_gem (q m : Nat) : m ≤ sb_cap q m := by
  unfold sb_cap
  split
  · omega
  · split <;> omega
theorem sb_cap_le {q m mc ms : Nat} (hm : m ≤ 65536) (hr : sb_Room q m mc ms) : sb_cap q m ≤ 65536 := by
  rcases hr with h | h
  · rw [sb_cap, if_pos h]
    exact hm
  · exact h.2.2
theorem sb_at {P : Int32 → Prop} {x y : Int32} (e : x = y) (h : P y) : P x := e ▸ h
def sb_dg (w : Nat) : Nat := if w < 10 then 1 else if w < 100 then 2 else if w < 1000 then 3 else if w < 10000 then 4 else if w < 100000 then 5 else if w < 1000000 then 6 else if w < 10000000 then 7 else if w < 100000000 then 8 else if w < 1000000000 then 9 else 10
def sb_dec (v : Nat) : Nat → Nat := fun i => 48 + v / 10 ^ (sb_dg v - 1 - i) % 10
theorem sb_dg_in (w : Nat) : 1 ≤ sb_dg w ∧ sb_dg w ≤ 10 := by
  unfold sb_dg
  constructor <;> (repeat' split) <;> omega
theorem sb_dg100 {w : Nat} (h : 100 ≤ w) (hw : w < 2 ^ 31) : sb_dg w = sb_dg (w / 100) + 2 := by
  rw [sb_dg, sb_dg, if_neg (show ¬ w < 10 by omega), if_neg (show ¬ w < 100 by omega)]
  by_cases h3 : w < 1000
  · rw [if_pos h3, if_pos (show w / 100 < 10 by omega)]
  rw [if_neg h3, if_neg (show ¬ w / 100 < 10 by omega)]
  by_cases h4 : w < 10000
  · rw [if_pos h4, if_pos (show w / 100 < 100 by omega)]
  rw [if_neg h4, if_neg (show ¬ w / 100 < 100 by omega)]
  by_cases h5 : w < 100000
  · rw [if_pos h5, if_pos (show w / 100 < 1000 by omega)]
  rw [if_neg h5, if_neg (show ¬ w / 100 < 1000 by omega)]
  by_cases h6 : w < 1000000
  · rw [if_pos h6, if_pos (show w / 100 < 10000 by omega)]
  rw [if_neg h6, if_neg (show ¬ w / 100 < 10000 by omega)]
  by_cases h7 : w < 10000000
  · rw [if_pos h7, if_pos (show w / 100 < 100000 by omega)]
  rw [if_neg h7, if_neg (show ¬ w / 100 < 100000 by omega)]
  by_cases h8 : w < 100000000
  · rw [if_pos h8, if_pos (show w / 100 < 1000000 by omega)]
  rw [if_neg h8, if_neg (show ¬ w / 100 < 1000000 by omega)]
  by_cases h9 : w < 1000000000
  · rw [if_pos h9, if_pos (show w / 100 < 10000000 by omega)]
  rw [if_neg h9, if_neg (show ¬ w / 100 < 10000000 by omega)]
  rw [if_pos (show w / 100 < 100000000 by omega)]
theorem sb_negT {w : Nat} (h : w < 2 ^ 31) : (-nI w).toInt = -(w : Int) := by
  rw [Int32.toInt_neg, nI_toInt h]
  exact Int.bmod_eq_of_le (by omega) (by omega)
theorem sb_nle {a b : Nat} (ha : a < 2 ^ 31) (hb : b < 2 ^ 31) : -nI a ≤ -nI b ↔ b ≤ a := by
  rw [Int32.le_iff_toInt_le, sb_negT ha, sb_negT hb]
  omega
theorem sb_nlt {a b : Nat} (ha : a < 2 ^ 31) (hb : b < 2 ^ 31) : -nI a < -nI b ↔ b < a := by
  rw [Int32.lt_iff_toInt_lt, sb_negT ha, sb_negT hb]
  omega
theorem sb_cmp {A B : Prop} {x : Int32} (v c : Nat) (f : c ≤ v → A) (g : v < c → B) (hv : v < 2 ^ 31) (hx : x = -nI c := by rfl) (hc : c < 2 ^ 31 := by omega) : (-nI v ≤ x → A) ∧ (¬ -nI v ≤ x → B) := by
  subst hx
  rw [sb_nle hv hc]
  exact ⟨f, fun z => g (by omega)⟩
theorem sb_ndiv {w : Nat} (hw : w < 2 ^ 31) : (-nI w) / 100 = -nI (w / 100) := by
  apply Int32.toInt_inj.mp
  have h100 : (100 : Int32).toInt = 100 := by decide
  rw [Int32.toInt_div, sb_negT hw, h100, sb_negT (by omega), Int.neg_tdiv, Int.tdiv_eq_ediv_of_nonneg (by omega), Int.bmod_eq_of_le (by omega) (by omega)]
  omega
theorem sb_nrem {w : Nat} (hw : w < 2 ^ 31) : (-nI (w / 100)) * 100 - (-nI w) = nI (w % 100) := by
  have h := pk_rem (a := w) (d := 100) hw (by decide) (by decide)
  rw [pk_div hw (by decide) (by decide)] at h
  rw [← h]
  show (-nI (w / 100)) * nI 100 - (-nI w) = nI w - nI (w / 100) * nI 100
  rw [Int32.neg_mul, Int32.sub_neg, Int32.add_comm, ← Int32.sub_eq_add_neg]
end
section
/-! the words of a program: heights, open repeats, validity -/
def wd_k (K : Nat → Int32) (i : Nat) : Nat := (K i).toNatClampNeg
def wd_h (c h : Nat) : Nat := if c ≤ 1 then h + 1 else if c = 2 then h else if c = 12 then h else if c = 10 then h - 2 else h - 1
def wd_n (c d : Nat) : Nat := if c = 11 then d + 1 else if c = 12 then d - 1 else d
def wd_H (K : Nat → Int32) : Nat → Nat
  | 0 => 0
  | i + 1 => wd_h (wd_k K i) (wd_H K i)
def wd_N (K : Nat → Int32) : Nat → Nat
  | 0 => 0
  | i + 1 => wd_n (wd_k K i) (wd_N K i)
def wd_bad (c : Nat) (a : Int32) : Prop := ((c = 0 ∨ c = 9) ∧ (a < 0 ∨ ¬ a ≤ 5)) ∨ (c = 1 ∧ (a < -1000 ∨ ¬ a ≤ 1000))
def wd_fit (c h : Nat) : Prop := (c = 2 → 1 ≤ h) ∧ (3 ≤ c → c ≤ 8 → 2 ≤ h) ∧ (c = 9 ∨ c = 11 → h = 1) ∧ (c = 10 → h = 2) ∧ (c = 12 → h = 0)
def wd_ok (c : Nat) (a : Int32) (h d : Nat) : Prop :=
  c ≤ 12 ∧ ((c = 0 ∨ c = 9) → ∃ j, j < 6 ∧ a = nI j) ∧ (c ≤ 1 → h ≤ 4) ∧ wd_fit c h ∧ (c = 11 → d < 2) ∧ (c = 12 → 0 < d)
def wd_V (K A : Nat → Int32) (n : Nat) : Prop := n ≤ 40 ∧ ∀ i, i < n → K i = nI (wd_k K i) ∧ wd_ok (wd_k K i) (A i) (wd_H K i) (wd_N K i)
theorem wd_bnd {K A : Nat → Int32} {n : Nat} (V : wd_V K A n) : ∀ i, i ≤ n → wd_H K i ≤ 5 ∧ wd_N K i ≤ 2 := by
  intro i
  induction i with
  | zero => intro _; exact ⟨Nat.zero_le _, Nat.zero_le _⟩
  | succ i ih =>
    intro hi
    have h := ih (by omega)
    obtain ⟨_, h12, _, h4, hf, h11, _⟩ := V.2 i (by omega)
    show wd_h (wd_k K i) (wd_H K i) ≤ 5 ∧ wd_n (wd_k K i) (wd_N K i) ≤ 2
    generalize wd_k K i = c at *
    generalize wd_H K i = a at *
    generalize wd_N K i = b at *
    constructor
    · unfold wd_h
      split
      · have := h4 (by omega); omega
      · split
        · omega
        · split
          · omega
          · split <;> omega
    · unfold wd_n
      split
      · have := h11 (by omega); omega
      · split <;> omega
theorem wd_cong {K K' : Nat → Int32} : ∀ {i : Nat}, (∀ j, j < i → K' j = K j) → wd_H K' i = wd_H K i ∧ wd_N K' i = wd_N K i
  | 0, _ => ⟨rfl, rfl⟩
  | i + 1, h => by
    have ih := wd_cong (K := K) (K' := K') (i := i) (fun j hj => h j (by omega))
    have e : wd_k K' i = wd_k K i := by unfold wd_k; rw [h i (by omega)]
    simp only [wd_H, wd_N]
    rw [e, ih.1, ih.2]
    exact ⟨rfl, rfl⟩
theorem wd_pre {K A : Nat → Int32} {n m : Nat} (V : wd_V K A n) (h : m ≤ n) : wd_V K A m := ⟨Nat.le_trans h V.1, fun i hi => V.2 i (by omega)⟩
theorem wd_app {K A : Nat → Int32} {n c : Nat} {a : Int32} (V : wd_V K A n) (hn : n < 40) (h : wd_ok c a (wd_H K n) (wd_N K n)) : wd_V (upd K n (nI c)) (upd A n a) (n + 1) := by
  have hc : c ≤ 12 := h.1
  refine ⟨by omega, fun i hi => ?_⟩
  have q : ∀ j, j < i → upd K n (nI c) j = K j := fun j hj => pk_un (by omega)
  have e := wd_cong q
  rw [e.1, e.2]
  rcases Nat.lt_or_ge i n with z | z
  · have e1 : upd K n (nI c) i = K i := pk_un (by omega)
    have e2 : upd A n a i = A i := pk_un (by omega)
    have e3 : wd_k (upd K n (nI c)) i = wd_k K i := by unfold wd_k; rw [e1]
    rw [e3, e1, e2]
    exact V.2 i z
  · have : i = n := by omega
    subst this
    have e1 : upd K i (nI c) i = nI c := pk_us
    have e2 : upd A i a i = a := pk_us
    have e3 : wd_k (upd K i (nI c)) i = c := by unfold wd_k; rw [e1]; exact nI_clamp (by omega)
    rw [e3, e1, e2]
    exact ⟨rfl, h⟩
theorem wd_p2 (h : Nat) : nI (h + 2) + (-2) = nI h := by
  rw [← nI_add h 2, Int32.add_assoc, show nI 2 + (-2) = 0 from by decide +kernel, Int32.add_zero]
theorem wd_s1 {h : Nat} (p : 1 ≤ h) : nI h - 1 = nI (h - 1) := pk_sub (b := 1) p
theorem wd_s2 {h : Nat} (p : 2 ≤ h) : nI h - 2 = nI (h - 2) := pk_sub (b := 2) p
section
variable {f_count : Int32} {f_tall : Int32} {f_open : Int32} {f_bundle : Int32} {f_compiled : Int32} {f_cycle : Int32} {f_place : Int32} {f_loopDepth : Int32} {f_effects : Int32} {a_kinds : Nat → Int32} {a_arguments : Nat → Int32} {a_slotSource : Nat → Int32} {a_slotValue : Nat → Int32} {a_holder : Nat → Int32} {a_ready : Nat → Int32} {a_lastWrite : Nat → Int32} {a_lastTrigger : Nat → Int32} {a_filled : Nat → Int32} {a_source : Nat → Int32} {a_constant : Nat → Int32} {a_target : Nat → Int32} {a_extra : Nat → Int32} {a_opened : Nat → Int32} {a_registers : Nat → Int32} {a_cells : Nat → Int32} {a_operands : Nat → Int32} {a_triggers : Nat → Int32} {a_starts : Nat → Int32} {a_oldResult : Nat → Int32} {a_newResult : Nat → Int32} {a_resultAt : Nat → Int32} {a_loops : Nat → Int32} {a_setCounts : Nat → Int32} {a_putCounts : Nat → Int32} {post : SX → Prop} {J : Int32 → Int32 → Int32 → Prop} {i c d h : Nat}
theorem xw_m96 (hc : c ≤ 12) (hd : c = 12 → 0 < d) (H : J (nI (i + 1)) f_tall (nI (wd_n c d))) : wX_measure_96 post J (nI i) (nI c) f_count f_tall (nI d) f_bundle f_compiled f_cycle f_place f_loopDepth f_effects a_kinds a_arguments a_slotSource a_slotValue a_holder a_ready a_lastWrite a_lastTrigger a_filled a_source a_constant a_target a_extra a_opened a_registers a_cells a_operands a_triggers a_starts a_oldResult a_newResult a_resultAt a_loops a_setCounts a_putCounts := by
  unfold wX_measure_96
  refine pk_eq c 11 (fun e => ?_) (fun e => ?_)
  · have q : wd_n c d = d + 1 := if_pos e
    rw [q] at H
    unfold wX_measure_112
    refine nm_r (e' := nI (d + 1)) (nI_1 d) ?_
    refine pk_eq c 12 (fun e => absurd e (by omega)) (fun _ => ?_)
    exact nm_r (e' := nI (d + 1)) (Int32.sub_zero _) (nm_r (e' := nI (i + 1)) (nI_1 i) H)
  · unfold wX_measure_112
    refine nm_r (e' := nI d) (Int32.add_zero _) ?_
    refine pk_eq c 12 (fun e2 => ?_) (fun e2 => ?_)
    · have q : wd_n c d = d - 1 := by unfold wd_n; rw [if_neg e, if_pos e2]
      rw [q] at H
      exact nm_r (e' := nI (d - 1)) (wd_s1 (hd e2)) (nm_r (e' := nI (i + 1)) (nI_1 i) H)
    · have q : wd_n c d = d := by unfold wd_n; rw [if_neg e, if_neg e2]
      rw [q] at H
      exact nm_r (e' := nI d) (Int32.sub_zero _) (nm_r (e' := nI (i + 1)) (nI_1 i) H)
theorem xw_m67 (hc : c ≤ 12) (hd : c = 12 → 0 < d) (hh : 1 ≤ h) (H : J (nI (i + 1)) (nI (h - 1)) (nI (wd_n c d))) : wX_measure_67 post J (nI i) (nI c) f_count (nI h) (nI d) f_bundle f_compiled f_cycle f_place f_loopDepth f_effects a_kinds a_arguments a_slotSource a_slotValue a_holder a_ready a_lastWrite a_lastTrigger a_filled a_source a_constant a_target a_extra a_opened a_registers a_cells a_operands a_triggers a_starts a_oldResult a_newResult a_resultAt a_loops a_setCounts a_putCounts := by
  unfold wX_measure_67
  exact nm_r (e' := nI (h - 1)) (wd_s1 hh) (xw_m96 hc hd H)
theorem xw_m61 (hc : c ≤ 12) (hd : c = 12 → 0 < d) (hf : wd_fit c h) (hr : c = 2 ∨ 10 ≤ c) (H : J (nI (i + 1)) (nI (wd_h c h)) (nI (wd_n c d))) : wX_measure_61 post J (nI i) (nI c) f_count (nI h) (nI d) f_bundle f_compiled f_cycle f_place f_loopDepth f_effects a_kinds a_arguments a_slotSource a_slotValue a_holder a_ready a_lastWrite a_lastTrigger a_filled a_source a_constant a_target a_extra a_opened a_registers a_cells a_operands a_triggers a_starts a_oldResult a_newResult a_resultAt a_loops a_setCounts a_putCounts := by
  unfold wX_measure_61
  unfold wd_fit at hf
  refine pk_eq c 11 (fun e => ?_) (fun e => pk_eq c 10 (fun e2 => ?_) (fun e2 => ?_))
  · have q : wd_h c h = h - 1 := by subst e; rfl
    rw [q] at H
    exact xw_m67 hc hd (by omega) H
  · have q : wd_h c h = h - 2 := by subst e2; rfl
    rw [q] at H
    exact nm_r (e' := nI (h - 2)) (wd_s2 (by omega)) (xw_m96 hc hd H)
  · have q : wd_h c h = h := by
      rcases hr with e3 | e3
      · subst e3; rfl
      · have : c = 12 := by omega
        subst this; rfl
    rw [q] at H
    exact xw_m96 hc hd H
theorem xw_meas {n : Nat} (V : wd_V a_kinds a_arguments n) (hp : post (nI n, nI (wd_H a_kinds n), nI (wd_N a_kinds n), f_bundle, f_compiled, f_cycle, f_place, f_loopDepth, f_effects, a_kinds, a_arguments, a_slotSource, a_slotValue, a_holder, a_ready, a_lastWrite, a_lastTrigger, a_filled, a_source, a_constant, a_target, a_extra, a_opened, a_registers, a_cells, a_operands, a_triggers, a_starts, a_oldResult, a_newResult, a_resultAt, a_loops, a_setCounts, a_putCounts)) : ∀ d i m, i + d = n → d < m → wX_measure_17 post (nI n) f_bundle f_compiled f_cycle f_place f_loopDepth f_effects a_kinds a_arguments a_slotSource a_slotValue a_holder a_ready a_lastWrite a_lastTrigger a_filled a_source a_constant a_target a_extra a_opened a_registers a_cells a_operands a_triggers a_starts a_oldResult a_newResult a_resultAt a_loops a_setCounts a_putCounts m (nI i) (nI (wd_H a_kinds i)) (nI (wd_N a_kinds i)) := by
  have hn := V.1
  intro d
  induction d with
  | zero =>
    intro i m hi hm
    obtain ⟨m, rfl⟩ : ∃ m', m = m' + 1 := ⟨m - 1, by omega⟩
    have : i = n := by omega
    subst this
    exact br_t (nI_le (Nat.le_refl _) (by omega)) hp
  | succ d ih =>
    intro i m hi hm
    obtain ⟨m, rfl⟩ : ∃ m', m = m' + 1 := ⟨m - 1, by omega⟩
    have IH := ih (i + 1) m (by omega) (by omega)
    obtain ⟨hk, h12, _, h4, hf, h11, hz⟩ := V.2 i (by omega)
    have IH' : wX_measure_17 post (nI n) f_bundle f_compiled f_cycle f_place f_loopDepth f_effects a_kinds a_arguments a_slotSource a_slotValue a_holder a_ready a_lastWrite a_lastTrigger a_filled a_source a_constant a_target a_extra a_opened a_registers a_cells a_operands a_triggers a_starts a_oldResult a_newResult a_resultAt a_loops a_setCounts a_putCounts m (nI (i + 1)) (nI (wd_h (wd_k a_kinds i) (wd_H a_kinds i))) (nI (wd_n (wd_k a_kinds i) (wd_N a_kinds i))) := IH
    clear IH ih
    refine br_f (nI_ge (by omega) (by omega)) ⟨vp_in_nI (by omega) (by omega), nm_r (e' := nI (wd_k a_kinds i)) (by rw [nI_clamp (by omega)]; exact hk) ?_⟩
    generalize wd_k a_kinds i = c at *
    generalize wd_H a_kinds i = h at *
    generalize wd_N a_kinds i = d at *
    refine pk_lt 1 c (fun a1 => pk_lt c 3 (fun a2 => ?_) (fun a2 => pk_le c 9 (fun a3 => ?_) (fun a3 => ?_))) (fun a1 => ?_)
    · exact xw_m61 h12 hz hf (by omega) IH'
    · have q : wd_h c h = h - 1 := by
        unfold wd_h
        rw [if_neg (by omega), if_neg (by omega), if_neg (by omega), if_neg (by omega)]
      rw [q] at IH'
      unfold wd_fit at hf
      exact xw_m67 h12 hz (by omega) IH'
    · exact xw_m61 h12 hz hf (by omega) IH'
    · have q : wd_h c h = h + 1 := if_pos (by omega)
      rw [q] at IH'
      exact nm_r (e' := nI (h + 1)) (nI_1 h) (xw_m96 h12 hz IH')
theorem xw_measure {n : Nat} (V : wd_V a_kinds a_arguments n) (hp : post (nI n, nI (wd_H a_kinds n), nI (wd_N a_kinds n), f_bundle, 0, f_cycle, f_place, f_loopDepth, f_effects, a_kinds, a_arguments, a_slotSource, a_slotValue, a_holder, a_ready, a_lastWrite, a_lastTrigger, a_filled, a_source, a_constant, a_target, a_extra, a_opened, a_registers, a_cells, a_operands, a_triggers, a_starts, a_oldResult, a_newResult, a_resultAt, a_loops, a_setCounts, a_putCounts)) : wpX_measure post (nI n, f_tall, f_open, f_bundle, f_compiled, f_cycle, f_place, f_loopDepth, f_effects, a_kinds, a_arguments, a_slotSource, a_slotValue, a_holder, a_ready, a_lastWrite, a_lastTrigger, a_filled, a_source, a_constant, a_target, a_extra, a_opened, a_registers, a_cells, a_operands, a_triggers, a_starts, a_oldResult, a_newResult, a_resultAt, a_loops, a_setCounts, a_putCounts) := by
  unfold wpX_measure
  exact ⟨n + 1, xw_meas V hp n 0 (n + 1) (by omega) (by omega)⟩
end
section
variable {g_count : Int32} {g_top : Int32} {g_open : Int32} {b_variable : Nat → Int32} {b_memory : Nat → Int32} {b_kind : Nat → Int32} {b_argument : Nat → Int32} {b_sets : Nat → Int32} {b_puts : Nat → Int32} {b_stack : Nat → Int32} {b_begin : Nat → Int32} {b_left : Nat → Int32} {post : Int32 → Prop} {i c d h n : Nat}
theorem yw_raise (h0 : c ≤ 1 → post 1) (h1 : c = 2 ∨ c = 12 → post 0) (h2 : c = 10 → post (-2)) (h3 : 3 ≤ c → c ≠ 12 → c ≠ 10 → post (-1)) (hc : c ≤ 12) : wpY_raise post (g_count, g_top, g_open, b_variable, b_memory, b_kind, b_argument, b_sets, b_puts, b_stack, b_begin, b_left) (nI c) := by
  unfold wpY_raise
  exact pk_eq c 0 (fun e => h0 (by omega)) (fun e0 => pk_eq c 1 (fun e => h0 (by omega)) (fun e1 => pk_eq c 2 (fun e => h1 (by omega)) (fun e2 => pk_eq c 12 (fun e => h1 (by omega)) (fun e3 => pk_eq c 10 (fun e => h2 e) (fun e4 => h3 (by omega) e3 e4)))))
theorem yw_high4 (V : wd_V b_kind b_argument n) (hp : post (nI (wd_H b_kind n))) : ∀ d i m, i + d = n → d < m → wY_high_4 post (nI n) g_top g_open b_variable b_memory b_kind b_argument b_sets b_puts b_stack b_begin b_left m (nI (wd_H b_kind i)) (nI i) := by
  have hn := V.1
  intro d
  induction d with
  | zero =>
    intro i m hi hm
    obtain ⟨m, rfl⟩ : ∃ m', m = m' + 1 := ⟨m - 1, by omega⟩
    have : i = n := by omega
    subst this
    exact br_t (nI_le (Nat.le_refl _) (by omega)) hp
  | succ d ih =>
    intro i m hi hm
    obtain ⟨m, rfl⟩ : ∃ m', m = m' + 1 := ⟨m - 1, by omega⟩
    have IH := ih (i + 1) m (by omega) (by omega)
    obtain ⟨hk, h12, _, h4, hf, h11, hz⟩ := V.2 i (by omega)
    have IH' : wY_high_4 post (nI n) g_top g_open b_variable b_memory b_kind b_argument b_sets b_puts b_stack b_begin b_left m (nI (wd_h (wd_k b_kind i) (wd_H b_kind i))) (nI (i + 1)) := IH
    clear IH ih
    have e : b_kind (nI i).toNatClampNeg = nI (wd_k b_kind i) := by rw [nI_clamp (by omega)]; exact hk
    refine br_f (nI_ge (by omega) (by omega)) (br_f (nI_ge (b := 40) (by omega) (by omega)) ⟨vp_in_nI (by omega) (by omega), ?_⟩)
    rw [e]
    generalize wd_k b_kind i = c at *
    generalize wd_H b_kind i = h at *
    unfold wd_fit at hf
    refine yw_raise (fun z => ?_) (fun z => ?_) (fun z => ?_) (fun z1 z2 z3 => ?_) h12
    · have q : wd_h c h = h + 1 := if_pos (by omega)
      rw [q] at IH'
      exact nm_r (e' := nI (h + 1)) (nI_1 h) (nm_r (e' := nI (i + 1)) (nI_1 i) IH')
    · have q : wd_h c h = h := by rcases z with z | z <;> subst z <;> rfl
      rw [q] at IH'
      exact nm_r (e' := nI h) (Int32.add_zero _) (nm_r (e' := nI (i + 1)) (nI_1 i) IH')
    · have q : wd_h c h = h - 2 := by subst z; rfl
      have h2 : h = 2 := by omega
      rw [q] at IH'
      exact nm_r (e' := nI (h - 2)) (by subst h2; exact wd_p2 0) (nm_r (e' := nI (i + 1)) (nI_1 i) IH')
    · have q : wd_h c h = h - 1 := by
        unfold wd_h
        rw [if_neg (by omega), if_neg (by omega), if_neg (by omega), if_neg (by omega)]
      rw [q] at IH'
      exact nm_r (e' := nI (h - 1)) (sb_m1 (by omega)) (nm_r (e' := nI (i + 1)) (nI_1 i) IH')
theorem yw_high (V : wd_V b_kind b_argument n) (hp : post (nI (wd_H b_kind n))) : wpY_high post (nI n, g_top, g_open, b_variable, b_memory, b_kind, b_argument, b_sets, b_puts, b_stack, b_begin, b_left) := by
  unfold wpY_high
  exact ⟨n + 1, yw_high4 V hp n 0 (n + 1) (by omega) (by omega)⟩
theorem yw_un4 (V : wd_V b_kind b_argument n) (hp : post (nI (wd_N b_kind n))) : ∀ d i m, i + d = n → d < m → wY_unended_4 post (nI n) g_top g_open b_variable b_memory b_kind b_argument b_sets b_puts b_stack b_begin b_left m (nI (wd_N b_kind i)) (nI i) := by
  have hn := V.1
  intro d
  induction d with
  | zero =>
    intro i m hi hm
    obtain ⟨m, rfl⟩ : ∃ m', m = m' + 1 := ⟨m - 1, by omega⟩
    have : i = n := by omega
    subst this
    exact br_t (nI_le (Nat.le_refl _) (by omega)) hp
  | succ d ih =>
    intro i m hi hm
    obtain ⟨m, rfl⟩ : ∃ m', m = m' + 1 := ⟨m - 1, by omega⟩
    have IH := ih (i + 1) m (by omega) (by omega)
    obtain ⟨hk, h12, _, h4, hf, h11, hz⟩ := V.2 i (by omega)
    have IH' : wY_unended_4 post (nI n) g_top g_open b_variable b_memory b_kind b_argument b_sets b_puts b_stack b_begin b_left m (nI (wd_n (wd_k b_kind i) (wd_N b_kind i))) (nI (i + 1)) := IH
    clear IH ih
    have e : b_kind (nI i).toNatClampNeg = nI (wd_k b_kind i) := by rw [nI_clamp (by omega)]; exact hk
    have hi40 : vp_in (nI i) 40 := vp_in_nI (by omega) (by omega)
    refine br_f (nI_ge (by omega) (by omega)) (br_f (nI_ge (b := 40) (by omega) (by omega)) ⟨hi40, ?_⟩)
    unfold wY_unended_32
    rw [e]
    generalize wd_k b_kind i = c at *
    generalize wd_N b_kind i = d at *
    refine pk_eq c 11 (fun z => ?_) (fun z => ⟨hi40, pk_eq c 12 (fun z2 => ?_) (fun z2 => ?_)⟩)
    · have q : wd_n c d = d + 1 := if_pos z
      rw [q] at IH'
      exact nm_r (e' := nI (d + 1)) (nI_1 d) ⟨hi40, pk_eq c 12 (fun z2 => absurd z2 (by omega)) (fun _ => nm_r (e' := nI (i + 1)) (nI_1 i) IH')⟩
    · have q : wd_n c d = d - 1 := by unfold wd_n; rw [if_neg z, if_pos z2]
      rw [q] at IH'
      exact nm_r (e' := nI (d - 1)) (sb_m1 (hz z2)) (nm_r (e' := nI (i + 1)) (nI_1 i) IH')
    · have q : wd_n c d = d := by unfold wd_n; rw [if_neg z, if_neg z2]
      rw [q] at IH'
      exact nm_r (e' := nI (i + 1)) (nI_1 i) IH'
theorem yw_unended (V : wd_V b_kind b_argument n) (hp : post (nI (wd_N b_kind n))) : wpY_unended post (nI n, g_top, g_open, b_variable, b_memory, b_kind, b_argument, b_sets, b_puts, b_stack, b_begin, b_left) := by
  unfold wpY_unended
  exact ⟨n + 1, yw_un4 V hp n 0 (n + 1) (by omega) (by omega)⟩
theorem yw_whole (V : wd_V b_kind b_argument n) (h1 : wd_H b_kind n = 0 → wd_N b_kind n = 0 → post 1) (h0 : ¬ (wd_H b_kind n = 0 ∧ wd_N b_kind n = 0) → post 0) : wpY_whole post (nI n, g_top, g_open, b_variable, b_memory, b_kind, b_argument, b_sets, b_puts, b_stack, b_begin, b_left) := by
  have hb := wd_bnd V n (Nat.le_refl _)
  unfold wpY_whole
  refine yw_high V ?_
  refine pk_eq (wd_H b_kind n) 0 (fun e => ?_) (fun e => h0 (fun z => e z.1))
  refine yw_unended V ?_
  exact pk_eq (wd_N b_kind n) 0 (fun e2 => h1 e e2) (fun e2 => h0 (fun z => e2 z.2))
theorem yw_badArg {a : Int32} (hc : c ≤ 12) (h1 : wd_bad c a → post 1) (h0 : ¬ wd_bad c a → post 0) : wpY_badArgument post (g_count, g_top, g_open, b_variable, b_memory, b_kind, b_argument, b_sets, b_puts, b_stack, b_begin, b_left) (nI c) a := by
  unfold wd_bad at h1 h0
  unfold wpY_badArgument
  have Z : (c = 0 ∨ c = 9) → wY_badArgument_10 post a g_count g_top g_open b_variable b_memory b_kind b_argument b_sets b_puts b_stack b_begin b_left := by
    intro z
    unfold wY_badArgument_10
    refine br_c (fun l => h1 (Or.inl ⟨z, Or.inl l⟩)) (fun l => br_c (fun l2 => h0 ?_) (fun l2 => h1 (Or.inl ⟨z, Or.inr l2⟩)))
    rintro (⟨_, q | q⟩ | ⟨q, _⟩)
    · exact l q
    · exact q l2
    · omega
  refine pk_eq c 0 (fun e => Z (Or.inl e)) (fun e => pk_eq c 9 (fun e2 => Z (Or.inr e2)) (fun e2 => pk_eq c 1 (fun e3 => ?_) (fun e3 => h0 ?_)))
  · refine br_c (fun l => h1 (Or.inr ⟨e3, Or.inl l⟩)) (fun l => br_c (fun l2 => h0 ?_) (fun l2 => h1 (Or.inr ⟨e3, Or.inr l2⟩)))
    rintro (⟨q, _⟩ | ⟨_, q | q⟩)
    · omega
    · exact l q
    · exact q l2
  · rintro (⟨q, _⟩ | ⟨q, _⟩) <;> omega
theorem yw_badH (hc : c ≤ 12) (hh : h ≤ 5) (h1 : ¬ wd_fit c h → post 1) (h0 : wd_fit c h → post 0) : wpY_badHeight post (g_count, g_top, g_open, b_variable, b_memory, b_kind, b_argument, b_sets, b_puts, b_stack, b_begin, b_left) (nI c) (nI h) := by
  unfold wd_fit at h1 h0
  unfold wpY_badHeight
  have Z : ¬ c = 2 → (c < 3 ∨ 8 < c) → wY_badHeight_38 post (nI c) (nI h) g_count g_top g_open b_variable b_memory b_kind b_argument b_sets b_puts b_stack b_begin b_left := by
    intro z1 z2
    unfold wY_badHeight_38 wY_badHeight_50
    exact pk_eq c 9 (fun e => pk_eq h 1 (fun l => h0 (by omega)) (fun l => h1 (by omega))) (fun e => pk_eq c 11 (fun e2 => pk_eq h 1 (fun l => h0 (by omega)) (fun l => h1 (by omega))) (fun e2 => pk_eq c 10 (fun e3 => pk_eq h 2 (fun l => h0 (by omega)) (fun l => h1 (by omega))) (fun e3 => pk_eq c 12 (fun e4 => pk_eq h 0 (fun l => h0 (by omega)) (fun l => h1 (by omega))) (fun e4 => h0 (by omega)))))
  exact pk_eq c 2 (fun e => pk_le 1 h (fun l => h0 (by omega)) (fun l => h1 (by omega))) (fun e => pk_lt c 3 (fun l => Z e (by omega)) (fun l => pk_lt 8 c (fun l2 => Z e (by omega)) (fun l2 => pk_le 2 h (fun l3 => h0 (by omega)) (fun l3 => h1 (by omega)))))
end
section
variable {f_count : Int32} {f_tall : Int32} {f_open : Int32} {f_bundle : Int32} {f_compiled : Int32} {f_cycle : Int32} {f_place : Int32} {f_loopDepth : Int32} {f_effects : Int32} {a_kinds : Nat → Int32} {a_arguments : Nat → Int32} {a_slotSource : Nat → Int32} {a_slotValue : Nat → Int32} {a_holder : Nat → Int32} {a_ready : Nat → Int32} {a_lastWrite : Nat → Int32} {a_lastTrigger : Nat → Int32} {a_filled : Nat → Int32} {a_source : Nat → Int32} {a_constant : Nat → Int32} {a_target : Nat → Int32} {a_extra : Nat → Int32} {a_opened : Nat → Int32} {a_registers : Nat → Int32} {a_cells : Nat → Int32} {a_operands : Nat → Int32} {a_triggers : Nat → Int32} {a_starts : Nat → Int32} {a_oldResult : Nat → Int32} {a_newResult : Nat → Int32} {a_resultAt : Nat → Int32} {a_loops : Nat → Int32} {a_setCounts : Nat → Int32} {a_putCounts : Nat → Int32} {post : Int32 → Prop} {c h : Nat}
theorem xw_fits (hc : c ≤ 12) (hh : h ≤ 5) (h1 : wd_fit c h → post 1) (h0 : ¬ wd_fit c h → post 0) : wpX_fits post (f_count, nI h, f_open, f_bundle, f_compiled, f_cycle, f_place, f_loopDepth, f_effects, a_kinds, a_arguments, a_slotSource, a_slotValue, a_holder, a_ready, a_lastWrite, a_lastTrigger, a_filled, a_source, a_constant, a_target, a_extra, a_opened, a_registers, a_cells, a_operands, a_triggers, a_starts, a_oldResult, a_newResult, a_resultAt, a_loops, a_setCounts, a_putCounts) (nI c) := by
  unfold wd_fit at h1 h0
  unfold wpX_fits
  have Z : ¬ c = 2 → (c < 3 ∨ 8 < c) → wX_fits_44 post (nI c) f_count (nI h) f_open f_bundle f_compiled f_cycle f_place f_loopDepth f_effects a_kinds a_arguments a_slotSource a_slotValue a_holder a_ready a_lastWrite a_lastTrigger a_filled a_source a_constant a_target a_extra a_opened a_registers a_cells a_operands a_triggers a_starts a_oldResult a_newResult a_resultAt a_loops a_setCounts a_putCounts := by
    intro z1 z2
    unfold wX_fits_44 wX_fits_56
    exact pk_eq c 9 (fun e => pk_eq h 1 (fun l => h1 (by omega)) (fun l => h0 (by omega))) (fun e => pk_eq c 11 (fun e2 => pk_eq h 1 (fun l => h1 (by omega)) (fun l => h0 (by omega))) (fun e2 => pk_eq c 10 (fun e3 => pk_eq h 2 (fun l => h1 (by omega)) (fun l => h0 (by omega))) (fun e3 => pk_eq c 12 (fun e4 => pk_eq h 0 (fun l => h1 (by omega)) (fun l => h0 (by omega))) (fun e4 => h1 (by omega)))))
  exact pk_eq c 2 (fun e => pk_lt h 1 (fun l => h0 (by omega)) (fun l => h1 (by omega))) (fun e => pk_lt c 3 (fun l => Z e (by omega)) (fun l => pk_lt 8 c (fun l2 => Z e (by omega)) (fun l2 => pk_lt h 2 (fun l3 => h0 (by omega)) (fun l3 => h1 (by omega)))))
end
end
section
theorem wd_okI {n c : Nat} {a : Int32} {h d : Nat} (hc : c ≤ 12) (hh : h ≤ 5) (hd : d ≤ 2) (nb : ¬ wd_bad c a) (n4 : ¬ (c ≤ 1 ∧ h = 5)) (hf : wd_fit c h) (n6 : ¬ ((c = 11 ∧ d = 2) ∨ (c = 12 ∧ d = 0))) : wd_ok c a h d := by
  refine ⟨hc, fun z => ?_, fun z => by omega, hf, fun z => by omega, fun z => by omega⟩
  unfold wd_bad at nb
  have l1 : ¬ a < 0 := fun q => nb (Or.inl ⟨z, Or.inl q⟩)
  have l2 : a ≤ 5 := Classical.byContradiction fun q => nb (Or.inl ⟨z, Or.inr q⟩)
  obtain ⟨j, hj, e⟩ := nI_of2 (x := a) (M := 5) (n := 5) (by decide) l1 l2
  exact ⟨j, by omega, e⟩
section
variable {f_count : Int32} {f_tall : Int32} {f_open : Int32} {f_bundle : Int32} {f_compiled : Int32} {f_cycle : Int32} {f_place : Int32} {f_loopDepth : Int32} {f_effects : Int32} {a_kinds : Nat → Int32} {a_arguments : Nat → Int32} {a_slotSource : Nat → Int32} {a_slotValue : Nat → Int32} {a_holder : Nat → Int32} {a_ready : Nat → Int32} {a_lastWrite : Nat → Int32} {a_lastTrigger : Nat → Int32} {a_filled : Nat → Int32} {a_source : Nat → Int32} {a_constant : Nat → Int32} {a_target : Nat → Int32} {a_extra : Nat → Int32} {a_opened : Nat → Int32} {a_registers : Nat → Int32} {a_cells : Nat → Int32} {a_operands : Nat → Int32} {a_triggers : Nat → Int32} {a_starts : Nat → Int32} {a_oldResult : Nat → Int32} {a_newResult : Nat → Int32} {a_resultAt : Nat → Int32} {a_loops : Nat → Int32} {a_setCounts : Nat → Int32} {a_putCounts : Nat → Int32} {post : Int32 → SX → Prop} {c d h n : Nat} {a : Int32}
theorem xw_word135 (hc : c ≤ 12) (hn : n < 40) (V : wd_V (upd a_kinds n (nI c)) (upd a_arguments n a) (n + 1)) (hp : post (nI (n + 1)) (nI (n + 1), nI (wd_H (upd a_kinds n (nI c)) (n + 1)), nI (wd_N (upd a_kinds n (nI c)) (n + 1)), f_bundle, 0, f_cycle, f_place, f_loopDepth, f_effects, upd a_kinds n (nI c), upd a_arguments n a, a_slotSource, a_slotValue, a_holder, a_ready, a_lastWrite, a_lastTrigger, a_filled, a_source, a_constant, a_target, a_extra, a_opened, a_registers, a_cells, a_operands, a_triggers, a_starts, a_oldResult, a_newResult, a_resultAt, a_loops, a_setCounts, a_putCounts)) : wX_word_135 post (nI c) a (nI n) f_tall f_open f_bundle f_compiled f_cycle f_place f_loopDepth f_effects a_kinds a_arguments a_slotSource a_slotValue a_holder a_ready a_lastWrite a_lastTrigger a_filled a_source a_constant a_target a_extra a_opened a_registers a_cells a_operands a_triggers a_starts a_oldResult a_newResult a_resultAt a_loops a_setCounts a_putCounts := by
  have hi : vp_in (nI n) 40 := vp_in_nI hn (by omega)
  have hcl : (nI n).toNatClampNeg = n := nI_clamp (by omega)
  unfold wX_word_135
  refine ⟨hi, nm_r (e' := upd a_kinds n (nI c)) (by rw [hcl]) ⟨hi, nm_r (e' := upd a_arguments n a) (by rw [hcl]) (nm_r (e' := nI (n + 1)) (nI_1 n) ?_)⟩⟩
  exact xw_measure V hp
theorem xw_word (hc : c ≤ 12) (hh : h ≤ 5) (hd : d ≤ 2) (hn : n ≤ 40)
    (h2 : wd_bad c a → post (-2) (nI n, nI h, nI d, f_bundle, f_compiled, f_cycle, f_place, f_loopDepth, f_effects, a_kinds, a_arguments, a_slotSource, a_slotValue, a_holder, a_ready, a_lastWrite, a_lastTrigger, a_filled, a_source, a_constant, a_target, a_extra, a_opened, a_registers, a_cells, a_operands, a_triggers, a_starts, a_oldResult, a_newResult, a_resultAt, a_loops, a_setCounts, a_putCounts))
    (h3 : ¬ wd_bad c a → n = 40 → post (-3) (nI n, nI h, nI d, f_bundle, f_compiled, f_cycle, f_place, f_loopDepth, f_effects, a_kinds, a_arguments, a_slotSource, a_slotValue, a_holder, a_ready, a_lastWrite, a_lastTrigger, a_filled, a_source, a_constant, a_target, a_extra, a_opened, a_registers, a_cells, a_operands, a_triggers, a_starts, a_oldResult, a_newResult, a_resultAt, a_loops, a_setCounts, a_putCounts))
    (h4 : ¬ wd_bad c a → n < 40 → (c ≤ 1 ∧ h = 5) → post (-4) (nI n, nI h, nI d, f_bundle, f_compiled, f_cycle, f_place, f_loopDepth, f_effects, a_kinds, a_arguments, a_slotSource, a_slotValue, a_holder, a_ready, a_lastWrite, a_lastTrigger, a_filled, a_source, a_constant, a_target, a_extra, a_opened, a_registers, a_cells, a_operands, a_triggers, a_starts, a_oldResult, a_newResult, a_resultAt, a_loops, a_setCounts, a_putCounts))
    (h5 : ¬ wd_bad c a → n < 40 → ¬ (c ≤ 1 ∧ h = 5) → ¬ wd_fit c h → post (-5) (nI n, nI h, nI d, f_bundle, f_compiled, f_cycle, f_place, f_loopDepth, f_effects, a_kinds, a_arguments, a_slotSource, a_slotValue, a_holder, a_ready, a_lastWrite, a_lastTrigger, a_filled, a_source, a_constant, a_target, a_extra, a_opened, a_registers, a_cells, a_operands, a_triggers, a_starts, a_oldResult, a_newResult, a_resultAt, a_loops, a_setCounts, a_putCounts))
    (h6 : ¬ wd_bad c a → n < 40 → ¬ (c ≤ 1 ∧ h = 5) → wd_fit c h → ((c = 11 ∧ d = 2) ∨ (c = 12 ∧ d = 0)) → post (-6) (nI n, nI h, nI d, f_bundle, f_compiled, f_cycle, f_place, f_loopDepth, f_effects, a_kinds, a_arguments, a_slotSource, a_slotValue, a_holder, a_ready, a_lastWrite, a_lastTrigger, a_filled, a_source, a_constant, a_target, a_extra, a_opened, a_registers, a_cells, a_operands, a_triggers, a_starts, a_oldResult, a_newResult, a_resultAt, a_loops, a_setCounts, a_putCounts))
    (h7 : ¬ wd_bad c a → n < 40 → ¬ (c ≤ 1 ∧ h = 5) → wd_fit c h → ¬ ((c = 11 ∧ d = 2) ∨ (c = 12 ∧ d = 0)) → wX_word_135 post (nI c) a (nI n) (nI h) (nI d) f_bundle f_compiled f_cycle f_place f_loopDepth f_effects a_kinds a_arguments a_slotSource a_slotValue a_holder a_ready a_lastWrite a_lastTrigger a_filled a_source a_constant a_target a_extra a_opened a_registers a_cells a_operands a_triggers a_starts a_oldResult a_newResult a_resultAt a_loops a_setCounts a_putCounts) :
    wpX_word post (nI n, nI h, nI d, f_bundle, f_compiled, f_cycle, f_place, f_loopDepth, f_effects, a_kinds, a_arguments, a_slotSource, a_slotValue, a_holder, a_ready, a_lastWrite, a_lastTrigger, a_filled, a_source, a_constant, a_target, a_extra, a_opened, a_registers, a_cells, a_operands, a_triggers, a_starts, a_oldResult, a_newResult, a_resultAt, a_loops, a_setCounts, a_putCounts) (nI c) a := by
  have X119 : ¬ wd_bad c a → n < 40 → ¬ (c ≤ 1 ∧ h = 5) → wd_fit c h → ¬ (c = 11 ∧ d = 2) → wX_word_119 post (nI c) a (nI n) (nI h) (nI d) f_bundle f_compiled f_cycle f_place f_loopDepth f_effects a_kinds a_arguments a_slotSource a_slotValue a_holder a_ready a_lastWrite a_lastTrigger a_filled a_source a_constant a_target a_extra a_opened a_registers a_cells a_operands a_triggers a_starts a_oldResult a_newResult a_resultAt a_loops a_setCounts a_putCounts := by
    intro z1 z2 z3 z4 z5
    unfold wX_word_119
    exact pk_eq c 12 (fun e => pk_eq d 0 (fun e2 => h6 z1 z2 z3 z4 (by omega)) (fun e2 => h7 z1 z2 z3 z4 (by omega))) (fun e => h7 z1 z2 z3 z4 (by omega))
  have X94 : ¬ wd_bad c a → n < 40 → ¬ (c ≤ 1 ∧ h = 5) → wX_word_94 post (nI c) a (nI n) (nI h) (nI d) f_bundle f_compiled f_cycle f_place f_loopDepth f_effects a_kinds a_arguments a_slotSource a_slotValue a_holder a_ready a_lastWrite a_lastTrigger a_filled a_source a_constant a_target a_extra a_opened a_registers a_cells a_operands a_triggers a_starts a_oldResult a_newResult a_resultAt a_loops a_setCounts a_putCounts := by
    intro z1 z2 z3
    unfold wX_word_94
    refine xw_fits hc hh (fun f => br_f (by decide) ?_) (fun f => br_t rfl (h5 z1 z2 z3 f))
    exact pk_eq c 11 (fun e => pk_eq d 2 (fun e2 => h6 z1 z2 z3 f (by omega)) (fun e2 => X119 z1 z2 z3 f (by omega))) (fun e => X119 z1 z2 z3 f (by omega))
  have X66 : ¬ wd_bad c a → wX_word_66 post (nI c) a (nI n) (nI h) (nI d) f_bundle f_compiled f_cycle f_place f_loopDepth f_effects a_kinds a_arguments a_slotSource a_slotValue a_holder a_ready a_lastWrite a_lastTrigger a_filled a_source a_constant a_target a_extra a_opened a_registers a_cells a_operands a_triggers a_starts a_oldResult a_newResult a_resultAt a_loops a_setCounts a_putCounts := by
    intro z1
    unfold wX_word_66
    exact pk_eq n 40 (fun e => h3 z1 e) (fun e => pk_lt 1 c (fun l => X94 z1 (by omega) (by omega)) (fun l => pk_eq h 5 (fun e2 => h4 z1 (by omega) (by omega)) (fun e2 => X94 z1 (by omega) (by omega))))
  have X44 : ¬ ((c = 0 ∨ c = 9) ∧ (a < 0 ∨ ¬ a ≤ 5)) → wX_word_44 post (nI c) a (nI n) (nI h) (nI d) f_bundle f_compiled f_cycle f_place f_loopDepth f_effects a_kinds a_arguments a_slotSource a_slotValue a_holder a_ready a_lastWrite a_lastTrigger a_filled a_source a_constant a_target a_extra a_opened a_registers a_cells a_operands a_triggers a_starts a_oldResult a_newResult a_resultAt a_loops a_setCounts a_putCounts := by
    intro z1
    unfold wX_word_44
    refine pk_eq c 1 (fun e => br_c (fun l => h2 (Or.inr ⟨e, Or.inl l⟩)) (fun l => br_c (fun l2 => X66 ?_) (fun l2 => h2 (Or.inr ⟨e, Or.inr l2⟩)))) (fun e => X66 ?_)
    · rintro (q | ⟨_, q | q⟩)
      · exact z1 q
      · exact l q
      · exact q l2
    · rintro (q | ⟨q, _⟩)
      · exact z1 q
      · exact e q
  have X27 : (c = 0 ∨ c = 9) → wX_word_27 post (nI c) a 1 (nI n) (nI h) (nI d) f_bundle f_compiled f_cycle f_place f_loopDepth f_effects a_kinds a_arguments a_slotSource a_slotValue a_holder a_ready a_lastWrite a_lastTrigger a_filled a_source a_constant a_target a_extra a_opened a_registers a_cells a_operands a_triggers a_starts a_oldResult a_newResult a_resultAt a_loops a_setCounts a_putCounts := by
    intro z
    unfold wX_word_27
    refine br_f (by decide) (br_c (fun l => h2 (Or.inl ⟨z, Or.inl l⟩)) (fun l => br_c (fun l2 => X44 ?_) (fun l2 => h2 (Or.inl ⟨z, Or.inr l2⟩))))
    rintro ⟨_, q | q⟩
    · exact l q
    · exact q l2
  have X270 : ¬ (c = 0 ∨ c = 9) → wX_word_27 post (nI c) a 0 (nI n) (nI h) (nI d) f_bundle f_compiled f_cycle f_place f_loopDepth f_effects a_kinds a_arguments a_slotSource a_slotValue a_holder a_ready a_lastWrite a_lastTrigger a_filled a_source a_constant a_target a_extra a_opened a_registers a_cells a_operands a_triggers a_starts a_oldResult a_newResult a_resultAt a_loops a_setCounts a_putCounts := by
    intro z
    unfold wX_word_27
    exact br_t rfl (X44 (fun q => z q.1))
  unfold wpX_word
  refine br_f (nI_pos (by omega)) (br_t (nI_le (b := 12) hc (by omega)) ?_)
  exact pk_eq c 0 (fun e => X27 (Or.inl e)) (fun e => pk_eq c 9 (fun e2 => X27 (Or.inr e2)) (fun e2 => X270 (by omega)))
end
section
variable {g_count : Int32} {g_top : Int32} {g_open : Int32} {b_variable : Nat → Int32} {b_memory : Nat → Int32} {b_kind : Nat → Int32} {b_argument : Nat → Int32} {b_sets : Nat → Int32} {b_puts : Nat → Int32} {b_stack : Nat → Int32} {b_begin : Nat → Int32} {b_left : Nat → Int32} {post : Int32 → SY → Prop} {c n : Nat} {a : Int32}
theorem yw_word (hc : c ≤ 12) (V : wd_V b_kind b_argument n)
    (h2 : wd_bad c a → post (-2) (nI n, g_top, g_open, b_variable, b_memory, b_kind, b_argument, b_sets, b_puts, b_stack, b_begin, b_left))
    (h3 : ¬ wd_bad c a → n = 40 → post (-3) (nI n, g_top, g_open, b_variable, b_memory, b_kind, b_argument, b_sets, b_puts, b_stack, b_begin, b_left))
    (h4 : ¬ wd_bad c a → n < 40 → (c ≤ 1 ∧ wd_H b_kind n = 5) → post (-4) (nI n, g_top, g_open, b_variable, b_memory, b_kind, b_argument, b_sets, b_puts, b_stack, b_begin, b_left))
    (h5 : ¬ wd_bad c a → n < 40 → ¬ (c ≤ 1 ∧ wd_H b_kind n = 5) → ¬ wd_fit c (wd_H b_kind n) → post (-5) (nI n, g_top, g_open, b_variable, b_memory, b_kind, b_argument, b_sets, b_puts, b_stack, b_begin, b_left))
    (h6 : ¬ wd_bad c a → n < 40 → ¬ (c ≤ 1 ∧ wd_H b_kind n = 5) → wd_fit c (wd_H b_kind n) → ((c = 11 ∧ wd_N b_kind n = 2) ∨ (c = 12 ∧ wd_N b_kind n = 0)) → post (-6) (nI n, g_top, g_open, b_variable, b_memory, b_kind, b_argument, b_sets, b_puts, b_stack, b_begin, b_left))
    (h7 : ¬ wd_bad c a → n < 40 → ¬ (c ≤ 1 ∧ wd_H b_kind n = 5) → wd_fit c (wd_H b_kind n) → ¬ ((c = 11 ∧ wd_N b_kind n = 2) ∨ (c = 12 ∧ wd_N b_kind n = 0)) → post (nI (n + 1)) (nI (n + 1), g_top, g_open, b_variable, b_memory, upd b_kind n (nI c), upd b_argument n a, b_sets, b_puts, b_stack, b_begin, b_left)) :
    wpY_word post (nI n, g_top, g_open, b_variable, b_memory, b_kind, b_argument, b_sets, b_puts, b_stack, b_begin, b_left) (nI c) a := by
  have hb := wd_bnd V n (Nat.le_refl _)
  have hn40 := V.1
  have Y102 : n < 40 → post (nI (n + 1)) (nI (n + 1), g_top, g_open, b_variable, b_memory, upd b_kind n (nI c), upd b_argument n a, b_sets, b_puts, b_stack, b_begin, b_left) → wY_word_102 post (nI c) a (nI n) g_top g_open b_variable b_memory b_kind b_argument b_sets b_puts b_stack b_begin b_left := by
    intro hn hp
    have hi : vp_in (nI n) 40 := vp_in_nI hn (by omega)
    have hcl : (nI n).toNatClampNeg = n := nI_clamp (by omega)
    unfold wY_word_102
    exact ⟨hi, nm_r (e' := upd b_kind n (nI c)) (by rw [hcl]) ⟨hi, nm_r (e' := upd b_argument n a) (by rw [hcl]) (nm_r (e' := nI (n + 1)) (nI_1 n) hp)⟩⟩
  have Y58 : ¬ wd_bad c a → n < 40 → ¬ (c ≤ 1 ∧ wd_H b_kind n = 5) → wY_word_58 post (nI c) a (nI (wd_H b_kind n)) (nI n) g_top g_open b_variable b_memory b_kind b_argument b_sets b_puts b_stack b_begin b_left := by
    intro z1 z2 z3
    unfold wY_word_58
    refine yw_badH hc hb.1 (fun f => br_f (by decide) (h5 z1 z2 z3 f)) (fun f => br_t rfl ?_)
    refine yw_unended V ?_
    generalize wd_N b_kind n = d at *
    have Y88 : ¬ (c = 11 ∧ d = 2) → wY_word_88 post (nI c) a (nI d) (nI n) g_top g_open b_variable b_memory b_kind b_argument b_sets b_puts b_stack b_begin b_left := by
      intro z5
      unfold wY_word_88
      exact pk_eq c 12 (fun e => pk_eq d 0 (fun e2 => h6 z1 z2 z3 f (by omega)) (fun e2 => Y102 z2 (h7 z1 z2 z3 f (by omega)))) (fun e => Y102 z2 (h7 z1 z2 z3 f (by omega)))
    exact pk_eq c 11 (fun e => pk_eq d 2 (fun e2 => h6 z1 z2 z3 f (by omega)) (fun e2 => Y88 (by omega))) (fun e => Y88 (by omega))
  unfold wpY_word
  refine br_f (nI_pos (by omega)) (br_t (nI_le (b := 12) hc (by omega)) ?_)
  refine yw_badArg hc (fun z => br_f (by decide) (h2 z)) (fun z => br_t rfl (pk_lt n 40 (fun l => ?_) (fun l => h3 z (by omega))))
  refine yw_high V ?_
  exact pk_eq (wd_H b_kind n) 5 (fun e => pk_eq c 0 (fun e2 => h4 z l (by omega)) (fun e2 => pk_eq c 1 (fun e3 => h4 z l (by omega)) (fun e3 => Y58 z l (by omega)))) (fun e => Y58 z l (by omega))
end
end
section
/-! the compiler in naturals: positions k = 2 * bundle + slot; fr the first position that is still free; lw, lt: one more than the last bundle that writes, triggers (0: none); hd: one more than the slot that a unit's result stands for -/
def cs_fu {α : Type} (f : Nat → α) (k : Nat) (x : α) : Nat → α := fun j => if j = k then x else f j
theorem cs_us {α : Type} {f : Nat → α} {k : Nat} {x : α} : cs_fu f k x k = x := if_pos rfl
theorem cs_un {α : Type} {f : Nat → α} {k j : Nat} {x : α} (h : j ≠ k) : cs_fu f k x j = f j := if_neg h
abbrev cs_T : Type := Nat × (Nat → Nat) × (Nat → Nat) × (Nat → Nat) × (Nat → Nat) × (Nat → Nat) × (Nat → Int32) × (Nat → Bool) × (Nat → Nat) × (Nat → Int32) × (Nat → Nat) × (Nat → Int32) × (Nat → Nat)
def cs_fr (c : cs_T) : Nat := c.1
def cs_lw (c : cs_T) : Nat → Nat := c.2.1
def cs_lt (c : cs_T) : Nat → Nat := c.2.2.1
def cs_rd (c : cs_T) : Nat → Nat := c.2.2.2.1
def cs_hd (c : cs_T) : Nat → Nat := c.2.2.2.2.1
def cs_ss (c : cs_T) : Nat → Nat := c.2.2.2.2.2.1
def cs_sv (c : cs_T) : Nat → Int32 := c.2.2.2.2.2.2.1
def cs_vd (c : cs_T) : Nat → Bool := c.2.2.2.2.2.2.2.1
def cs_sr (c : cs_T) : Nat → Nat := c.2.2.2.2.2.2.2.2.1
def cs_vl (c : cs_T) : Nat → Int32 := c.2.2.2.2.2.2.2.2.2.1
def cs_tg (c : cs_T) : Nat → Nat := c.2.2.2.2.2.2.2.2.2.2.1
def cs_ex (c : cs_T) : Nat → Int32 := c.2.2.2.2.2.2.2.2.2.2.2.1
def cs_op (c : cs_T) : Nat → Nat := c.2.2.2.2.2.2.2.2.2.2.2.2
def cs_con (c : cs_T) (f t : Nat) : Nat :=
  max (max (max (max (if f < 11 then cs_lw c f else 0) (if 16 ≤ f then cs_rd c (f - 16) else 0)) (if t < 11 then cs_lw c t else 0)) (if 20 ≤ t ∧ t < 28 then cs_lt c (t % 4) else 0)) (if t = 26 then cs_lt c 3 else 0)
def cs_k (c : cs_T) (f t : Nat) : Nat := max (cs_fr c) (2 * cs_con c f t)
def cs_pl (c : cs_T) (f : Nat) (v : Int32) (t : Nat) (e : Int32) : cs_T :=
  (cs_k c f t + 1, (if t < 11 then cs_fu (cs_lw c) t (cs_k c f t / 2 + 1) else cs_lw c), (if 24 ≤ t ∧ t < 28 then cs_fu (cs_lt c) (t - 24) (cs_k c f t / 2 + 1) else cs_lt c), cs_rd c, cs_hd c, cs_ss c, cs_sv c, cs_fu (cs_vd c) (cs_k c f t) true, cs_fu (cs_sr c) (cs_k c f t) f, cs_fu (cs_vl c) (cs_k c f t) v, cs_fu (cs_tg c) (cs_k c f t) t, cs_fu (cs_ex c) (cs_k c f t) e, cs_op c)
def cs_wHd (c : cs_T) (x : Nat → Nat) : cs_T := (cs_fr c, cs_lw c, cs_lt c, cs_rd c, x, cs_ss c, cs_sv c, cs_vd c, cs_sr c, cs_vl c, cs_tg c, cs_ex c, cs_op c)
def cs_wSs (c : cs_T) (x : Nat → Nat) : cs_T := (cs_fr c, cs_lw c, cs_lt c, cs_rd c, cs_hd c, x, cs_sv c, cs_vd c, cs_sr c, cs_vl c, cs_tg c, cs_ex c, cs_op c)
def cs_fsl (c : cs_T) (s t : Nat) (e : Int32) : cs_T :=
  cs_wHd (cs_pl c (cs_ss c s) (cs_sv c s) t e) (if 16 ≤ cs_ss c s then cs_fu (cs_hd c) (cs_ss c s - 16) 0 else cs_hd c)
def cs_sp (c : cs_T) (u : Nat) : cs_T :=
  if cs_hd c u = 0 then c else cs_wSs (cs_fsl c (cs_hd c u - 1) (6 + (cs_hd c u - 1)) 0) (cs_fu (cs_ss c) (cs_hd c u - 1) (6 + (cs_hd c u - 1)))
def cs_ip (c : cs_T) (s u dl : Nat) : cs_T := (cs_fr c, cs_lw c, cs_lt c, cs_fu (cs_rd c) u (cs_lt c u - 1 + dl), cs_fu (cs_hd c) u (s + 1), cs_fu (cs_ss c) s (16 + u), cs_sv c, cs_vd c, cs_sr c, cs_vl c, cs_tg c, cs_ex c, cs_op c)
def cs_ld (c : cs_T) (s : Nat) : cs_T := cs_ip (cs_fsl (if cs_hd c 2 = s + 1 then c else cs_sp c 2) s 26 0) s 2 2
def cs_c1 (c : cs_T) (x y u : Nat) : cs_T := if cs_hd c u = x + 1 ∨ cs_hd c u = y + 1 then c else cs_sp c u
def cs_cb (c : cs_T) (kd x y u dl : Nat) : cs_T := cs_ip (cs_fsl (cs_fsl (cs_c1 c x y u) x (20 + u) 0) y (24 + u) (nI kd)) x u dl
def cs_nb (c : cs_T) : cs_T := (2 * ((cs_fr c + 1) / 2), cs_lw c, cs_lt c, cs_rd c, cs_hd c, cs_ss c, cs_sv c, cs_vd c, cs_sr c, cs_vl c, cs_tg c, cs_ex c, cs_op c)
def cs_pt (c : cs_T) (first : Nat) : cs_T := (cs_fr c, cs_lw c, cs_lt c, cs_rd c, cs_hd c, cs_ss c, cs_sv c, cs_vd c, cs_sr c, cs_vl c, cs_tg c, (fun k => if k / 2 = first ∧ cs_vd c k = true ∧ cs_tg c k = 28 then nI (cs_fr c / 2) else cs_ex c k), cs_op c)
def cs_cl (c : cs_T) (first : Nat) : cs_T := cs_pt (cs_nb (cs_pl (cs_nb c) 15 0 29 (nI (first + 1)))) first
def cs_pu (c : cs_T) (h s : Nat) (v : Int32) : cs_T := (cs_fr c, cs_lw c, cs_lt c, cs_rd c, cs_hd c, cs_fu (cs_ss c) h s, cs_fu (cs_sv c) h v, cs_vd c, cs_sr c, cs_vl c, cs_tg c, cs_ex c, cs_op c)
def cs_wOp (c : cs_T) (x : Nat → Nat) : cs_T := (cs_fr c, cs_lw c, cs_lt c, cs_rd c, cs_hd c, cs_ss c, cs_sv c, cs_vd c, cs_sr c, cs_vl c, cs_tg c, cs_ex c, x)
def cs_rp (c : cs_T) (s d : Nat) : cs_T := cs_nb (cs_wOp (cs_fsl c s 28 0) (cs_fu (cs_op c) d ((cs_fr (cs_fsl c s 28 0) - 1) / 2)))
def cs_w (c : cs_T) (k : Nat) (a : Int32) (h d : Nat) : cs_T :=
  if k = 0 then cs_pu c h a.toNatClampNeg a
  else if k = 1 then cs_pu c h 15 a
  else if k = 2 then cs_ld c (h - 1)
  else if k = 5 then cs_cb c k (h - 2) (h - 1) 1 3
  else if k ≤ 8 then cs_cb c k (h - 2) (h - 1) 0 1
  else if k = 9 then cs_fsl c (h - 1) a.toNatClampNeg 0
  else if k = 10 then cs_fsl (cs_fsl c (h - 2) 23 0) (h - 1) 27 0
  else if k = 11 then cs_rp c (h - 1) d
  else cs_cl c (cs_op c (d - 1))
def cs_0 : cs_T := (0, fun _ => 0, fun _ => 0, fun _ => 0, fun _ => 0, fun _ => 0, fun _ => 0, fun _ => false, fun _ => 0, fun _ => 0, fun _ => 0, fun _ => 0, fun _ => 0)
def cs_C (K A : Nat → Int32) : Nat → cs_T
  | 0 => cs_0
  | i + 1 => cs_w (cs_C K A i) (wd_k K i) (A i) (wd_H K i) (wd_N K i)
/-! the invariants of the code -/
def cs_PC (t0 s1 t1 : Nat) : Prop := t0 < 28 ∧ (s1 < 11 → t0 ≠ s1) ∧ (24 ≤ t0 → t1 ≠ t0 ∧ t1 + 4 ≠ t0) ∧ ¬ (t0 = 27 ∧ t1 = 26)
def cs_S (s : Nat) : Prop := s < 11 ∨ s = 15 ∨ (16 ≤ s ∧ s < 19)
def cs_M (s t : Nat) (e : Int32) : Prop := cs_S s ∧ (t < 11 ∨ (20 ≤ t ∧ t < 30)) ∧ (24 ≤ t → t < 28 → e ≠ -1)
def cs_CB (c : cs_T) : Prop :=
  (∀ k, cs_vd c k = true → k < cs_fr c) ∧
  (∀ b, cs_fr c = 2 * b + 1 → cs_vd c (2 * b) = true) ∧
  (∀ b, cs_vd c (2 * b + 1) = true → cs_vd c (2 * b) = true) ∧
  (∀ k, cs_vd c k = true → cs_tg c k < 11 → k / 2 < cs_lw c (cs_tg c k)) ∧
  (∀ k, cs_vd c k = true → 24 ≤ cs_tg c k → cs_tg c k < 28 → k / 2 < cs_lt c (cs_tg c k - 24)) ∧
  (∀ b, cs_vd c (2 * b) = true → cs_vd c (2 * b + 1) = true → cs_PC (cs_tg c (2 * b)) (cs_sr c (2 * b + 1)) (cs_tg c (2 * b + 1))) ∧
  (∀ r, cs_lw c r ≤ (cs_fr c + 1) / 2) ∧ (∀ u, cs_lt c u ≤ (cs_fr c + 1) / 2) ∧ (∀ u, cs_rd c u ≤ (cs_fr c + 1) / 2 + 2) ∧
  (∀ k, cs_vd c k = true → cs_M (cs_sr c k) (cs_tg c k) (cs_ex c k))
def cs_NL (c : cs_T) : Prop := ∀ b, cs_fr c = 2 * b + 1 → cs_tg c (2 * b) < 28
def cs_CL (c : cs_T) (P : Nat → Prop) : Prop :=
  (∀ s, P s → s < 5 ∧ (cs_ss c s < 6 ∨ cs_ss c s = 6 + s ∨ cs_ss c s = 15 ∨ ∃ u, u < 3 ∧ cs_ss c s = 16 + u ∧ cs_hd c u = s + 1)) ∧
  (∀ u, u < 3 → cs_hd c u ≠ 0 → P (cs_hd c u - 1) ∧ cs_ss c (cs_hd c u - 1) = 16 + u)
theorem cs_conB {c : cs_T} (h : cs_CB c) (f t : Nat) : cs_con c f t ≤ (cs_fr c + 1) / 2 + 2 := by
  obtain ⟨_, _, _, _, _, _, h7, h8, h9, _⟩ := h
  have a1 := h7 f
  have a2 := h9 (f - 16)
  have a3 := h7 t
  have a4 := h8 (t % 4)
  have a5 := h8 3
  unfold cs_con
  generalize cs_lw c f = x1 at *
  generalize cs_rd c (f - 16) = x2 at *
  generalize cs_lw c t = x3 at *
  generalize cs_lt c (t % 4) = x4 at *
  generalize cs_lt c 3 = x5 at *
  refine Nat.max_le.mpr ⟨Nat.max_le.mpr ⟨Nat.max_le.mpr ⟨Nat.max_le.mpr ⟨?_, ?_⟩, ?_⟩, ?_⟩, ?_⟩ <;> split <;> omega
theorem cs_con1 {c : cs_T} {f t : Nat} (h : f < 11) : cs_lw c f ≤ cs_con c f t := by
  have e : (if f < 11 then cs_lw c f else 0) = cs_lw c f := if_pos h
  unfold cs_con
  rw [e]
  exact Nat.le_trans (Nat.le_trans (Nat.le_trans (Nat.le_max_left _ _) (Nat.le_max_left _ _)) (Nat.le_max_left _ _)) (Nat.le_max_left _ _)
theorem cs_con2 {c : cs_T} {f t : Nat} (h : 16 ≤ f) : cs_rd c (f - 16) ≤ cs_con c f t := by
  have e : (if 16 ≤ f then cs_rd c (f - 16) else 0) = cs_rd c (f - 16) := if_pos h
  unfold cs_con
  rw [e]
  exact Nat.le_trans (Nat.le_trans (Nat.le_trans (Nat.le_max_right _ _) (Nat.le_max_left _ _)) (Nat.le_max_left _ _)) (Nat.le_max_left _ _)
theorem cs_con4 {c : cs_T} {f t : Nat} (h : 20 ≤ t ∧ t < 28) : cs_lt c (t % 4) ≤ cs_con c f t := by
  have e : (if 20 ≤ t ∧ t < 28 then cs_lt c (t % 4) else 0) = cs_lt c (t % 4) := if_pos h
  unfold cs_con
  rw [e]
  exact Nat.le_trans (Nat.le_max_right _ _) (Nat.le_max_left _ _)
theorem cs_con5 {c : cs_T} {f t : Nat} (h : t = 26) : cs_lt c 3 ≤ cs_con c f t := by
  have e : (if t = 26 then cs_lt c 3 else 0) = cs_lt c 3 := if_pos h
  unfold cs_con
  rw [e]
  exact Nat.le_max_right _ _
theorem cs_kfr (c : cs_T) (f t : Nat) : cs_fr c ≤ cs_k c f t := Nat.le_max_left _ _
theorem cs_kcon (c : cs_T) (f t : Nat) : cs_con c f t ≤ cs_k c f t / 2 := by
  have : 2 * cs_con c f t ≤ cs_k c f t := Nat.le_max_right _ _
  omega
theorem cs_kodd {c : cs_T} {f t b : Nat} (h : cs_k c f t = 2 * b + 1) : cs_fr c = 2 * b + 1 := by
  unfold cs_k at h
  omega
theorem cs_kB {c : cs_T} (h : cs_CB c) (f t : Nat) : cs_k c f t ≤ 2 * ((cs_fr c + 1) / 2) + 4 := by
  have := cs_conB h f t
  unfold cs_k
  omega
theorem cs_CBpl {c : cs_T} {f t : Nat} {v e : Int32} (H : cs_CB c) (N : cs_NL c) (M : cs_M f t e) : cs_CB (cs_pl c f v t e) := by
  have hk := cs_kfr c f t
  have hc := cs_kcon c f t
  have hod := fun b => cs_kodd (c := c) (f := f) (t := t) (b := b)
  have q1 := fun h => cs_con1 (c := c) (f := f) (t := t) h
  have q4 := fun h => cs_con4 (c := c) (f := f) (t := t) h
  have q5 := fun h => cs_con5 (c := c) (f := f) (t := t) h
  obtain ⟨h1, h2, h3, h4, h5, h6, h7, h8, h9, h10⟩ := H
  unfold cs_NL at N
  unfold cs_CB cs_pl
  dsimp only [cs_fr, cs_vd, cs_tg, cs_sr, cs_ex, cs_lw, cs_lt, cs_rd] at *
  generalize cs_k c f t = k at *
  generalize cs_con c f t = m at *
  refine ⟨?_, ?_, ?_, ?_, ?_, ?_, ?_, ?_, ?_, ?_⟩
  · intro j hj
    by_cases z : j = k
    · omega
    · rw [cs_un z] at hj
      have := h1 j hj
      omega
  · intro b hb
    have : 2 * b = k := by omega
    rw [this]
    exact cs_us
  · intro b hb
    by_cases z : 2 * b + 1 = k
    · rw [cs_un (by omega)]
      exact h2 b (hod b z.symm)
    · rw [cs_un z] at hb
      by_cases z2 : 2 * b = k
      · rw [z2]; exact cs_us
      · rw [cs_un z2]; exact h3 b hb
  · intro j hj ht
    by_cases z : j = k
    · subst z
      rw [cs_us] at ht ⊢
      rw [if_pos ht, cs_us]
      omega
    · rw [cs_un z] at hj ht ⊢
      have a := h4 j hj ht
      have b := h1 j hj
      split
      · by_cases z2 : c.2.2.2.2.2.2.2.2.2.2.1 j = t
        · rw [z2, cs_us]; omega
        · rw [cs_un z2]; exact a
      · exact a
  · intro j hj ht ht2
    by_cases z : j = k
    · subst z
      rw [cs_us] at ht ht2 ⊢
      rw [if_pos ⟨ht, ht2⟩, cs_us]
      omega
    · rw [cs_un z] at hj ht ht2 ⊢
      have a := h5 j hj ht ht2
      have b := h1 j hj
      split
      · by_cases z2 : c.2.2.2.2.2.2.2.2.2.2.1 j - 24 = t - 24
        · rw [z2, cs_us]; omega
        · rw [cs_un z2]; exact a
      · exact a
  · intro b hb0 hb1
    by_cases z : 2 * b + 1 = k
    · have z0 : 2 * b ≠ k := by omega
      have e0 := hod b z.symm
      rw [cs_un z0] at hb0
      rw [cs_un z0, ← z, cs_us, cs_us]
      have n := N b e0
      have p4 := h4 (2 * b) hb0
      have p5 := h5 (2 * b) hb0
      refine ⟨n, fun g e => ?_, fun g => ?_, fun g => ?_⟩
      · have a := q1 g
        rw [e] at p4
        have := p4 g
        omega
      · have a := p5 g n
        constructor
        · intro e
          have w := q4 (by omega)
          have e2 : t % 4 = c.2.2.2.2.2.2.2.2.2.2.1 (2 * b) - 24 := by omega
          rw [e2] at w
          omega
        · intro e
          have w := q4 (by omega)
          have e2 : t % 4 = c.2.2.2.2.2.2.2.2.2.2.1 (2 * b) - 24 := by omega
          rw [e2] at w
          omega
      · have a := p5 (by omega) n
        have w := q5 g.2
        rw [g.1] at a
        have a2 : 2 * b / 2 < c.2.2.1 3 := a
        omega
    · rw [cs_un z] at hb1
      have l := h1 _ hb1
      have z0 : 2 * b ≠ k := by omega
      rw [cs_un z0] at hb0
      rw [cs_un z0, cs_un z, cs_un z]
      exact h6 b hb0 hb1
  · intro r
    have a := h7 r
    split
    · by_cases z : r = t
      · rw [z, cs_us]; omega
      · rw [cs_un z]; omega
    · omega
  · intro u
    have a := h8 u
    split
    · by_cases z : u = t - 24
      · rw [z, cs_us]; omega
      · rw [cs_un z]; omega
    · omega
  · intro u
    have a := h9 u
    omega
  · intro j hj
    by_cases z : j = k
    · subst z
      rw [cs_us, cs_us, cs_us]
      exact M
    · rw [cs_un z] at hj
      rw [cs_un z, cs_un z, cs_un z]
      exact h10 j hj
theorem cs_NLpl {c : cs_T} {f t : Nat} {v e : Int32} (ht : t < 28) : cs_NL (cs_pl c f v t e) := by
  intro b hb
  have hb' : cs_k c f t + 1 = 2 * b + 1 := hb
  show cs_fu (cs_tg c) (cs_k c f t) t (2 * b) < 28
  rw [show 2 * b = cs_k c f t by omega, cs_us]
  exact ht
theorem cs_CBnb {c : cs_T} (H : cs_CB c) : cs_CB (cs_nb c) := by
  obtain ⟨h1, h2, h3, h4, h5, h6, h7, h8, h9, h10⟩ := H
  have e : (2 * ((cs_fr c + 1) / 2) + 1) / 2 = (cs_fr c + 1) / 2 := by omega
  refine ⟨fun k hk => ?_, fun b hb => ?_, h3, h4, h5, h6, fun r => ?_, fun u => ?_, fun u => ?_, h10⟩
  · have : k < cs_fr c := h1 k hk
    show k < 2 * ((cs_fr c + 1) / 2)
    omega
  · have : 2 * ((cs_fr c + 1) / 2) = 2 * b + 1 := hb
    omega
  · show cs_lw c r ≤ (2 * ((cs_fr c + 1) / 2) + 1) / 2
    rw [e]; exact h7 r
  · show cs_lt c u ≤ (2 * ((cs_fr c + 1) / 2) + 1) / 2
    rw [e]; exact h8 u
  · show cs_rd c u ≤ (2 * ((cs_fr c + 1) / 2) + 1) / 2 + 2
    rw [e]; exact h9 u
theorem cs_NLnb (c : cs_T) : cs_NL (cs_nb c) := by
  intro b hb
  have : 2 * ((cs_fr c + 1) / 2) = 2 * b + 1 := hb
  omega
/-! the slots -/
theorem cs_CLfsl {c : cs_T} {P : Nat → Prop} {s t : Nat} {e : Int32} (H : cs_CL c P) (hs : P s) : cs_CL (cs_fsl c s t e) (fun j => P j ∧ j ≠ s) := by
  obtain ⟨h1, h2⟩ := H
  have hh : cs_hd (cs_fsl c s t e) = if 16 ≤ cs_ss c s then cs_fu (cs_hd c) (cs_ss c s - 16) 0 else cs_hd c := rfl
  have hq : cs_ss (cs_fsl c s t e) = cs_ss c := rfl
  unfold cs_CL
  rw [hh, hq]
  have o := (h1 s hs).2
  constructor
  · intro j hj
    refine ⟨(h1 j hj.1).1, ?_⟩
    rcases (h1 j hj.1).2 with a | a | a | ⟨u, hu, a, b⟩
    · exact Or.inl a
    · exact Or.inr (Or.inl a)
    · exact Or.inr (Or.inr (Or.inl a))
    · refine Or.inr (Or.inr (Or.inr ⟨u, hu, a, ?_⟩))
      split
      · by_cases z : u = cs_ss c s - 16
        · exfalso
          rcases o with x | x | x | ⟨w, hw, x, y⟩
          · omega
          · have := (h1 s hs).1
            omega
          · omega
          · have : w = u := by omega
            subst this
            have := hj.2
            omega
        · rw [cs_un z]; exact b
      · exact b
  · intro u hu hn
    by_cases g : 16 ≤ cs_ss c s
    · rw [if_pos g] at hn ⊢
      by_cases z : u = cs_ss c s - 16
      · rw [z, cs_us] at hn
        exact absurd rfl hn
      · rw [cs_un z] at hn ⊢
        have q := h2 u hu hn
        refine ⟨⟨q.1, fun e => ?_⟩, q.2⟩
        rw [e] at q
        omega
    · rw [if_neg g] at hn ⊢
      have q := h2 u hu hn
      refine ⟨⟨q.1, fun e => ?_⟩, q.2⟩
      rw [e] at q
      omega
theorem cs_hdfsl {c : cs_T} {P : Nat → Prop} {s t u : Nat} {e : Int32} (H : cs_CL c P) (hu : u < 3) (h : cs_hd c u = 0 ∨ cs_hd c u = s + 1) : cs_hd (cs_fsl c s t e) u = 0 := by
  show (if 16 ≤ cs_ss c s then cs_fu (cs_hd c) (cs_ss c s - 16) 0 else cs_hd c) u = 0
  rcases h with h | h
  · split
    · by_cases z : u = cs_ss c s - 16
      · rw [z, cs_us]
      · rw [cs_un z]; exact h
    · exact h
  · have q := (H.2 u hu (by omega)).2
    rw [h, Nat.add_sub_cancel] at q
    rw [if_pos (by omega), show u = cs_ss c s - 16 by omega, cs_us]
theorem cs_CLsp {c : cs_T} {P : Nat → Prop} {u : Nat} (H : cs_CL c P) (hu : u < 3) : cs_CL (cs_sp c u) P ∧ cs_hd (cs_sp c u) u = 0 := by
  unfold cs_sp
  by_cases z : cs_hd c u = 0
  · rw [if_pos z]; exact ⟨H, z⟩
  · rw [if_neg z]
    obtain ⟨s, hs⟩ : ∃ s, cs_hd c u = s + 1 := ⟨cs_hd c u - 1, by omega⟩
    have e : cs_hd c u - 1 = s := by omega
    rw [e]
    have p := H.2 u hu z
    rw [e] at p
    have C := cs_CLfsl (t := 6 + s) (e := 0) H p.1
    have Z := cs_hdfsl (t := 6 + s) (e := 0) (s := s) H hu (Or.inr hs)
    refine ⟨⟨fun j hj => ?_, fun w hw hn => ?_⟩, Z⟩
    · show j < 5 ∧ (cs_fu (cs_ss c) s (6 + s) j < 6 ∨ cs_fu (cs_ss c) s (6 + s) j = 6 + j ∨ cs_fu (cs_ss c) s (6 + s) j = 15 ∨ ∃ w, w < 3 ∧ cs_fu (cs_ss c) s (6 + s) j = 16 + w ∧ cs_hd (cs_fsl c s (6 + s) 0) w = j + 1)
      by_cases y : j = s
      · subst y
        rw [cs_us]
        exact ⟨(H.1 j hj).1, Or.inr (Or.inl rfl)⟩
      · rw [cs_un y]
        exact C.1 j ⟨hj, y⟩
    · have q := C.2 w hw hn
      refine ⟨q.1.1, ?_⟩
      show cs_fu (cs_ss c) s (6 + s) (cs_hd (cs_fsl c s (6 + s) 0) w - 1) = 16 + w
      rw [cs_un q.1.2]
      exact q.2
theorem cs_CLip {c : cs_T} {P : Nat → Prop} {s u dl : Nat} (H : cs_CL c P) (hu : u < 3) (hs : s < 5) (hn : ¬ P s) (hz : cs_hd c u = 0) : cs_CL (cs_ip c s u dl) (fun j => P j ∨ j = s) := by
  have hh : cs_hd (cs_ip c s u dl) = cs_fu (cs_hd c) u (s + 1) := rfl
  have hq : cs_ss (cs_ip c s u dl) = cs_fu (cs_ss c) s (16 + u) := rfl
  unfold cs_CL
  rw [hh, hq]
  constructor
  · intro j hj
    by_cases z : j = s
    · subst z
      rw [cs_us]
      exact ⟨hs, Or.inr (Or.inr (Or.inr ⟨u, hu, rfl, cs_us⟩))⟩
    · have pj : P j := hj.resolve_right z
      rw [cs_un z]
      refine ⟨(H.1 j pj).1, ?_⟩
      rcases (H.1 j pj).2 with a | a | a | ⟨w, hw, a, b⟩
      · exact Or.inl a
      · exact Or.inr (Or.inl a)
      · exact Or.inr (Or.inr (Or.inl a))
      · refine Or.inr (Or.inr (Or.inr ⟨w, hw, a, ?_⟩))
        rw [cs_un (by intro e; rw [e] at b; omega)]
        exact b
  · intro w hw hnz
    by_cases z : w = u
    · subst z
      rw [cs_us, Nat.add_sub_cancel, cs_us]
      exact ⟨Or.inr rfl, rfl⟩
    · rw [cs_un z] at hnz ⊢
      have q := H.2 w hw hnz
      refine ⟨Or.inl q.1, ?_⟩
      rw [cs_un (by intro e; rw [e] at q; exact hn q.1)]
      exact q.2
theorem cs_CLcg {c : cs_T} {P P' : Nat → Prop} (H : cs_CL c P) (h : ∀ j, P j ↔ P' j) : cs_CL c P' :=
  ⟨fun s hs => H.1 s ((h s).mpr hs), fun u hu hn => ⟨(h _).mp (H.2 u hu hn).1, (H.2 u hu hn).2⟩⟩
theorem cs_CLpu {c : cs_T} {h s : Nat} {v : Int32} (H : cs_CL c (fun j => j < h)) (hh : h < 5) (hs : s < 6 ∨ s = 15) : cs_CL (cs_pu c h s v) (fun j => j < h + 1) := by
  have hq : cs_ss (cs_pu c h s v) = cs_fu (cs_ss c) h s := rfl
  have hd : cs_hd (cs_pu c h s v) = cs_hd c := rfl
  unfold cs_CL
  rw [hq, hd]
  constructor
  · intro j hj
    by_cases z : j = h
    · subst z
      rw [cs_us]
      refine ⟨hh, ?_⟩
      rcases hs with a | a
      · exact Or.inl a
      · exact Or.inr (Or.inr (Or.inl a))
    · rw [cs_un z]
      exact H.1 j (by omega)
  · intro u hu hn
    have q := H.2 u hu hn
    rw [cs_un (by omega)]
    exact ⟨by omega, q.2⟩
theorem cs_Sof {c : cs_T} {P : Nat → Prop} {s : Nat} (H : cs_CL c P) (hs : P s) : cs_S (cs_ss c s) := by
  obtain ⟨h5, o⟩ := H.1 s hs
  unfold cs_S
  rcases o with a | a | a | ⟨u, hu, a, _⟩ <;> omega
/-! all of it at one word -/
def cs_I (c : cs_T) (P : Nat → Prop) (m : Nat) : Prop := cs_CB c ∧ cs_NL c ∧ cs_CL c P ∧ (cs_fr c + 1) / 2 ≤ m
theorem cs_Ile {c : cs_T} {P : Nat → Prop} {m m' : Nat} (H : cs_I c P m) (h : m ≤ m') : cs_I c P m' := ⟨H.1, H.2.1, H.2.2.1, Nat.le_trans H.2.2.2 h⟩
theorem cs_Icg {c : cs_T} {P P' : Nat → Prop} {m : Nat} (H : cs_I c P m) (h : ∀ j, P j ↔ P' j) : cs_I c P' m := ⟨H.1, H.2.1, cs_CLcg H.2.2.1 h, H.2.2.2⟩
theorem cs_Mof {c : cs_T} {P : Nat → Prop} {s t : Nat} {e : Int32} (H : cs_CL c P) (hs : P s) (ht : t < 11 ∨ (20 ≤ t ∧ t < 30)) (he : 24 ≤ t → t < 28 → e ≠ -1) : cs_M (cs_ss c s) t e := ⟨cs_Sof H hs, ht, he⟩
theorem cs_CBhd {c : cs_T} {x : Nat → Nat} (H : cs_CB c) : cs_CB (cs_wHd c x) := H
theorem cs_CBss {c : cs_T} {x : Nat → Nat} (H : cs_CB c) : cs_CB (cs_wSs c x) := H
theorem cs_Ifsl {c : cs_T} {P : Nat → Prop} {m s t : Nat} {e : Int32} (H : cs_I c P m) (hs : P s) (ht : t < 11 ∨ (20 ≤ t ∧ t < 28)) (he : 24 ≤ t → t < 28 → e ≠ -1) : cs_I (cs_fsl c s t e) (fun j => P j ∧ j ≠ s) (m + 3) := by
  obtain ⟨h1, h2, h3, h4⟩ := H
  refine ⟨cs_CBhd (cs_CBpl h1 h2 (cs_Mof h3 hs (by omega) he)), ?_, cs_CLfsl h3 hs, ?_⟩
  · exact cs_NLpl (c := c) (f := cs_ss c s) (v := cs_sv c s) (e := e) (by omega)
  · have := cs_kB h1 (cs_ss c s) t
    show (cs_k c (cs_ss c s) t + 1 + 1) / 2 ≤ m + 3
    omega
theorem cs_Isp {c : cs_T} {P : Nat → Prop} {m u : Nat} (H : cs_I c P m) (hu : u < 3) : cs_I (cs_sp c u) P (m + 3) ∧ cs_hd (cs_sp c u) u = 0 := by
  have q := cs_CLsp H.2.2.1 hu
  refine ⟨?_, q.2⟩
  have q1 := q.1
  unfold cs_sp at q1 ⊢
  by_cases z : cs_hd c u = 0
  · rw [if_pos z]
    exact cs_Ile H (by omega)
  · rw [if_neg z] at q1 ⊢
    have p := (H.2.2.1.2 u hu z).1
    have l := (H.2.2.1.1 _ p).1
    have F := cs_Ifsl (t := 6 + (cs_hd c u - 1)) (e := 0) H p (by omega) (by omega)
    exact ⟨cs_CBss F.1, F.2.1, q1, F.2.2.2⟩
theorem cs_Iip {c : cs_T} {P : Nat → Prop} {m s u dl : Nat} (H : cs_I c P m) (hu : u < 3) (hs : s < 5) (hn : ¬ P s) (hz : cs_hd c u = 0) (hl : 0 < cs_lt c u) (hd : dl ≤ 3) : cs_I (cs_ip c s u dl) (fun j => P j ∨ j = s) m := by
  obtain ⟨h1, h2, h3, h4⟩ := H
  refine ⟨?_, h2, cs_CLip h3 hu hs hn hz, h4⟩
  obtain ⟨a1, a2, a3, a4, a5, a6, a7, a8, a9, a10⟩ := h1
  refine ⟨a1, a2, a3, a4, a5, a6, a7, a8, fun w => ?_, a10⟩
  show cs_fu (cs_rd c) u (cs_lt c u - 1 + dl) w ≤ (cs_fr c + 1) / 2 + 2
  by_cases z : w = u
  · subst z
    rw [cs_us]
    have := a8 w
    omega
  · rw [cs_un z]; exact a9 w
theorem cs_ltfsl {c : cs_T} {s u : Nat} {e : Int32} (hu : u < 3) : cs_lt (cs_fsl c s (24 + u) e) u = cs_k c (cs_ss c s) (24 + u) / 2 + 1 := by
  show (if 24 ≤ 24 + u ∧ 24 + u < 28 then cs_fu (cs_lt c) (24 + u - 24) (cs_k c (cs_ss c s) (24 + u) / 2 + 1) else cs_lt c) u = _
  rw [if_pos (by omega), show 24 + u - 24 = u by omega, cs_us]
theorem cs_Ild {c : cs_T} {h m : Nat} (H : cs_I c (fun j => j < h) m) (h1 : 1 ≤ h) (h5 : h ≤ 5) : cs_I (cs_ld c (h - 1)) (fun j => j < h) (m + 6) := by
  unfold cs_ld
  have A : cs_I (if cs_hd c 2 = h - 1 + 1 then c else cs_sp c 2) (fun j => j < h) (m + 3) ∧ (cs_hd (if cs_hd c 2 = h - 1 + 1 then c else cs_sp c 2) 2 = 0 ∨ cs_hd (if cs_hd c 2 = h - 1 + 1 then c else cs_sp c 2) 2 = h - 1 + 1) := by
    by_cases z : cs_hd c 2 = h - 1 + 1
    · rw [if_pos z]; exact ⟨cs_Ile H (by omega), Or.inr z⟩
    · rw [if_neg z]
      have q := cs_Isp H (u := 2) (by omega)
      exact ⟨q.1, Or.inl q.2⟩
  generalize (if cs_hd c 2 = h - 1 + 1 then c else cs_sp c 2) = c1 at *
  have B := cs_Ifsl (s := h - 1) (t := 26) (e := 0) A.1 (by omega) (by omega) (fun _ _ => by decide)
  have D := cs_hdfsl (s := h - 1) (t := 26) (e := 0) A.1.2.2.1 (u := 2) (by omega) A.2
  have L := cs_ltfsl (c := c1) (s := h - 1) (u := 2) (e := 0) (by omega)
  exact cs_Icg (cs_Iip B (by omega) (by omega) (by omega) D (by rw [L]; omega) (by omega)) (by intro j; omega)
theorem cs_Icb {c : cs_T} {h m kd u dl : Nat} (H : cs_I c (fun j => j < h) m) (h1 : 2 ≤ h) (h5 : h ≤ 5) (hk : kd ≤ 12) (hu : u < 2) (hd : dl ≤ 3) : cs_I (cs_cb c kd (h - 2) (h - 1) u dl) (fun j => j < h - 1) (m + 9) := by
  unfold cs_cb
  have A : cs_I (cs_c1 c (h - 2) (h - 1) u) (fun j => j < h) (m + 3) ∧ (cs_hd (cs_c1 c (h - 2) (h - 1) u) u = 0 ∨ cs_hd (cs_c1 c (h - 2) (h - 1) u) u = h - 2 + 1 ∨ cs_hd (cs_c1 c (h - 2) (h - 1) u) u = h - 1 + 1) := by
    unfold cs_c1
    by_cases z : cs_hd c u = h - 2 + 1 ∨ cs_hd c u = h - 1 + 1
    · rw [if_pos z]; exact ⟨cs_Ile H (by omega), Or.inr z⟩
    · rw [if_neg z]
      have q := cs_Isp H (u := u) (by omega)
      exact ⟨q.1, Or.inl q.2⟩
  generalize cs_c1 c (h - 2) (h - 1) u = c1 at *
  have B := cs_Ifsl (s := h - 2) (t := 20 + u) (e := 0) A.1 (by omega) (by omega) (fun _ _ => by decide)
  have D : cs_hd (cs_fsl c1 (h - 2) (20 + u) 0) u = 0 ∨ cs_hd (cs_fsl c1 (h - 2) (20 + u) 0) u = h - 1 + 1 := by
    rcases A.2 with a | a | a
    · exact Or.inl (cs_hdfsl A.1.2.2.1 (by omega) (Or.inl a))
    · exact Or.inl (cs_hdfsl A.1.2.2.1 (by omega) (Or.inr a))
    · show (if 16 ≤ cs_ss c1 (h - 2) then cs_fu (cs_hd c1) (cs_ss c1 (h - 2) - 16) 0 else cs_hd c1) u = 0 ∨ (if 16 ≤ cs_ss c1 (h - 2) then cs_fu (cs_hd c1) (cs_ss c1 (h - 2) - 16) 0 else cs_hd c1) u = h - 1 + 1
      split
      · by_cases z : u = cs_ss c1 (h - 2) - 16
        · rw [z, cs_us]; exact Or.inl rfl
        · rw [cs_un z]; exact Or.inr a
      · exact Or.inr a
  generalize cs_fsl c1 (h - 2) (20 + u) 0 = c2 at *
  have B2 := cs_Ifsl (s := h - 1) (t := 24 + u) (e := nI kd) B ⟨by omega, by omega⟩ (by omega) (fun _ _ z => by
    have a := congrArg Int32.toInt z
    rw [nI_toInt (by omega), show (-1 : Int32).toInt = -1 by decide] at a
    omega)
  have D2 := cs_hdfsl (s := h - 1) (t := 24 + u) (e := nI kd) B.2.2.1 (u := u) (by omega) D
  have L := cs_ltfsl (c := c2) (s := h - 1) (u := u) (e := nI kd) (by omega)
  exact cs_Icg (cs_Iip B2 (by omega) (by omega) (by omega) D2 (by rw [L]; omega) hd) (by intro j; omega)
theorem cs_CBop {c : cs_T} {x : Nat → Nat} (H : cs_CB c) : cs_CB (cs_wOp c x) := H
theorem cs_CLop {c : cs_T} {P : Nat → Prop} {x : Nat → Nat} (H : cs_CL c P) : cs_CL (cs_wOp c x) P := H
theorem cs_CLnb {c : cs_T} {P : Nat → Prop} (H : cs_CL c P) : cs_CL (cs_nb c) P := ⟨H.1, H.2⟩
theorem cs_CLpt {c : cs_T} {P : Nat → Prop} {f : Nat} (H : cs_CL c P) : cs_CL (cs_pt c f) P := ⟨H.1, H.2⟩
theorem cs_CLpl {c : cs_T} {P : Nat → Prop} {f t : Nat} {v e : Int32} (H : cs_CL c P) : cs_CL (cs_pl c f v t e) P := ⟨H.1, H.2⟩
theorem cs_frnb (c : cs_T) : cs_fr (cs_nb c) = 2 * ((cs_fr c + 1) / 2) := rfl
theorem cs_frop (c : cs_T) (x : Nat → Nat) : cs_fr (cs_wOp c x) = cs_fr c := rfl
theorem cs_frhd (c : cs_T) (x : Nat → Nat) : cs_fr (cs_wHd c x) = cs_fr c := rfl
theorem cs_frss (c : cs_T) (x : Nat → Nat) : cs_fr (cs_wSs c x) = cs_fr c := rfl
theorem cs_frpt (c : cs_T) (f : Nat) : cs_fr (cs_pt c f) = cs_fr c := rfl
theorem cs_frpl (c : cs_T) (f t : Nat) (v e : Int32) : cs_fr (cs_pl c f v t e) = cs_k c f t + 1 := rfl
theorem cs_frfsl (c : cs_T) (s t : Nat) (e : Int32) : cs_fr (cs_fsl c s t e) = cs_k c (cs_ss c s) t + 1 := rfl
theorem cs_Irp {c : cs_T} {h m d : Nat} (H : cs_I c (fun j => j < h) m) (h1 : h = 1) : cs_I (cs_rp c (h - 1) d) (fun j => j < 0) (m + 3) := by
  obtain ⟨a1, a2, a3, a4⟩ := H
  have p : h - 1 < h := by omega
  have B := cs_CBpl (v := cs_sv c (h - 1)) a1 a2 (cs_Mof (e := 0) (t := 28) a3 p (by omega) (by omega))
  have L := cs_kB a1 (cs_ss c (h - 1)) 28
  have B2 : cs_CB (cs_fsl c (h - 1) 28 0) := by
    unfold cs_fsl
    exact cs_CBhd B
  have L2 := cs_CLcg (P' := fun j => j < 0) (cs_CLfsl (t := 28) (e := 0) a3 p) (by intro j; omega)
  have F := cs_frfsl c (h - 1) 28 0
  unfold cs_rp
  generalize cs_fsl c (h - 1) 28 0 = c1 at *
  refine ⟨cs_CBnb (cs_CBop B2), cs_NLnb _, cs_CLnb (cs_CLop L2), ?_⟩
  rw [cs_frnb, cs_frop, F]
  omega
theorem cs_CBpt {c : cs_T} {f : Nat} (H : cs_CB c) : cs_CB (cs_pt c f) := by
  obtain ⟨a1, a2, a3, a4, a5, a6, a7, a8, a9, a10⟩ := H
  refine ⟨a1, a2, a3, a4, a5, a6, a7, a8, a9, fun k hk => ?_⟩
  have q := a10 k hk
  refine ⟨q.1, q.2.1, fun l1 l2 => ?_⟩
  show (if k / 2 = f ∧ cs_vd c k = true ∧ cs_tg c k = 28 then nI (cs_fr c / 2) else cs_ex c k) ≠ -1
  have l3 : cs_tg c k < 28 := l2
  rw [if_neg (by omega)]
  exact q.2.2 l1 l2
theorem cs_k29 (c : cs_T) : cs_k (cs_nb c) 15 29 = 2 * ((cs_fr c + 1) / 2) := by
  have e : cs_con (cs_nb c) 15 29 = 0 := rfl
  unfold cs_k
  rw [e]
  show max (2 * ((cs_fr c + 1) / 2)) (2 * 0) = _
  omega
theorem cs_Icl {c : cs_T} {h m f : Nat} (H : cs_I c (fun j => j < h) m) : cs_I (cs_cl c f) (fun j => j < h) (m + 1) := by
  obtain ⟨a1, a2, a3, a4⟩ := H
  have B := cs_CBpl (f := 15) (t := 29) (v := 0) (e := nI (f + 1)) (cs_CBnb a1) (cs_NLnb c) ⟨by unfold cs_S; omega, by omega, by omega⟩
  have L := cs_CLpl (f := 15) (t := 29) (v := 0) (e := nI (f + 1)) (cs_CLnb a3)
  have F := cs_frpl (cs_nb c) 15 29 0 (nI (f + 1))
  rw [cs_k29] at F
  unfold cs_cl
  generalize cs_pl (cs_nb c) 15 0 29 (nI (f + 1)) = c1 at *
  refine ⟨cs_CBpt (cs_CBnb B), ?_, cs_CLpt (cs_CLnb L), ?_⟩
  · intro b hb
    rw [cs_frpt, cs_frnb] at hb
    omega
  · rw [cs_frpt, cs_frnb, F]
    omega
theorem cs_I0 : cs_I cs_0 (fun j => j < 0) 0 := by
  refine ⟨⟨?_, ?_, ?_, ?_, ?_, ?_, ?_, ?_, ?_, ?_⟩, ?_, ⟨?_, ?_⟩, ?_⟩
  · intro k hk; exact absurd (show false = true from hk) (by decide)
  · intro b hb; have : 0 = 2 * b + 1 := hb; omega
  · intro k hk; exact absurd (show false = true from hk) (by decide)
  · intro k hk; exact absurd (show false = true from hk) (by decide)
  · intro k hk; exact absurd (show false = true from hk) (by decide)
  · intro k hk; exact absurd (show false = true from hk) (by decide)
  · intro r; exact Nat.zero_le _
  · intro r; exact Nat.zero_le _
  · intro r; exact Nat.zero_le _
  · intro k hk; exact absurd (show false = true from hk) (by decide)
  · intro b hb; have : 0 = 2 * b + 1 := hb; omega
  · intro s hs; exact absurd hs (by omega)
  · intro u hu hn; exact absurd rfl hn
  · exact Nat.le_refl 0
theorem cs_IC {K A : Nat → Int32} {n : Nat} (V : wd_V K A n) : ∀ i, i ≤ n → cs_I (cs_C K A i) (fun j => j < wd_H K i) (9 * i) := by
  intro i
  induction i with
  | zero => intro _; exact cs_I0
  | succ i ih =>
    intro hi
    have H := ih (by omega)
    have b := wd_bnd V i (by omega)
    obtain ⟨_, h12, ha, h4, hf, h11, hz⟩ := V.2 i (by omega)
    show cs_I (cs_w (cs_C K A i) (wd_k K i) (A i) (wd_H K i) (wd_N K i)) (fun j => j < wd_h (wd_k K i) (wd_H K i)) (9 * (i + 1))
    generalize cs_C K A i = c at *
    generalize wd_k K i = k at *
    generalize wd_H K i = h at *
    generalize wd_N K i = d at *
    unfold wd_fit at hf
    unfold cs_w
    have hav : k = 0 ∨ k = 9 → (A i).toNatClampNeg < 6 := by
      intro z
      obtain ⟨j, hj, e⟩ := ha z
      rw [e, nI_clamp (by omega)]; exact hj
    by_cases z0 : k = 0
    · have := h4 (by omega)
      subst z0
      exact cs_Ile (m := 9 * i) ⟨H.1, H.2.1, cs_CLpu H.2.2.1 (by omega) (Or.inl (hav (by omega))), H.2.2.2⟩ (by omega)
    rw [if_neg z0]
    by_cases z1 : k = 1
    · have := h4 (by omega)
      subst z1
      exact cs_Ile (m := 9 * i) ⟨H.1, H.2.1, cs_CLpu H.2.2.1 (by omega) (Or.inr rfl), H.2.2.2⟩ (by omega)
    rw [if_neg z1]
    by_cases z2 : k = 2
    · subst z2
      exact cs_Ile (cs_Ild H (by omega) (by omega)) (by omega)
    rw [if_neg z2]
    by_cases z5 : k = 5
    · subst z5
      exact cs_Ile (cs_Icb H (by omega) (by omega) (by omega) (by omega) (by omega)) (by omega)
    rw [if_neg z5]
    by_cases z8 : k ≤ 8
    · rw [if_pos z8]
      refine cs_Ile (cs_Icg (cs_Icb (kd := k) (u := 0) (dl := 1) H (by omega) (by omega) (by omega) (by omega) (by omega)) (fun j => ?_)) (by omega)
      unfold wd_h
      rw [if_neg (by omega), if_neg (by omega), if_neg (by omega), if_neg (by omega)]
    rw [if_neg z8]
    by_cases z9 : k = 9
    · have l := hav (by omega)
      subst z9
      refine cs_Ile (cs_Icg (cs_Ifsl (s := h - 1) H (by omega) (by omega) (by omega)) (fun j => ?_)) (by omega)
      show _ ↔ j < h - 1
      omega
    rw [if_neg z9]
    by_cases z10 : k = 10
    · subst z10
      have B := cs_Ifsl (s := h - 2) (t := 23) (e := 0) H (by omega) (by omega) (by omega)
      refine cs_Ile (cs_Icg (cs_Ifsl (s := h - 1) (t := 27) (e := 0) B ⟨by omega, by omega⟩ (by omega) (fun _ _ => by decide)) (fun j => ?_)) (by omega)
      show _ ↔ j < h - 2
      omega
    rw [if_neg z10]
    by_cases z11 : k = 11
    · subst z11
      refine cs_Ile (cs_Icg (cs_Irp (d := d) H (by omega)) (fun j => ?_)) (by omega)
      show _ ↔ j < h - 1
      omega
    rw [if_neg z11]
    have z12 : k = 12 := by omega
    subst z12
    exact cs_Ile (cs_Icl H) (by omega)
end
section
/-! the component's arrays stand for a state of the compiler -/
def cs_ct (c : cs_T) (b : Nat) : Nat := (if cs_vd c (2 * b) = true then 1 else 0) + (if cs_vd c (2 * b + 1) = true then 1 else 0)
def cs_RK (c : cs_T) (a_filled a_source a_constant a_target a_extra : Nat → Int32) : Prop :=
  (∀ b, b < 400 → a_filled b = nI (cs_ct c b)) ∧ (∀ k, cs_vd c k = true → a_source k = nI (cs_sr c k) ∧ a_constant k = cs_vl c k ∧ a_target k = nI (cs_tg c k) ∧ a_extra k = cs_ex c k)
def cs_RC (c : cs_T) (h d : Nat) (f_bundle : Int32) (a_slotSource a_slotValue a_holder a_ready a_lastWrite a_lastTrigger a_filled a_source a_constant a_target a_extra a_opened : Nat → Int32) : Prop :=
  (∃ B, f_bundle = nI B ∧ cs_fr c = 2 * B + cs_ct c B) ∧
  (∀ s, s < h → a_slotSource s = nI (cs_ss c s) ∧ a_slotValue s = cs_sv c s) ∧
  (∀ u, u < 3 → a_holder u = nI (cs_hd c u) - 1) ∧
  (∀ u, u < 3 → a_ready u = nI (cs_rd c u)) ∧
  (∀ r, r < 12 → a_lastWrite r = nI (cs_lw c r) - 1) ∧
  (∀ u, u < 4 → a_lastTrigger u = nI (cs_lt c u) - 1) ∧
  cs_RK c a_filled a_source a_constant a_target a_extra ∧
  (∀ j, j < d → a_opened j = nI (cs_op c j))
theorem cs_ct2 (c : cs_T) (b : Nat) : cs_ct c b ≤ 2 := by
  unfold cs_ct
  split <;> split <;> omega
theorem cs_ct0 {c : cs_T} {b : Nat} (H : cs_CB c) (h : cs_fr c ≤ 2 * b) : cs_ct c b = 0 := by
  unfold cs_ct
  rw [if_neg (fun z => by have := H.1 _ z; omega), if_neg (fun z => by have := H.1 _ z; omega)]
theorem cs_ctk {c : cs_T} {f t b : Nat} {v e : Int32} (H : cs_CB c) (h1 : cs_ct c b ≤ 1) (hk : 2 * b + cs_ct c b = cs_k c f t) : cs_ct (cs_pl c f v t e) b = cs_ct c b + 1 := by
  have hv : cs_vd (cs_pl c f v t e) = cs_fu (cs_vd c) (cs_k c f t) true := rfl
  have g1 : ∀ j, cs_vd c j = true → j < cs_k c f t := fun j hj => Nat.lt_of_lt_of_le (H.1 j hj) (cs_kfr c f t)
  unfold cs_ct at h1 hk ⊢
  rw [hv]
  rw [← hk] at g1 ⊢
  by_cases z : cs_vd c (2 * b) = true
  · rw [if_pos z] at h1 g1 ⊢
    by_cases y : cs_vd c (2 * b + 1) = true
    · rw [if_pos y] at h1
      omega
    · rw [if_neg y] at g1 ⊢
      rw [cs_un (by omega), if_pos z, cs_us, if_pos rfl]
  · have y : ¬ cs_vd c (2 * b + 1) = true := fun q => z (H.2.2.1 b q)
    rw [if_neg z, if_neg y] at g1 ⊢
    rw [Nat.add_zero, Nat.add_zero, cs_us, if_pos rfl, cs_un (by omega), if_neg y]
theorem cs_ctn {c : cs_T} {f t b b' : Nat} {v e : Int32} (h : cs_k c f t / 2 ≠ b') : cs_ct (cs_pl c f v t e) b' = cs_ct c b' := by
  have hv : cs_vd (cs_pl c f v t e) = cs_fu (cs_vd c) (cs_k c f t) true := rfl
  unfold cs_ct
  rw [hv, cs_un (by omega), cs_un (by omega)]
theorem cs_RCpl {c : cs_T} {h d f t b : Nat} {v e : Int32} {f_bundle : Int32} {a_slotSource : Nat → Int32} {a_slotValue : Nat → Int32} {a_holder : Nat → Int32} {a_ready : Nat → Int32} {a_lastWrite : Nat → Int32} {a_lastTrigger : Nat → Int32} {a_filled : Nat → Int32} {a_source : Nat → Int32} {a_constant : Nat → Int32} {a_target : Nat → Int32} {a_extra : Nat → Int32} {a_opened : Nat → Int32} {lw' lt' : Nat → Int32} (R : cs_RC c h d f_bundle a_slotSource a_slotValue a_holder a_ready a_lastWrite a_lastTrigger a_filled a_source a_constant a_target a_extra a_opened) (H : cs_CB c) (h1 : cs_ct c b ≤ 1) (hk : 2 * b + cs_ct c b = cs_k c f t)
    (hw : ∀ r, r < 12 → lw' r = nI (cs_lw (cs_pl c f v t e) r) - 1) (ht : ∀ u, u < 4 → lt' u = nI (cs_lt (cs_pl c f v t e) u) - 1) :
    cs_RC (cs_pl c f v t e) h d (nI b) a_slotSource a_slotValue a_holder a_ready lw' lt' (upd a_filled b (nI (cs_ct c b + 1))) (upd a_source (cs_k c f t) (nI f)) (upd a_constant (cs_k c f t) v) (upd a_target (cs_k c f t) (nI t)) (upd a_extra (cs_k c f t) e) a_opened := by
  obtain ⟨_, r2, r3, r4, r5, r6, r7, r8⟩ := R
  have q := cs_ctk (v := v) (e := e) H h1 hk
  refine ⟨⟨b, rfl, ?_⟩, r2, r3, r4, hw, ht, ⟨fun b' hb' => ?_, fun k hv => ?_⟩, r8⟩
  · rw [cs_frpl, q]; omega
  · by_cases z : b' = b
    · subst z
      rw [q]
      exact pk_us
    · rw [cs_ctn (b := b) (by omega)]
      rw [pk_un z]
      exact r7.1 b' hb'
  · by_cases z : k = cs_k c f t
    · subst z
      refine ⟨pk_us.trans (congrArg nI ?_), pk_us.trans ?_, pk_us.trans (congrArg nI ?_), pk_us.trans ?_⟩
      · exact cs_us.symm
      · exact cs_us.symm
      · exact cs_us.symm
      · exact cs_us.symm
    · have hv' : cs_fu (cs_vd c) (cs_k c f t) true k = true := hv
      rw [cs_un z] at hv'
      have g := r7.2 k hv'
      rw [pk_un z, pk_un z, pk_un z, pk_un z]
      refine ⟨g.1.trans (congrArg nI ?_), g.2.1.trans ?_, g.2.2.1.trans (congrArg nI ?_), g.2.2.2.trans ?_⟩
      · exact (cs_un z).symm
      · exact (cs_un z).symm
      · exact (cs_un z).symm
      · exact (cs_un z).symm
theorem cs_l1 {a b : Nat} (ha : a < 2 ^ 30) (hb : b < 2 ^ 30) : nI a - 1 < nI b ↔ a ≤ b := by
  have e : (nI a - 1).toInt = (a : Int) - 1 := pk_sub_toInt (b := 1) ha (by omega)
  rw [Int32.lt_iff_toInt_lt, e, nI_toInt (by omega)]
  omega
theorem cs_l2 (a : Nat) : nI a - 1 + 1 = nI a := Int32.sub_add_cancel _ _
theorem cs_l3 {a s : Nat} (ha : a < 2 ^ 30) (hs : s < 2 ^ 30) : nI a - 1 = nI s ↔ a = s + 1 := by
  have e : (nI a - 1).toInt = (a : Int) - 1 := pk_sub_toInt (b := 1) ha (by omega)
  rw [← Int32.toInt_inj, e, nI_toInt (by omega)]
  omega
theorem cs_l4 {a : Nat} (ha : a < 2 ^ 30) : nI a - 1 = -1 ↔ a = 0 := by
  have e : (nI a - 1).toInt = (a : Int) - 1 := pk_sub_toInt (b := 1) ha (by omega)
  rw [← Int32.toInt_inj, e, show (-1 : Int32).toInt = -1 by decide]
  omega
theorem cs_l5 {x : Int32} {a b : Nat} {P : Int32 → Prop} (hx : x = nI a - 1) (ha : a < 2 ^ 30) (hb : b < 2 ^ 30) (H : P (nI (max b a))) : (x < nI b → P (nI b)) ∧ (¬ x < nI b → P (x + 1)) := by
  subst hx
  constructor
  · intro l
    have := (cs_l1 ha hb).mp l
    rw [Nat.max_eq_left this] at H
    exact H
  · intro l
    rw [cs_l1 ha hb] at l
    rw [Nat.max_eq_right (by omega)] at H
    rw [cs_l2]
    exact H
section
variable {f_count : Int32} {f_tall : Int32} {f_open : Int32} {f_bundle : Int32} {f_compiled : Int32} {f_cycle : Int32} {f_place : Int32} {f_loopDepth : Int32} {f_effects : Int32} {a_kinds : Nat → Int32} {a_arguments : Nat → Int32} {a_slotSource : Nat → Int32} {a_slotValue : Nat → Int32} {a_holder : Nat → Int32} {a_ready : Nat → Int32} {a_lastWrite : Nat → Int32} {a_lastTrigger : Nat → Int32} {a_filled : Nat → Int32} {a_source : Nat → Int32} {a_constant : Nat → Int32} {a_target : Nat → Int32} {a_extra : Nat → Int32} {a_opened : Nat → Int32} {a_registers : Nat → Int32} {a_cells : Nat → Int32} {a_operands : Nat → Int32} {a_triggers : Nat → Int32} {a_starts : Nat → Int32} {a_oldResult : Nat → Int32} {a_newResult : Nat → Int32} {a_resultAt : Nat → Int32} {a_loops : Nat → Int32} {a_setCounts : Nat → Int32} {a_putCounts : Nat → Int32} {post : SX → Prop} {c : cs_T} {h d f t b m : Nat} {v e : Int32}
theorem xw_p178 (R : cs_RC c h d f_bundle a_slotSource a_slotValue a_holder a_ready a_lastWrite a_lastTrigger a_filled a_source a_constant a_target a_extra a_opened) (H : cs_CB c) (ht : t < 11 ∨ (20 ≤ t ∧ t < 30)) (hb : b < 400) (hk : 2 * b + cs_ct c b = cs_k c f t) (h1 : cs_ct c b ≤ 1) (hp : ∀ (f_bundle : Int32) (a_slotSource a_slotValue a_holder a_ready a_lastWrite a_lastTrigger a_filled a_source a_constant a_target a_extra a_opened : Nat → Int32), cs_RC (cs_pl c f v t e) h d f_bundle a_slotSource a_slotValue a_holder a_ready a_lastWrite a_lastTrigger a_filled a_source a_constant a_target a_extra a_opened → f_bundle = nI (cs_k c f t / 2) → post (f_count, f_tall, f_open, f_bundle, f_compiled, f_cycle, f_place, f_loopDepth, f_effects, a_kinds, a_arguments, a_slotSource, a_slotValue, a_holder, a_ready, a_lastWrite, a_lastTrigger, a_filled, a_source, a_constant, a_target, a_extra, a_opened, a_registers, a_cells, a_operands, a_triggers, a_starts, a_oldResult, a_newResult, a_resultAt, a_loops, a_setCounts, a_putCounts)) : wX_place_178 post (nI f) v (nI t) e (nI b) f_count f_tall f_open f_bundle f_compiled f_cycle f_place f_loopDepth f_effects a_kinds a_arguments a_slotSource a_slotValue a_holder a_ready a_lastWrite a_lastTrigger a_filled a_source a_constant a_target a_extra a_opened a_registers a_cells a_operands a_triggers a_starts a_oldResult a_newResult a_resultAt a_loops a_setCounts a_putCounts := by
  have hcb : (nI b).toNatClampNeg = b := nI_clamp (by omega)
  have ib : vp_in (nI b) 400 := vp_in_nI hb (by omega)
  have ek : (2 : Int32) * nI b + a_filled (nI b).toNatClampNeg = nI (cs_k c f t) := by
    rw [hcb, R.2.2.2.2.2.2.1.1 b hb, show (2 : Int32) * nI b = nI (2 * b) from pk_mul 2 b, nI_add, hk]
  have hk8 : cs_k c f t < 800 := by omega
  have ik : vp_in (nI (cs_k c f t)) 800 := vp_in_nI hk8 (by omega)
  have hck : (nI (cs_k c f t)).toNatClampNeg = cs_k c f t := nI_clamp (by omega)
  have ef : upd a_filled (nI b).toNatClampNeg (a_filled (nI b).toNatClampNeg + 1) = upd a_filled b (nI (cs_ct c b + 1)) := by
    rw [hcb, R.2.2.2.2.2.2.1.1 b hb, nI_1]
  have hkb : cs_k c f t / 2 = b := by omega
  have WL : ∀ r, r < 12 → ¬ t < 11 → a_lastWrite r = nI (cs_lw (cs_pl c f v t e) r) - 1 := by
    intro r hr ht
    show a_lastWrite r = nI ((if t < 11 then cs_fu (cs_lw c) t (cs_k c f t / 2 + 1) else cs_lw c) r) - 1
    rw [if_neg ht]
    exact R.2.2.2.2.1 r hr
  have TL : ∀ u, u < 4 → ¬ (24 ≤ t ∧ t < 28) → a_lastTrigger u = nI (cs_lt (cs_pl c f v t e) u) - 1 := by
    intro u hu ht
    show a_lastTrigger u = nI ((if 24 ≤ t ∧ t < 28 then cs_fu (cs_lt c) (t - 24) (cs_k c f t / 2 + 1) else cs_lt c) u) - 1
    rw [if_neg ht]
    exact R.2.2.2.2.2.1 u hu
  unfold wX_place_178
  refine br_t (nI_lt (b := 400) hb (by omega)) ⟨ib, nm_r (e' := nI (cs_k c f t)) ek ⟨ik, nm_r (e' := upd a_source (cs_k c f t) (nI f)) (by rw [hck]) ⟨ik, nm_r (e' := upd a_constant (cs_k c f t) v) (by rw [hck]) ⟨ik, nm_r (e' := upd a_target (cs_k c f t) (nI t)) (by rw [hck]) ⟨ik, nm_r (e' := upd a_extra (cs_k c f t) e) (by rw [hck]) ⟨ib, ib, nm_r (e' := upd a_filled b (nI (cs_ct c b + 1))) ef ?_⟩⟩⟩⟩⟩⟩
  refine pk_le 11 t (fun l => ?_) (fun l => ?_)
  · refine pk_lt t 24 (fun l2 => ?_) (fun l2 => pk_le 28 t (fun l3 => ?_) (fun l3 => ?_))
    · exact hp _ _ _ _ _ _ _ _ _ _ _ _ _ (cs_RCpl R H h1 hk (fun r hr => WL r hr (by omega)) (fun u hu => TL u hu (by omega))) (by rw [hkb])
    · exact hp _ _ _ _ _ _ _ _ _ _ _ _ _ (cs_RCpl R H h1 hk (fun r hr => WL r hr (by omega)) (fun u hu => TL u hu (by omega))) (by rw [hkb])
    · have es : nI t - 24 = nI (t - 24) := pk_sub (b := 24) (by omega)
      have ec : (nI t - 24).toNatClampNeg = t - 24 := by rw [es]; exact nI_clamp (by omega)
      refine ⟨by rw [es]; exact vp_in_nI (by omega) (by omega), nm_r (e' := upd a_lastTrigger (t - 24) (nI b)) (by rw [ec]) ?_⟩
      refine hp _ _ _ _ _ _ _ _ _ _ _ _ _ (cs_RCpl R H h1 hk (fun r hr => WL r hr (by omega)) (fun u hu => ?_)) (by rw [hkb])
      show upd a_lastTrigger (t - 24) (nI b) u = nI ((if 24 ≤ t ∧ t < 28 then cs_fu (cs_lt c) (t - 24) (cs_k c f t / 2 + 1) else cs_lt c) u) - 1
      rw [if_pos ⟨l2, l3⟩]
      by_cases z : u = t - 24
      · rw [z, pk_us, cs_us, hkb, nI_pred]
      · rw [pk_un z, cs_un z]
        exact R.2.2.2.2.2.1 u hu
  · have hct : (nI t).toNatClampNeg = t := nI_clamp (by omega)
    refine ⟨vp_in_nI (by omega) (by omega), nm_r (e' := upd a_lastWrite t (nI b)) (by rw [hct]) ?_⟩
    refine hp _ _ _ _ _ _ _ _ _ _ _ _ _ (cs_RCpl R H h1 hk (fun r hr => ?_) (fun u hu => TL u hu (by omega))) (by rw [hkb])
    show upd a_lastWrite t (nI b) r = nI ((if t < 11 then cs_fu (cs_lw c) t (cs_k c f t / 2 + 1) else cs_lw c) r) - 1
    rw [if_pos l]
    by_cases z : r = t
    · rw [z, pk_us, cs_us, hkb, nI_pred]
    · rw [pk_un z, cs_un z]
      exact R.2.2.2.2.1 r hr
theorem xw_p155 {B : Nat} (R : cs_RC c h d f_bundle a_slotSource a_slotValue a_holder a_ready a_lastWrite a_lastTrigger a_filled a_source a_constant a_target a_extra a_opened) (H : cs_CB c) (hm : (cs_fr c + 1) / 2 + 3 < 400) (ht : t < 11 ∨ (20 ≤ t ∧ t < 30)) (eB : f_bundle = nI B) (hB : cs_fr c = 2 * B + cs_ct c B) (hb : b = max B (cs_con c f t)) (hp : ∀ (f_bundle : Int32) (a_slotSource a_slotValue a_holder a_ready a_lastWrite a_lastTrigger a_filled a_source a_constant a_target a_extra a_opened : Nat → Int32), cs_RC (cs_pl c f v t e) h d f_bundle a_slotSource a_slotValue a_holder a_ready a_lastWrite a_lastTrigger a_filled a_source a_constant a_target a_extra a_opened → f_bundle = nI (cs_k c f t / 2) → post (f_count, f_tall, f_open, f_bundle, f_compiled, f_cycle, f_place, f_loopDepth, f_effects, a_kinds, a_arguments, a_slotSource, a_slotValue, a_holder, a_ready, a_lastWrite, a_lastTrigger, a_filled, a_source, a_constant, a_target, a_extra, a_opened, a_registers, a_cells, a_operands, a_triggers, a_starts, a_oldResult, a_newResult, a_resultAt, a_loops, a_setCounts, a_putCounts)) : wX_place_155 post (nI f) v (nI t) e (nI b) f_count f_tall f_open f_bundle f_compiled f_cycle f_place f_loopDepth f_effects a_kinds a_arguments a_slotSource a_slotValue a_holder a_ready a_lastWrite a_lastTrigger a_filled a_source a_constant a_target a_extra a_opened a_registers a_cells a_operands a_triggers a_starts a_oldResult a_newResult a_resultAt a_loops a_setCounts a_putCounts := by
  have hco := cs_conB H f t
  have h2 := cs_ct2 c B
  have hk : cs_k c f t = max (cs_fr c) (2 * cs_con c f t) := rfl
  unfold wX_place_155
  rw [eB]
  rw [eB] at R
  refine pk_eq b B (fun z => ?_) (fun z => ?_)
  · subst z
    have eF : a_filled (nI b).toNatClampNeg = nI (cs_ct c b) := by rw [nI_clamp (by omega)]; exact R.2.2.2.2.2.2.1.1 b (by omega)
    refine ⟨vp_in_nI (by omega) (by omega), ?_⟩
    rw [eF]
    refine pk_eq (cs_ct c b) 2 (fun y => ?_) (fun y => ?_)
    · have z0 : cs_ct c (b + 1) = 0 := cs_ct0 H (by omega)
      exact nm_r (e' := nI (b + 1)) (nI_1 b) (xw_p178 R H ht (by omega) (by omega) (by omega) hp)
    · exact xw_p178 R H ht (by omega) (by omega) (by omega) hp
  · have z0 : cs_ct c b = 0 := cs_ct0 H (by omega)
    exact xw_p178 R H ht (by omega) (by omega) (by omega) hp
theorem xw_p128 (R : cs_RC c h d f_bundle a_slotSource a_slotValue a_holder a_ready a_lastWrite a_lastTrigger a_filled a_source a_constant a_target a_extra a_opened) (hl : cs_lt c 3 < 2 ^ 30) (hb : b < 2 ^ 30) (ht : t < 30) (hp : wX_place_155 post (nI f) v (nI t) e (nI (max b (if t = 26 then cs_lt c 3 else 0))) f_count f_tall f_open f_bundle f_compiled f_cycle f_place f_loopDepth f_effects a_kinds a_arguments a_slotSource a_slotValue a_holder a_ready a_lastWrite a_lastTrigger a_filled a_source a_constant a_target a_extra a_opened a_registers a_cells a_operands a_triggers a_starts a_oldResult a_newResult a_resultAt a_loops a_setCounts a_putCounts) : wX_place_128 post (nI f) v (nI t) e (nI b) f_count f_tall f_open f_bundle f_compiled f_cycle f_place f_loopDepth f_effects a_kinds a_arguments a_slotSource a_slotValue a_holder a_ready a_lastWrite a_lastTrigger a_filled a_source a_constant a_target a_extra a_opened a_registers a_cells a_operands a_triggers a_starts a_oldResult a_newResult a_resultAt a_loops a_setCounts a_putCounts := by
  unfold wX_place_128
  refine pk_eq t 26 (fun z => ?_) (fun z => ?_)
  · rw [if_pos z] at hp
    have K := cs_l5 (P := fun x => wX_place_155 post (nI f) v (nI t) e x f_count f_tall f_open f_bundle f_compiled f_cycle f_place f_loopDepth f_effects a_kinds a_arguments a_slotSource a_slotValue a_holder a_ready a_lastWrite a_lastTrigger a_filled a_source a_constant a_target a_extra a_opened a_registers a_cells a_operands a_triggers a_starts a_oldResult a_newResult a_resultAt a_loops a_setCounts a_putCounts) (R.2.2.2.2.2.1 3 (by omega)) hl hb hp
    exact ⟨K.1, fun n => nm_e (K.2 n)⟩
  · rw [if_neg z, Nat.max_eq_left (Nat.zero_le _)] at hp
    exact hp
theorem xw_p91 (R : cs_RC c h d f_bundle a_slotSource a_slotValue a_holder a_ready a_lastWrite a_lastTrigger a_filled a_source a_constant a_target a_extra a_opened) (hl : cs_lt c (t % 4) < 2 ^ 30) (hb : b < 2 ^ 30) (ht : t < 30) (hp : wX_place_128 post (nI f) v (nI t) e (nI (max b (if 20 ≤ t ∧ t < 28 then cs_lt c (t % 4) else 0))) f_count f_tall f_open f_bundle f_compiled f_cycle f_place f_loopDepth f_effects a_kinds a_arguments a_slotSource a_slotValue a_holder a_ready a_lastWrite a_lastTrigger a_filled a_source a_constant a_target a_extra a_opened a_registers a_cells a_operands a_triggers a_starts a_oldResult a_newResult a_resultAt a_loops a_setCounts a_putCounts) : wX_place_91 post (nI f) v (nI t) e (nI b) f_count f_tall f_open f_bundle f_compiled f_cycle f_place f_loopDepth f_effects a_kinds a_arguments a_slotSource a_slotValue a_holder a_ready a_lastWrite a_lastTrigger a_filled a_source a_constant a_target a_extra a_opened a_registers a_cells a_operands a_triggers a_starts a_oldResult a_newResult a_resultAt a_loops a_setCounts a_putCounts := by
  unfold wX_place_91
  refine pk_lt t 20 (fun z => ?_) (fun z => pk_le 28 t (fun y => ?_) (fun y => ?_))
  · rw [if_neg (by omega), Nat.max_eq_left (Nat.zero_le _)] at hp
    exact hp
  · rw [if_neg (by omega), Nat.max_eq_left (Nat.zero_le _)] at hp
    exact hp
  · rw [if_pos ⟨z, y⟩] at hp
    have ea : nI t &&& 3 = nI (t % 4) := pk_andN (by omega) 2 (by decide)
    have ec : (nI t &&& 3).toNatClampNeg = t % 4 := by rw [ea]; exact nI_clamp (by omega)
    have ei : vp_in (nI t &&& 3) 4 := by rw [ea]; exact vp_in_nI (by omega) (by omega)
    have K := cs_l5 (P := fun x => wX_place_128 post (nI f) v (nI t) e x f_count f_tall f_open f_bundle f_compiled f_cycle f_place f_loopDepth f_effects a_kinds a_arguments a_slotSource a_slotValue a_holder a_ready a_lastWrite a_lastTrigger a_filled a_source a_constant a_target a_extra a_opened a_registers a_cells a_operands a_triggers a_starts a_oldResult a_newResult a_resultAt a_loops a_setCounts a_putCounts) (R.2.2.2.2.2.1 (t % 4) (by omega)) hl hb hp
    rw [← ec] at K
    exact ⟨ei, K.1, fun n => ⟨ei, nm_e (K.2 n)⟩⟩
theorem xw_p64 (R : cs_RC c h d f_bundle a_slotSource a_slotValue a_holder a_ready a_lastWrite a_lastTrigger a_filled a_source a_constant a_target a_extra a_opened) (hl : cs_lw c t < 2 ^ 30) (hb : b < 2 ^ 30) (ht : t < 30) (hp : wX_place_91 post (nI f) v (nI t) e (nI (max b (if t < 11 then cs_lw c t else 0))) f_count f_tall f_open f_bundle f_compiled f_cycle f_place f_loopDepth f_effects a_kinds a_arguments a_slotSource a_slotValue a_holder a_ready a_lastWrite a_lastTrigger a_filled a_source a_constant a_target a_extra a_opened a_registers a_cells a_operands a_triggers a_starts a_oldResult a_newResult a_resultAt a_loops a_setCounts a_putCounts) : wX_place_64 post (nI f) v (nI t) e (nI b) f_count f_tall f_open f_bundle f_compiled f_cycle f_place f_loopDepth f_effects a_kinds a_arguments a_slotSource a_slotValue a_holder a_ready a_lastWrite a_lastTrigger a_filled a_source a_constant a_target a_extra a_opened a_registers a_cells a_operands a_triggers a_starts a_oldResult a_newResult a_resultAt a_loops a_setCounts a_putCounts := by
  unfold wX_place_64
  refine pk_le 11 t (fun z => ?_) (fun z => ?_)
  · rw [if_neg (by omega), Nat.max_eq_left (Nat.zero_le _)] at hp
    exact hp
  · rw [if_pos z] at hp
    have ec : (nI t).toNatClampNeg = t := nI_clamp (by omega)
    have ei : vp_in (nI t) 12 := vp_in_nI (by omega) (by omega)
    have K := cs_l5 (P := fun x => wX_place_91 post (nI f) v (nI t) e x f_count f_tall f_open f_bundle f_compiled f_cycle f_place f_loopDepth f_effects a_kinds a_arguments a_slotSource a_slotValue a_holder a_ready a_lastWrite a_lastTrigger a_filled a_source a_constant a_target a_extra a_opened a_registers a_cells a_operands a_triggers a_starts a_oldResult a_newResult a_resultAt a_loops a_setCounts a_putCounts) (R.2.2.2.2.1 t (by omega)) hl hb hp
    rw [ec]
    exact ⟨ei, K.1, fun n => ⟨ei, nm_e (K.2 n)⟩⟩
theorem xw_p33 (R : cs_RC c h d f_bundle a_slotSource a_slotValue a_holder a_ready a_lastWrite a_lastTrigger a_filled a_source a_constant a_target a_extra a_opened) (hl : cs_rd c (f - 16) < 2 ^ 30) (hb : b < 2 ^ 30) (hf : cs_S f) (hp : wX_place_64 post (nI f) v (nI t) e (nI (max b (if 16 ≤ f then cs_rd c (f - 16) else 0))) f_count f_tall f_open f_bundle f_compiled f_cycle f_place f_loopDepth f_effects a_kinds a_arguments a_slotSource a_slotValue a_holder a_ready a_lastWrite a_lastTrigger a_filled a_source a_constant a_target a_extra a_opened a_registers a_cells a_operands a_triggers a_starts a_oldResult a_newResult a_resultAt a_loops a_setCounts a_putCounts) : wX_place_33 post (nI f) v (nI t) e (nI b) f_count f_tall f_open f_bundle f_compiled f_cycle f_place f_loopDepth f_effects a_kinds a_arguments a_slotSource a_slotValue a_holder a_ready a_lastWrite a_lastTrigger a_filled a_source a_constant a_target a_extra a_opened a_registers a_cells a_operands a_triggers a_starts a_oldResult a_newResult a_resultAt a_loops a_setCounts a_putCounts := by
  unfold cs_S at hf
  unfold wX_place_33
  refine pk_lt f 16 (fun z => ?_) (fun z => ?_)
  · rw [if_neg (by omega), Nat.max_eq_left (Nat.zero_le _)] at hp
    exact hp
  · rw [if_pos z] at hp
    have es : nI f - 16 = nI (f - 16) := pk_sub (b := 16) z
    have ec : (nI f - 16).toNatClampNeg = f - 16 := by rw [es]; exact nI_clamp (by omega)
    have ei : vp_in (nI f - 16) 3 := by rw [es]; exact vp_in_nI (by omega) (by omega)
    rw [ec, R.2.2.2.1 (f - 16) (by omega)]
    refine ⟨ei, pk_le (cs_rd c (f - 16)) b (fun y => ?_) (fun y => ⟨ei, nm_e ?_⟩)⟩
    · rw [Nat.max_eq_left y] at hp
      exact hp
    · rw [Nat.max_eq_right (by omega)] at hp
      exact hp
theorem xw_place (R : cs_RC c h d f_bundle a_slotSource a_slotValue a_holder a_ready a_lastWrite a_lastTrigger a_filled a_source a_constant a_target a_extra a_opened) (H : cs_CB c) (hm : (cs_fr c + 1) / 2 + 3 < 400) (hf : cs_S f) (ht : t < 11 ∨ (20 ≤ t ∧ t < 30)) (hp : ∀ (f_bundle : Int32) (a_slotSource a_slotValue a_holder a_ready a_lastWrite a_lastTrigger a_filled a_source a_constant a_target a_extra a_opened : Nat → Int32), cs_RC (cs_pl c f v t e) h d f_bundle a_slotSource a_slotValue a_holder a_ready a_lastWrite a_lastTrigger a_filled a_source a_constant a_target a_extra a_opened → f_bundle = nI (cs_k c f t / 2) → post (f_count, f_tall, f_open, f_bundle, f_compiled, f_cycle, f_place, f_loopDepth, f_effects, a_kinds, a_arguments, a_slotSource, a_slotValue, a_holder, a_ready, a_lastWrite, a_lastTrigger, a_filled, a_source, a_constant, a_target, a_extra, a_opened, a_registers, a_cells, a_operands, a_triggers, a_starts, a_oldResult, a_newResult, a_resultAt, a_loops, a_setCounts, a_putCounts)) : wpX_place post (f_count, f_tall, f_open, f_bundle, f_compiled, f_cycle, f_place, f_loopDepth, f_effects, a_kinds, a_arguments, a_slotSource, a_slotValue, a_holder, a_ready, a_lastWrite, a_lastTrigger, a_filled, a_source, a_constant, a_target, a_extra, a_opened, a_registers, a_cells, a_operands, a_triggers, a_starts, a_oldResult, a_newResult, a_resultAt, a_loops, a_setCounts, a_putCounts) (nI f) v (nI t) e := by
  obtain ⟨B, eB, hB⟩ := R.1
  have g7 := H.2.2.2.2.2.2.1
  have g8 := H.2.2.2.2.2.2.2.1
  have g9 := H.2.2.2.2.2.2.2.2.1
  have l1 := g7 f
  have l2 := g9 (f - 16)
  have l3 := g7 t
  have l4 := g8 (t % 4)
  have l5 := g8 3
  have k1 : (if f < 11 then cs_lw c f else 0) < 2 ^ 20 := by split <;> omega
  have k2 : (if 16 ≤ f then cs_rd c (f - 16) else 0) < 2 ^ 20 := by split <;> omega
  have k3 : (if t < 11 then cs_lw c t else 0) < 2 ^ 20 := by split <;> omega
  have k4 : (if 20 ≤ t ∧ t < 28 then cs_lt c (t % 4) else 0) < 2 ^ 20 := by split <;> omega
  have hcon : ∀ x1 x2 x3 x4 x5 : Nat, max (max (max (max (max B x1) x2) x3) x4) x5 = max B (max (max (max (max x1 x2) x3) x4) x5) := by intros; omega
  have P33 : wX_place_33 post (nI f) v (nI t) e (nI (max B (if f < 11 then cs_lw c f else 0))) f_count f_tall f_open f_bundle f_compiled f_cycle f_place f_loopDepth f_effects a_kinds a_arguments a_slotSource a_slotValue a_holder a_ready a_lastWrite a_lastTrigger a_filled a_source a_constant a_target a_extra a_opened a_registers a_cells a_operands a_triggers a_starts a_oldResult a_newResult a_resultAt a_loops a_setCounts a_putCounts := by
    refine xw_p33 R (by omega) (by omega) hf (xw_p64 R (by omega) (by omega) (by omega) (xw_p91 R (by omega) (by omega) (by omega) (xw_p128 R (by omega) (by omega) (by omega) (xw_p155 R H hm ht eB hB ?_ hp))))
    exact hcon _ _ _ _ _
  have hf30 : f < 30 := by unfold cs_S at hf; omega
  unfold wpX_place
  refine pk_le 11 f (fun z => ?_) (fun z => ?_)
  · rw [if_neg (by omega), Nat.max_eq_left (Nat.zero_le _), ← eB] at P33
    exact P33
  · rw [if_pos z] at P33
    have ec : (nI f).toNatClampNeg = f := nI_clamp (by omega)
    have ei : vp_in (nI f) 12 := vp_in_nI (by omega) (by omega)
    have K := cs_l5 (P := fun x => wX_place_33 post (nI f) v (nI t) e x f_count f_tall f_open f_bundle f_compiled f_cycle f_place f_loopDepth f_effects a_kinds a_arguments a_slotSource a_slotValue a_holder a_ready a_lastWrite a_lastTrigger a_filled a_source a_constant a_target a_extra a_opened a_registers a_cells a_operands a_triggers a_starts a_oldResult a_newResult a_resultAt a_loops a_setCounts a_putCounts) (R.2.2.2.2.1 f (by omega)) (by omega) (by omega) P33
    rw [← eB] at K
    rw [ec]
    exact ⟨ei, K.1, fun n => ⟨ei, nm_e (K.2 n)⟩⟩
end
end
section
/-! the walks of fromSlot, spill, inPort, loadCell, combine, nextBundle, closeLoop -/
theorem cs_RChd {c : cs_T} {h d : Nat} {x : Nat → Nat} {f_bundle : Int32} {a_slotSource : Nat → Int32} {a_slotValue : Nat → Int32} {a_holder : Nat → Int32} {a_ready : Nat → Int32} {a_lastWrite : Nat → Int32} {a_lastTrigger : Nat → Int32} {a_filled : Nat → Int32} {a_source : Nat → Int32} {a_constant : Nat → Int32} {a_target : Nat → Int32} {a_extra : Nat → Int32} {a_opened : Nat → Int32} {hd' : Nat → Int32} (R : cs_RC c h d f_bundle a_slotSource a_slotValue a_holder a_ready a_lastWrite a_lastTrigger a_filled a_source a_constant a_target a_extra a_opened) (hx : ∀ u, u < 3 → hd' u = nI (x u) - 1) : cs_RC (cs_wHd c x) h d f_bundle a_slotSource a_slotValue hd' a_ready a_lastWrite a_lastTrigger a_filled a_source a_constant a_target a_extra a_opened :=
  ⟨R.1, R.2.1, hx, R.2.2.2⟩
theorem cs_RCss {c : cs_T} {h d : Nat} {x : Nat → Nat} {f_bundle : Int32} {a_slotSource : Nat → Int32} {a_slotValue : Nat → Int32} {a_holder : Nat → Int32} {a_ready : Nat → Int32} {a_lastWrite : Nat → Int32} {a_lastTrigger : Nat → Int32} {a_filled : Nat → Int32} {a_source : Nat → Int32} {a_constant : Nat → Int32} {a_target : Nat → Int32} {a_extra : Nat → Int32} {a_opened : Nat → Int32} {ss' : Nat → Int32} (R : cs_RC c h d f_bundle a_slotSource a_slotValue a_holder a_ready a_lastWrite a_lastTrigger a_filled a_source a_constant a_target a_extra a_opened) (hx : ∀ s, s < h → ss' s = nI (x s)) : cs_RC (cs_wSs c x) h d f_bundle ss' a_slotValue a_holder a_ready a_lastWrite a_lastTrigger a_filled a_source a_constant a_target a_extra a_opened :=
  ⟨R.1, fun s hs => ⟨hx s hs, (R.2.1 s hs).2⟩, R.2.2⟩
section
variable {f_count : Int32} {f_tall : Int32} {f_open : Int32} {f_bundle : Int32} {f_compiled : Int32} {f_cycle : Int32} {f_place : Int32} {f_loopDepth : Int32} {f_effects : Int32} {a_kinds : Nat → Int32} {a_arguments : Nat → Int32} {a_slotSource : Nat → Int32} {a_slotValue : Nat → Int32} {a_holder : Nat → Int32} {a_ready : Nat → Int32} {a_lastWrite : Nat → Int32} {a_lastTrigger : Nat → Int32} {a_filled : Nat → Int32} {a_source : Nat → Int32} {a_constant : Nat → Int32} {a_target : Nat → Int32} {a_extra : Nat → Int32} {a_opened : Nat → Int32} {a_registers : Nat → Int32} {a_cells : Nat → Int32} {a_operands : Nat → Int32} {a_triggers : Nat → Int32} {a_starts : Nat → Int32} {a_oldResult : Nat → Int32} {a_newResult : Nat → Int32} {a_resultAt : Nat → Int32} {a_loops : Nat → Int32} {a_setCounts : Nat → Int32} {a_putCounts : Nat → Int32} {post : SX → Prop} {c : cs_T} {P : Nat → Prop} {h d s t u m dl : Nat} {v e : Int32}
theorem xw_fsl (R : cs_RC c h d f_bundle a_slotSource a_slotValue a_holder a_ready a_lastWrite a_lastTrigger a_filled a_source a_constant a_target a_extra a_opened) (I : cs_I c P m) (hm : m + 3 < 400) (hs : P s) (hh : s < h) (ht : t < 11 ∨ (20 ≤ t ∧ t < 30)) (hp : ∀ (f_bundle : Int32) (a_slotSource a_slotValue a_holder a_ready a_lastWrite a_lastTrigger a_filled a_source a_constant a_target a_extra a_opened : Nat → Int32), cs_RC (cs_fsl c s t e) h d f_bundle a_slotSource a_slotValue a_holder a_ready a_lastWrite a_lastTrigger a_filled a_source a_constant a_target a_extra a_opened → f_bundle = nI (cs_k c (cs_ss c s) t / 2) → post (f_count, f_tall, f_open, f_bundle, f_compiled, f_cycle, f_place, f_loopDepth, f_effects, a_kinds, a_arguments, a_slotSource, a_slotValue, a_holder, a_ready, a_lastWrite, a_lastTrigger, a_filled, a_source, a_constant, a_target, a_extra, a_opened, a_registers, a_cells, a_operands, a_triggers, a_starts, a_oldResult, a_newResult, a_resultAt, a_loops, a_setCounts, a_putCounts)) : wpX_fromSlot post (f_count, f_tall, f_open, f_bundle, f_compiled, f_cycle, f_place, f_loopDepth, f_effects, a_kinds, a_arguments, a_slotSource, a_slotValue, a_holder, a_ready, a_lastWrite, a_lastTrigger, a_filled, a_source, a_constant, a_target, a_extra, a_opened, a_registers, a_cells, a_operands, a_triggers, a_starts, a_oldResult, a_newResult, a_resultAt, a_loops, a_setCounts, a_putCounts) (nI s) (nI t) e := by
  have s5 := (I.2.2.1.1 s hs).1
  have eS := cs_Sof I.2.2.1 hs
  have i4 := I.2.2.2
  have ec : (nI s).toNatClampNeg = s := nI_clamp (by omega)
  have ei : vp_in (nI s) 6 := vp_in_nI (by omega) (by omega)
  have r := R.2.1 s hh
  unfold wpX_fromSlot
  dsimp only
  rw [ec, r.1, r.2]
  refine ⟨ei, nm_e ⟨ei, ?_⟩⟩
  refine xw_place R I.1 (by omega) eS ht ?_
  intro f_bundle a_slotSource a_slotValue a_holder a_ready a_lastWrite a_lastTrigger a_filled a_source a_constant a_target a_extra a_opened R' eb
  unfold cs_S at eS
  generalize hq : cs_ss c s = q at *
  have K : ∀ hd' : Nat → Int32, (∀ u, u < 3 → hd' u = nI ((if 16 ≤ q then cs_fu (cs_hd c) (q - 16) 0 else cs_hd c) u) - 1) → post (f_count, f_tall, f_open, f_bundle, f_compiled, f_cycle, f_place, f_loopDepth, f_effects, a_kinds, a_arguments, a_slotSource, a_slotValue, hd', a_ready, a_lastWrite, a_lastTrigger, a_filled, a_source, a_constant, a_target, a_extra, a_opened, a_registers, a_cells, a_operands, a_triggers, a_starts, a_oldResult, a_newResult, a_resultAt, a_loops, a_setCounts, a_putCounts) := by
    intro hd' hx
    refine hp _ _ _ _ _ _ _ _ _ _ _ _ _ ?_ eb
    unfold cs_fsl
    rw [hq]
    exact cs_RChd R' hx
  have g := R'.2.2.1
  have g' : ∀ u, u < 3 → a_holder u = nI (cs_hd c u) - 1 := g
  refine pk_lt q 16 (fun l => ?_) (fun l => pk_le 19 q (fun l2 => ?_) (fun l2 => ?_))
  · refine K _ (fun u hu => ?_)
    rw [if_neg (by omega)]
    exact g' u hu
  · omega
  · have es : nI q - 16 = nI (q - 16) := pk_sub (b := 16) l
    have ec : (nI q - 16).toNatClampNeg = q - 16 := by rw [es]; exact nI_clamp (by omega)
    refine ⟨by rw [es]; exact vp_in_nI (by omega) (by omega), nm_r (e' := upd a_holder (q - 16) (-1)) (by rw [ec]) (K _ (fun u hu => ?_))⟩
    rw [if_pos l]
    by_cases z : u = q - 16
    · rw [z, pk_us, cs_us]
      decide +kernel
    · rw [pk_un z, cs_un z]
      exact g' u hu
theorem xw_spill (R : cs_RC c h d f_bundle a_slotSource a_slotValue a_holder a_ready a_lastWrite a_lastTrigger a_filled a_source a_constant a_target a_extra a_opened) (I : cs_I c P m) (hm : m + 3 < 400) (hu : u < 3) (hP : ∀ j, P j → j < h) (hp : ∀ (f_bundle : Int32) (a_slotSource a_slotValue a_holder a_ready a_lastWrite a_lastTrigger a_filled a_source a_constant a_target a_extra a_opened : Nat → Int32), cs_RC (cs_sp c u) h d f_bundle a_slotSource a_slotValue a_holder a_ready a_lastWrite a_lastTrigger a_filled a_source a_constant a_target a_extra a_opened → post (f_count, f_tall, f_open, f_bundle, f_compiled, f_cycle, f_place, f_loopDepth, f_effects, a_kinds, a_arguments, a_slotSource, a_slotValue, a_holder, a_ready, a_lastWrite, a_lastTrigger, a_filled, a_source, a_constant, a_target, a_extra, a_opened, a_registers, a_cells, a_operands, a_triggers, a_starts, a_oldResult, a_newResult, a_resultAt, a_loops, a_setCounts, a_putCounts)) : wpX_spill post (f_count, f_tall, f_open, f_bundle, f_compiled, f_cycle, f_place, f_loopDepth, f_effects, a_kinds, a_arguments, a_slotSource, a_slotValue, a_holder, a_ready, a_lastWrite, a_lastTrigger, a_filled, a_source, a_constant, a_target, a_extra, a_opened, a_registers, a_cells, a_operands, a_triggers, a_starts, a_oldResult, a_newResult, a_resultAt, a_loops, a_setCounts, a_putCounts) (nI u) := by
  have ec : (nI u).toNatClampNeg = u := nI_clamp (by omega)
  have r := R.2.2.1 u hu
  have hc := I.2.2.1.2 u hu
  unfold wpX_spill
  dsimp only
  rw [ec, r]
  have b6 : cs_hd c u ≤ 5 := by
    by_cases z : cs_hd c u = 0
    · omega
    · have := (I.2.2.1.1 _ (hc z).1).1
      omega
  refine ⟨vp_in_nI hu (by omega), nm_e ⟨fun z => ?_, fun z => ?_⟩⟩
  · rw [cs_l4 (by omega)] at z
    unfold cs_sp at hp
    rw [if_pos z] at hp
    exact hp _ _ _ _ _ _ _ _ _ _ _ _ _ R
  · rw [cs_l4 (by omega)] at z
    unfold cs_sp at hp
    rw [if_neg z] at hp
    obtain ⟨s, e⟩ : ∃ s, cs_hd c u = s + 1 := ⟨cs_hd c u - 1, by omega⟩
    rw [e, Nat.add_sub_cancel] at hp
    have q := hc z
    rw [e, Nat.add_sub_cancel] at q
    rw [e, nI_pred, show (6 : Int32) + nI s = nI (6 + s) from nI_add 6 s]
    have hl := hP s q.1
    refine xw_fsl R I hm q.1 hl (by omega) ?_
    intro f_bundle a_slotSource a_slotValue a_holder a_ready a_lastWrite a_lastTrigger a_filled a_source a_constant a_target a_extra a_opened R' _
    have ec2 : (nI s).toNatClampNeg = s := nI_clamp (by omega)
    refine ⟨vp_in_nI (by omega) (by omega), nm_r (e' := upd a_slotSource s (nI (6 + s))) (by rw [ec2]) ?_⟩
    refine hp _ _ _ _ _ _ _ _ _ _ _ _ _ (cs_RCss R' (fun j hj => ?_))
    by_cases y : j = s
    · rw [y, pk_us, cs_us]
    · rw [pk_un y, cs_un y]
      exact (R'.2.1 j hj).1
theorem xw_inPort (R : cs_RC c h d f_bundle a_slotSource a_slotValue a_holder a_ready a_lastWrite a_lastTrigger a_filled a_source a_constant a_target a_extra a_opened) (hs : s < 5) (hu : u < 3) (hl : 0 < cs_lt c u) (hp : ∀ (f_bundle : Int32) (a_slotSource a_slotValue a_holder a_ready a_lastWrite a_lastTrigger a_filled a_source a_constant a_target a_extra a_opened : Nat → Int32), cs_RC (cs_ip c s u dl) h d f_bundle a_slotSource a_slotValue a_holder a_ready a_lastWrite a_lastTrigger a_filled a_source a_constant a_target a_extra a_opened → post (f_count, f_tall, f_open, f_bundle, f_compiled, f_cycle, f_place, f_loopDepth, f_effects, a_kinds, a_arguments, a_slotSource, a_slotValue, a_holder, a_ready, a_lastWrite, a_lastTrigger, a_filled, a_source, a_constant, a_target, a_extra, a_opened, a_registers, a_cells, a_operands, a_triggers, a_starts, a_oldResult, a_newResult, a_resultAt, a_loops, a_setCounts, a_putCounts)) : wpX_inPort post (f_count, f_tall, f_open, f_bundle, f_compiled, f_cycle, f_place, f_loopDepth, f_effects, a_kinds, a_arguments, a_slotSource, a_slotValue, a_holder, a_ready, a_lastWrite, a_lastTrigger, a_filled, a_source, a_constant, a_target, a_extra, a_opened, a_registers, a_cells, a_operands, a_triggers, a_starts, a_oldResult, a_newResult, a_resultAt, a_loops, a_setCounts, a_putCounts) (nI s) (nI u) (nI dl) := by
  have es : (nI s).toNatClampNeg = s := nI_clamp (by omega)
  have eu : (nI u).toNatClampNeg = u := nI_clamp (by omega)
  have iu : vp_in (nI u) 3 := vp_in_nI hu (by omega)
  unfold wpX_inPort
  dsimp only
  rw [es, eu, show (16 : Int32) + nI u = nI (16 + u) from nI_add 16 u, R.2.2.2.2.2.1 u (by omega)]
  have er : nI (cs_lt c u) - 1 + nI dl = nI (cs_lt c u - 1 + dl) := by
    rw [show nI (cs_lt c u) - 1 = nI (cs_lt c u - 1) from pk_sub (b := 1) hl, nI_add]
  refine ⟨vp_in_nI (by omega) (by omega), nm_e ⟨iu, nm_e ⟨vp_in_nI (by omega) (by omega), iu, nm_e ?_⟩⟩⟩
  refine hp _ _ _ _ _ _ _ _ _ _ _ _ _ ⟨R.1, fun j hj => ⟨?_, (R.2.1 j hj).2⟩, fun w hw => ?_, fun w hw => ?_, R.2.2.2.2⟩
  · show upd a_slotSource s (nI (16 + u)) j = nI (cs_fu (cs_ss c) s (16 + u) j)
    by_cases y : j = s
    · rw [y, pk_us, cs_us]
    · rw [pk_un y, cs_un y]; exact (R.2.1 j hj).1
  · show upd a_holder u (nI s) w = nI (cs_fu (cs_hd c) u (s + 1) w) - 1
    by_cases y : w = u
    · rw [y, pk_us, cs_us, nI_pred]
    · rw [pk_un y, cs_un y]; exact R.2.2.1 w hw
  · show upd a_ready u (nI (cs_lt c u) - 1 + nI dl) w = nI (cs_fu (cs_rd c) u (cs_lt c u - 1 + dl) w)
    by_cases y : w = u
    · rw [y, pk_us, cs_us, er]
    · rw [pk_un y, cs_un y]; exact R.2.2.2.1 w hw
theorem xw_load (R : cs_RC c h d f_bundle a_slotSource a_slotValue a_holder a_ready a_lastWrite a_lastTrigger a_filled a_source a_constant a_target a_extra a_opened) (I : cs_I c (fun j => j < h) m) (hm : m + 6 < 400) (h1 : 1 ≤ h) (h5 : h ≤ 5) (hp : ∀ (f_bundle : Int32) (a_slotSource a_slotValue a_holder a_ready a_lastWrite a_lastTrigger a_filled a_source a_constant a_target a_extra a_opened : Nat → Int32), cs_RC (cs_ld c (h - 1)) h d f_bundle a_slotSource a_slotValue a_holder a_ready a_lastWrite a_lastTrigger a_filled a_source a_constant a_target a_extra a_opened → post (f_count, f_tall, f_open, f_bundle, f_compiled, f_cycle, f_place, f_loopDepth, f_effects, a_kinds, a_arguments, a_slotSource, a_slotValue, a_holder, a_ready, a_lastWrite, a_lastTrigger, a_filled, a_source, a_constant, a_target, a_extra, a_opened, a_registers, a_cells, a_operands, a_triggers, a_starts, a_oldResult, a_newResult, a_resultAt, a_loops, a_setCounts, a_putCounts)) : wpX_loadCell post (f_count, f_tall, f_open, f_bundle, f_compiled, f_cycle, f_place, f_loopDepth, f_effects, a_kinds, a_arguments, a_slotSource, a_slotValue, a_holder, a_ready, a_lastWrite, a_lastTrigger, a_filled, a_source, a_constant, a_target, a_extra, a_opened, a_registers, a_cells, a_operands, a_triggers, a_starts, a_oldResult, a_newResult, a_resultAt, a_loops, a_setCounts, a_putCounts) (nI (h - 1)) := by
  have J : ∀ (f_bundle : Int32) (a_slotSource a_slotValue a_holder a_ready a_lastWrite a_lastTrigger a_filled a_source a_constant a_target a_extra a_opened : Nat → Int32), ∀ c1, cs_RC c1 h d f_bundle a_slotSource a_slotValue a_holder a_ready a_lastWrite a_lastTrigger a_filled a_source a_constant a_target a_extra a_opened → cs_I c1 (fun j => j < h) (m + 3) → c1 = (if cs_hd c 2 = h - 1 + 1 then c else cs_sp c 2) → wX_loadCell_15 post (nI (h - 1)) f_count f_tall f_open f_bundle f_compiled f_cycle f_place f_loopDepth f_effects a_kinds a_arguments a_slotSource a_slotValue a_holder a_ready a_lastWrite a_lastTrigger a_filled a_source a_constant a_target a_extra a_opened a_registers a_cells a_operands a_triggers a_starts a_oldResult a_newResult a_resultAt a_loops a_setCounts a_putCounts := by
    intro f_bundle a_slotSource a_slotValue a_holder a_ready a_lastWrite a_lastTrigger a_filled a_source a_constant a_target a_extra a_opened c1 R1 I1 e1
    unfold cs_ld at hp
    rw [← e1] at hp
    unfold wX_loadCell_15
    refine xw_fsl R1 I1 (by omega) (s := h - 1) (t := 26) (by omega) (by omega) (by omega) ?_
    intro f_bundle a_slotSource a_slotValue a_holder a_ready a_lastWrite a_lastTrigger a_filled a_source a_constant a_target a_extra a_opened R2 _
    refine xw_inPort R2 (u := 2) (dl := 2) (by omega) (by omega) ?_ ?_
    · rw [show (26 : Nat) = 24 + 2 from rfl, cs_ltfsl (by omega)]; omega
    · exact hp
  have r := R.2.2.1 2 (by omega)
  have hc := I.2.2.1.2 2 (by omega)
  have b6 : cs_hd c 2 ≤ 5 := by
    by_cases z : cs_hd c 2 = 0
    · omega
    · have := (I.2.2.1.1 _ (hc z).1).1
      omega
  unfold wpX_loadCell
  dsimp only
  rw [r]
  refine ⟨fun z => ?_, fun z => ?_⟩
  · rw [cs_l3 (by omega) (by omega)] at z
    exact J _ _ _ _ _ _ _ _ _ _ _ _ _ c R (cs_Ile I (by omega)) (if_pos z).symm
  · rw [cs_l3 (by omega) (by omega)] at z
    refine xw_spill R I (by omega) (u := 2) (by omega) (fun j hj => hj) ?_
    intro f_bundle a_slotSource a_slotValue a_holder a_ready a_lastWrite a_lastTrigger a_filled a_source a_constant a_target a_extra a_opened R1
    exact J _ _ _ _ _ _ _ _ _ _ _ _ _ _ R1 (cs_Isp I (by omega)).1 (if_neg z).symm
theorem xw_comb {k : Nat} (R : cs_RC c h d f_bundle a_slotSource a_slotValue a_holder a_ready a_lastWrite a_lastTrigger a_filled a_source a_constant a_target a_extra a_opened) (I : cs_I c (fun j => j < h) m) (hm : m + 9 < 400) (h1 : 2 ≤ h) (h5 : h ≤ 5) (hk : 3 ≤ k ∧ k ≤ 8) (hp : ∀ (f_bundle : Int32) (a_slotSource a_slotValue a_holder a_ready a_lastWrite a_lastTrigger a_filled a_source a_constant a_target a_extra a_opened : Nat → Int32), cs_RC (if k = 5 then cs_cb c k (h - 2) (h - 1) 1 3 else cs_cb c k (h - 2) (h - 1) 0 1) h d f_bundle a_slotSource a_slotValue a_holder a_ready a_lastWrite a_lastTrigger a_filled a_source a_constant a_target a_extra a_opened → post (f_count, f_tall, f_open, f_bundle, f_compiled, f_cycle, f_place, f_loopDepth, f_effects, a_kinds, a_arguments, a_slotSource, a_slotValue, a_holder, a_ready, a_lastWrite, a_lastTrigger, a_filled, a_source, a_constant, a_target, a_extra, a_opened, a_registers, a_cells, a_operands, a_triggers, a_starts, a_oldResult, a_newResult, a_resultAt, a_loops, a_setCounts, a_putCounts)) : wpX_combine post (f_count, f_tall, f_open, f_bundle, f_compiled, f_cycle, f_place, f_loopDepth, f_effects, a_kinds, a_arguments, a_slotSource, a_slotValue, a_holder, a_ready, a_lastWrite, a_lastTrigger, a_filled, a_source, a_constant, a_target, a_extra, a_opened, a_registers, a_cells, a_operands, a_triggers, a_starts, a_oldResult, a_newResult, a_resultAt, a_loops, a_setCounts, a_putCounts) (nI k) (nI (h - 2)) (nI (h - 1)) := by
  have G : ∀ u dl, u < 2 → dl = (if u = 1 then 3 else 1) → (∀ (f_bundle : Int32) (a_slotSource a_slotValue a_holder a_ready a_lastWrite a_lastTrigger a_filled a_source a_constant a_target a_extra a_opened : Nat → Int32), cs_RC (cs_cb c k (h - 2) (h - 1) u dl) h d f_bundle a_slotSource a_slotValue a_holder a_ready a_lastWrite a_lastTrigger a_filled a_source a_constant a_target a_extra a_opened → post (f_count, f_tall, f_open, f_bundle, f_compiled, f_cycle, f_place, f_loopDepth, f_effects, a_kinds, a_arguments, a_slotSource, a_slotValue, a_holder, a_ready, a_lastWrite, a_lastTrigger, a_filled, a_source, a_constant, a_target, a_extra, a_opened, a_registers, a_cells, a_operands, a_triggers, a_starts, a_oldResult, a_newResult, a_resultAt, a_loops, a_setCounts, a_putCounts)) → wX_combine_10 post (nI k) (nI (h - 2)) (nI (h - 1)) (nI u) f_count f_tall f_open f_bundle f_compiled f_cycle f_place f_loopDepth f_effects a_kinds a_arguments a_slotSource a_slotValue a_holder a_ready a_lastWrite a_lastTrigger a_filled a_source a_constant a_target a_extra a_opened a_registers a_cells a_operands a_triggers a_starts a_oldResult a_newResult a_resultAt a_loops a_setCounts a_putCounts := by
    intro u dl hu hdl hp
    have J : ∀ (f_bundle : Int32) (a_slotSource a_slotValue a_holder a_ready a_lastWrite a_lastTrigger a_filled a_source a_constant a_target a_extra a_opened : Nat → Int32), ∀ c1, cs_RC c1 h d f_bundle a_slotSource a_slotValue a_holder a_ready a_lastWrite a_lastTrigger a_filled a_source a_constant a_target a_extra a_opened → cs_I c1 (fun j => j < h) (m + 3) → c1 = cs_c1 c (h - 2) (h - 1) u → wX_combine_40 post (nI k) (nI (h - 2)) (nI (h - 1)) (nI u) f_count f_tall f_open f_bundle f_compiled f_cycle f_place f_loopDepth f_effects a_kinds a_arguments a_slotSource a_slotValue a_holder a_ready a_lastWrite a_lastTrigger a_filled a_source a_constant a_target a_extra a_opened a_registers a_cells a_operands a_triggers a_starts a_oldResult a_newResult a_resultAt a_loops a_setCounts a_putCounts := by
      intro f_bundle a_slotSource a_slotValue a_holder a_ready a_lastWrite a_lastTrigger a_filled a_source a_constant a_target a_extra a_opened c1 R1 I1 e1
      unfold cs_cb at hp
      rw [← e1] at hp
      unfold wX_combine_40
      rw [show (20 : Int32) + nI u = nI (20 + u) from nI_add 20 u, show (24 : Int32) + nI u = nI (24 + u) from nI_add 24 u]
      refine xw_fsl R1 I1 (by omega) (s := h - 2) (t := 20 + u) (by omega) (by omega) (by omega) ?_
      intro f_bundle a_slotSource a_slotValue a_holder a_ready a_lastWrite a_lastTrigger a_filled a_source a_constant a_target a_extra a_opened R2 _
      have I2 := cs_Ifsl (s := h - 2) (t := 20 + u) (e := 0) I1 (by omega) (by omega) (fun _ _ => by decide)
      refine xw_fsl R2 I2 (by omega) (s := h - 1) (t := 24 + u) ⟨by omega, by omega⟩ (by omega) (by omega) ?_
      intro f_bundle a_slotSource a_slotValue a_holder a_ready a_lastWrite a_lastTrigger a_filled a_source a_constant a_target a_extra a_opened R3 _
      have L := cs_ltfsl (c := cs_fsl c1 (h - 2) (20 + u) 0) (s := h - 1) (u := u) (e := nI k) (by omega)
      refine pk_eq u 1 (fun z => ?_) (fun z => ?_)
      · rw [if_pos z] at hdl
        subst hdl
        unfold wX_combine_77
        exact xw_inPort R3 (dl := 3) (by omega) (by omega) (by rw [L]; omega) hp
      · rw [if_neg z] at hdl
        subst hdl
        unfold wX_combine_77
        exact xw_inPort R3 (dl := 1) (by omega) (by omega) (by rw [L]; omega) hp
    have r := R.2.2.1 u (by omega)
    have hc := I.2.2.1.2 u (by omega)
    have b6 : cs_hd c u ≤ 5 := by
      by_cases z : cs_hd c u = 0
      · omega
      · have := (I.2.2.1.1 _ (hc z).1).1
        omega
    have eu : (nI u).toNatClampNeg = u := nI_clamp (by omega)
    have iu : vp_in (nI u) 3 := vp_in_nI (by omega) (by omega)
    unfold wX_combine_10
    rw [eu, r]
    refine ⟨iu, fun z => ?_, fun z => ⟨iu, fun y => ?_, fun y => ?_⟩⟩
    · rw [cs_l3 (by omega) (by omega)] at z
      exact J _ _ _ _ _ _ _ _ _ _ _ _ _ c R (cs_Ile I (by omega)) (if_pos (Or.inl z)).symm
    · rw [cs_l3 (by omega) (by omega)] at y
      exact J _ _ _ _ _ _ _ _ _ _ _ _ _ c R (cs_Ile I (by omega)) (if_pos (Or.inr y)).symm
    · rw [cs_l3 (by omega) (by omega)] at z y
      refine xw_spill R I (by omega) (u := u) (by omega) (fun j hj => hj) ?_
      intro f_bundle a_slotSource a_slotValue a_holder a_ready a_lastWrite a_lastTrigger a_filled a_source a_constant a_target a_extra a_opened R1
      exact J _ _ _ _ _ _ _ _ _ _ _ _ _ _ R1 (cs_Isp I (by omega)).1 (if_neg (by omega)).symm
  unfold wpX_combine
  refine pk_eq k 5 (fun z => ?_) (fun z => ?_)
  · rw [if_pos z] at hp
    exact G 1 3 (by omega) rfl hp
  · rw [if_neg z] at hp
    exact G 0 1 (by omega) rfl hp
theorem xw_next (R : cs_RC c h d f_bundle a_slotSource a_slotValue a_holder a_ready a_lastWrite a_lastTrigger a_filled a_source a_constant a_target a_extra a_opened) (H : cs_CB c) (hm : (cs_fr c + 1) / 2 < 399) (hp : ∀ (f_bundle : Int32) (a_slotSource a_slotValue a_holder a_ready a_lastWrite a_lastTrigger a_filled a_source a_constant a_target a_extra a_opened : Nat → Int32), cs_RC (cs_nb c) h d f_bundle a_slotSource a_slotValue a_holder a_ready a_lastWrite a_lastTrigger a_filled a_source a_constant a_target a_extra a_opened → f_bundle = nI ((cs_fr c + 1) / 2) → post (f_count, f_tall, f_open, f_bundle, f_compiled, f_cycle, f_place, f_loopDepth, f_effects, a_kinds, a_arguments, a_slotSource, a_slotValue, a_holder, a_ready, a_lastWrite, a_lastTrigger, a_filled, a_source, a_constant, a_target, a_extra, a_opened, a_registers, a_cells, a_operands, a_triggers, a_starts, a_oldResult, a_newResult, a_resultAt, a_loops, a_setCounts, a_putCounts)) : wpX_nextBundle post (f_count, f_tall, f_open, f_bundle, f_compiled, f_cycle, f_place, f_loopDepth, f_effects, a_kinds, a_arguments, a_slotSource, a_slotValue, a_holder, a_ready, a_lastWrite, a_lastTrigger, a_filled, a_source, a_constant, a_target, a_extra, a_opened, a_registers, a_cells, a_operands, a_triggers, a_starts, a_oldResult, a_newResult, a_resultAt, a_loops, a_setCounts, a_putCounts) := by
  obtain ⟨⟨B, eB, hB⟩, R2⟩ := R
  subst eB
  have h2 := cs_ct2 c B
  have ec : (nI B).toNatClampNeg = B := nI_clamp (by omega)
  have G : ∀ B', 2 * ((cs_fr c + 1) / 2) = 2 * B' + cs_ct c B' → cs_ct c B' = 0 → post (f_count, f_tall, f_open, nI B', f_compiled, f_cycle, f_place, f_loopDepth, f_effects, a_kinds, a_arguments, a_slotSource, a_slotValue, a_holder, a_ready, a_lastWrite, a_lastTrigger, a_filled, a_source, a_constant, a_target, a_extra, a_opened, a_registers, a_cells, a_operands, a_triggers, a_starts, a_oldResult, a_newResult, a_resultAt, a_loops, a_setCounts, a_putCounts) := by
    intro B' e e0
    exact hp _ _ _ _ _ _ _ _ _ _ _ _ _ ⟨⟨B', rfl, e⟩, R2⟩ (congrArg nI (by omega))
  unfold wpX_nextBundle
  dsimp only
  rw [ec, R2.2.2.2.2.2.1.1 B (by omega)]
  refine ⟨vp_in_nI (by omega) (by omega), pk_le (cs_ct c B) 0 (fun z => ?_) (fun z => pk_le 399 B (fun y => ?_) (fun y => nm_r (e' := nI (B + 1)) (nI_1 B) ?_))⟩
  · exact G B (by omega) (by omega)
  · omega
  · have z0 : cs_ct c (B + 1) = 0 := cs_ct0 H (by omega)
    exact G (B + 1) (by omega) z0
end
end
section
/-! later states keep what stands below the frontier -/
def cs_E (c c' : cs_T) : Prop := cs_fr c ≤ cs_fr c' ∧ ∀ k, k < cs_fr c → cs_vd c' k = cs_vd c k ∧ (cs_vd c k = true → cs_sr c' k = cs_sr c k ∧ cs_vl c' k = cs_vl c k ∧ cs_tg c' k = cs_tg c k ∧ (cs_tg c k ≠ 28 → cs_ex c' k = cs_ex c k))
def cs_EX (c c' : cs_T) : Prop := cs_E c c' ∧ ∀ k, k < cs_fr c → cs_ex c' k = cs_ex c k
theorem cs_Er (c : cs_T) : cs_E c c := ⟨Nat.le_refl _, fun _ _ => ⟨rfl, fun _ => ⟨rfl, rfl, rfl, fun _ => rfl⟩⟩⟩
theorem cs_Et {a b c : cs_T} (h : cs_E a b) (g : cs_E b c) : cs_E a c := by
  refine ⟨Nat.le_trans h.1 g.1, fun k hk => ?_⟩
  have x := h.2 k hk
  have y := g.2 k (Nat.lt_of_lt_of_le hk h.1)
  refine ⟨y.1.trans x.1, fun v => ?_⟩
  have x2 := x.2 v
  have y2 := y.2 (x.1.trans v)
  refine ⟨y2.1.trans x2.1, y2.2.1.trans x2.2.1, y2.2.2.1.trans x2.2.2.1, fun n => ?_⟩
  exact (y2.2.2.2 (by rw [x2.2.2.1]; exact n)).trans (x2.2.2.2 n)
theorem cs_EXr (c : cs_T) : cs_EX c c := ⟨cs_Er c, fun _ _ => rfl⟩
theorem cs_EXt {a b c : cs_T} (h : cs_EX a b) (g : cs_EX b c) : cs_EX a c := ⟨cs_Et h.1 g.1, fun k hk => (g.2 k (Nat.lt_of_lt_of_le hk h.1.1)).trans (h.2 k hk)⟩
theorem cs_EXhd (c : cs_T) (x : Nat → Nat) : cs_EX c (cs_wHd c x) := ⟨⟨Nat.le_refl _, fun _ _ => ⟨rfl, fun _ => ⟨rfl, rfl, rfl, fun _ => rfl⟩⟩⟩, fun _ _ => rfl⟩
theorem cs_EXss (c : cs_T) (x : Nat → Nat) : cs_EX c (cs_wSs c x) := ⟨⟨Nat.le_refl _, fun _ _ => ⟨rfl, fun _ => ⟨rfl, rfl, rfl, fun _ => rfl⟩⟩⟩, fun _ _ => rfl⟩
theorem cs_EXop (c : cs_T) (x : Nat → Nat) : cs_EX c (cs_wOp c x) := ⟨⟨Nat.le_refl _, fun _ _ => ⟨rfl, fun _ => ⟨rfl, rfl, rfl, fun _ => rfl⟩⟩⟩, fun _ _ => rfl⟩
theorem cs_EXip (c : cs_T) (s u dl : Nat) : cs_EX c (cs_ip c s u dl) := ⟨⟨Nat.le_refl _, fun _ _ => ⟨rfl, fun _ => ⟨rfl, rfl, rfl, fun _ => rfl⟩⟩⟩, fun _ _ => rfl⟩
theorem cs_EXpu (c : cs_T) (h s : Nat) (v : Int32) : cs_EX c (cs_pu c h s v) := ⟨⟨Nat.le_refl _, fun _ _ => ⟨rfl, fun _ => ⟨rfl, rfl, rfl, fun _ => rfl⟩⟩⟩, fun _ _ => rfl⟩
theorem cs_EXnb (c : cs_T) : cs_EX c (cs_nb c) := ⟨⟨by rw [cs_frnb]; omega, fun _ _ => ⟨rfl, fun _ => ⟨rfl, rfl, rfl, fun _ => rfl⟩⟩⟩, fun _ _ => rfl⟩
theorem cs_EXpl (c : cs_T) (f t : Nat) (v e : Int32) : cs_EX c (cs_pl c f v t e) := by
  have hk := cs_kfr c f t
  refine ⟨⟨by rw [cs_frpl]; omega, fun k h => ?_⟩, fun k h => ?_⟩
  · have n : k ≠ cs_k c f t := by omega
    exact ⟨cs_un n, fun _ => ⟨cs_un n, cs_un n, cs_un n, fun _ => cs_un n⟩⟩
  · have n : k ≠ cs_k c f t := by omega
    exact cs_un n
theorem cs_Ept (c : cs_T) (f : Nat) : cs_E c (cs_pt c f) := by
  refine ⟨Nat.le_refl _, fun k h => ⟨rfl, fun _ => ⟨rfl, rfl, rfl, fun n => ?_⟩⟩⟩
  exact if_neg (fun z => n z.2.2)
theorem cs_EXfsl (c : cs_T) (s t : Nat) (e : Int32) : cs_EX c (cs_fsl c s t e) := cs_EXt (cs_EXpl c (cs_ss c s) t (cs_sv c s) e) (cs_EXhd _ _)
theorem cs_EXsp (c : cs_T) (u : Nat) : cs_EX c (cs_sp c u) := by
  unfold cs_sp
  split
  · exact cs_EXr c
  · exact cs_EXt (cs_EXfsl c _ _ _) (cs_EXss _ _)
theorem cs_EXc1 (c : cs_T) (x y u : Nat) : cs_EX c (cs_c1 c x y u) := by
  unfold cs_c1
  split
  · exact cs_EXr c
  · exact cs_EXsp c u
theorem cs_EXl1 (c : cs_T) (s : Nat) : cs_EX c (if cs_hd c 2 = s + 1 then c else cs_sp c 2) := by
  split
  · exact cs_EXr c
  · exact cs_EXsp c 2
theorem cs_EXld (c : cs_T) (s : Nat) : cs_EX c (cs_ld c s) := cs_EXt (cs_EXl1 c s) (cs_EXt (cs_EXfsl _ s 26 0) (cs_EXip _ s 2 2))
theorem cs_EXcb (c : cs_T) (kd x y u dl : Nat) : cs_EX c (cs_cb c kd x y u dl) := cs_EXt (cs_EXc1 c x y u) (cs_EXt (cs_EXfsl _ x (20 + u) 0) (cs_EXt (cs_EXfsl _ y (24 + u) (nI kd)) (cs_EXip _ x u dl)))
theorem cs_EXrp (c : cs_T) (s d : Nat) : cs_EX c (cs_rp c s d) := by
  unfold cs_rp
  exact cs_EXt (cs_EXfsl c s 28 0) (cs_EXt (cs_EXop _ _) (cs_EXnb _))
theorem cs_Ecl (c : cs_T) (f : Nat) : cs_E c (cs_cl c f) := by
  unfold cs_cl
  exact cs_Et (cs_EXnb c).1 (cs_Et (cs_EXpl _ 15 29 0 _).1 (cs_Et (cs_EXnb _).1 (cs_Ept _ f)))
theorem cs_clex {c : cs_T} {f k : Nat} (hk : k < cs_fr c) (hn : k / 2 ≠ f) : cs_ex (cs_cl c f) k = cs_ex c k := by
  have a := (cs_EXt (cs_EXnb c) (cs_EXt (cs_EXpl _ 15 29 0 (nI (f + 1))) (cs_EXnb _))).2 k hk
  unfold cs_cl
  rw [← a]
  exact if_neg (fun z => hn z.1)
theorem cs_EXw {c : cs_T} {k : Nat} {a : Int32} {h d : Nat} (hk : k < 12) : cs_EX c (cs_w c k a h d) := by
  unfold cs_w
  split
  · exact cs_EXpu _ _ _ _
  split
  · exact cs_EXpu _ _ _ _
  split
  · exact cs_EXld _ _
  split
  · exact cs_EXcb _ _ _ _ _ _
  split
  · exact cs_EXcb _ _ _ _ _ _
  split
  · exact cs_EXfsl _ _ _ _
  split
  · exact cs_EXt (cs_EXfsl _ _ _ _) (cs_EXfsl _ _ _ _)
  split
  · exact cs_EXrp _ _ _
  · omega
theorem cs_w12 (c : cs_T) (a : Int32) (h d : Nat) : cs_w c 12 a h d = cs_cl c (cs_op c (d - 1)) := by
  unfold cs_w
  rw [if_neg (by omega), if_neg (by omega), if_neg (by omega), if_neg (by omega), if_neg (by omega), if_neg (by omega), if_neg (by omega), if_neg (by omega)]
theorem cs_w11 (c : cs_T) (a : Int32) (h d : Nat) : cs_w c 11 a h d = cs_rp c (h - 1) d := by
  unfold cs_w
  rw [if_neg (by omega), if_neg (by omega), if_neg (by omega), if_neg (by omega), if_neg (by omega), if_neg (by omega), if_neg (by omega), if_pos (by omega)]
theorem cs_w10 (c : cs_T) (a : Int32) (h d : Nat) : cs_w c 10 a h d = cs_fsl (cs_fsl c (h - 2) 23 0) (h - 1) 27 0 := by
  unfold cs_w
  rw [if_neg (by omega), if_neg (by omega), if_neg (by omega), if_neg (by omega), if_neg (by omega), if_neg (by omega), if_pos (by omega)]
theorem cs_w9 (c : cs_T) (a : Int32) (h d : Nat) : cs_w c 9 a h d = cs_fsl c (h - 1) a.toNatClampNeg 0 := by
  unfold cs_w
  rw [if_neg (by omega), if_neg (by omega), if_neg (by omega), if_neg (by omega), if_neg (by omega), if_pos (by omega)]
theorem cs_w38 {c : cs_T} {k : Nat} {a : Int32} {h d : Nat} (h3 : 3 ≤ k) (h8 : k ≤ 8) : cs_w c k a h d = if k = 5 then cs_cb c k (h - 2) (h - 1) 1 3 else cs_cb c k (h - 2) (h - 1) 0 1 := by
  unfold cs_w
  rw [if_neg (by omega), if_neg (by omega), if_neg (by omega), if_pos h8]
theorem cs_w2 (c : cs_T) (a : Int32) (h d : Nat) : cs_w c 2 a h d = cs_ld c (h - 1) := by
  unfold cs_w
  rw [if_neg (by omega), if_neg (by omega), if_pos (by omega)]
theorem cs_w1 (c : cs_T) (a : Int32) (h d : Nat) : cs_w c 1 a h d = cs_pu c h 15 a := by
  unfold cs_w
  rw [if_neg (by omega), if_pos (by omega)]
theorem cs_w0 (c : cs_T) (a : Int32) (h d : Nat) : cs_w c 0 a h d = cs_pu c h a.toNatClampNeg a := by
  unfold cs_w
  rw [if_pos rfl]
theorem cs_Ew {c : cs_T} {k : Nat} {a : Int32} {h d : Nat} (hk : k ≤ 12) : cs_E c (cs_w c k a h d) := by
  rcases Nat.lt_or_ge k 12 with z | z
  · exact (cs_EXw z).1
  · have : k = 12 := by omega
    subst this
    rw [cs_w12]
    exact cs_Ecl _ _
theorem cs_EC {K A : Nat → Int32} {n : Nat} (V : wd_V K A n) {i : Nat} : ∀ {j : Nat}, i ≤ j → j ≤ n → cs_E (cs_C K A i) (cs_C K A j)
  | 0, h, _ => by have : i = 0 := by omega
                  subst this; exact cs_Er _
  | j + 1, h, hn => by
    rcases Nat.lt_or_ge i (j + 1) with z | z
    · exact cs_Et (cs_EC V (by omega) (by omega)) (cs_Ew (V.2 j (by omega)).2.1)
    · have : i = j + 1 := by omega
      subst this; exact cs_Er _
/-! the open repeats -/
def wd_o (K : Nat → Int32) : Nat → Nat → Nat
  | 0, _ => 0
  | i + 1, j => if wd_k K i = 11 ∧ j = wd_N K i then i else wd_o K i j
theorem wd_oS {K A : Nat → Int32} {n : Nat} (V : wd_V K A n) : ∀ i, i ≤ n → ∀ j, j < wd_N K i → wd_o K i j < i ∧ wd_k K (wd_o K i j) = 11 ∧ wd_N K (wd_o K i j) = j ∧ ∀ m, wd_o K i j < m → m ≤ i → j < wd_N K m := by
  intro i
  induction i with
  | zero => intro _ j hj; exact absurd hj (Nat.not_lt_zero _)
  | succ i ih =>
    intro hi j hj
    have hz := (V.2 i (by omega)).2.2.2.2.2.2
    have IH := ih (by omega)
    have eN : wd_N K (i + 1) = wd_n (wd_k K i) (wd_N K i) := rfl
    have eo : wd_o K (i + 1) j = if wd_k K i = 11 ∧ j = wd_N K i then i else wd_o K i j := rfl
    by_cases z : wd_k K i = 11 ∧ j = wd_N K i
    · rw [if_pos z] at eo
      rw [eo]
      refine ⟨by omega, z.1, z.2.symm, fun m h1 h2 => ?_⟩
      have : m = i + 1 := by omega
      subst this
      exact hj
    · rw [if_neg z] at eo
      rw [eo]
      have lj : j < wd_N K i := by
        rw [eN] at hj
        unfold wd_n at hj
        split at hj
        · omega
        · split at hj <;> omega
      obtain ⟨a, b, c, g⟩ := IH j lj
      refine ⟨by omega, b, c, fun m h1 h2 => ?_⟩
      rcases Nat.lt_or_ge m (i + 1) with y | y
      · exact g m h1 (by omega)
      · have : m = i + 1 := by omega
        subst this
        exact hj
theorem cs_opw {c : cs_T} {k : Nat} {a : Int32} {h d : Nat} (hk : k ≠ 11) : cs_op (cs_w c k a h d) = cs_op c := by
  have F : ∀ (c : cs_T) s t e, cs_op (cs_fsl c s t e) = cs_op c := fun _ _ _ _ => rfl
  have W : ∀ (c : cs_T) x, cs_op (cs_wSs c x) = cs_op c := fun _ _ => rfl
  have N : ∀ (c : cs_T), cs_op (cs_nb c) = cs_op c := fun _ => rfl
  have L : ∀ (c : cs_T) f t v e, cs_op (cs_pl c f v t e) = cs_op c := fun _ _ _ _ _ => rfl
  have T : ∀ (c : cs_T) f, cs_op (cs_pt c f) = cs_op c := fun _ _ => rfl
  have S : ∀ (c : cs_T) u, cs_op (cs_sp c u) = cs_op c := by
    intro c u
    unfold cs_sp
    split
    · rfl
    · rw [W, F]
  have I : ∀ (c : cs_T) s u dl, cs_op (cs_ip c s u dl) = cs_op c := fun _ _ _ _ => rfl
  have CB : ∀ (c : cs_T) kd x y u dl, cs_op (cs_cb c kd x y u dl) = cs_op c := by
    intro c kd x y u dl
    unfold cs_cb cs_c1
    rw [I, F, F]
    split
    · rfl
    · exact S _ _
  unfold cs_w
  split
  · rfl
  split
  · rfl
  split
  · unfold cs_ld
    rw [I, F]
    split
    · rfl
    · exact S _ _
  split
  · exact CB _ _ _ _ _ _
  split
  · exact CB _ _ _ _ _ _
  split
  · exact F _ _ _ _
  split
  · rw [F, F]
  · unfold cs_cl
    rw [T, N, L, N]
theorem cs_oprp (c : cs_T) (s d : Nat) : cs_op (cs_rp c s d) = cs_fu (cs_op c) d ((cs_fr (cs_fsl c s 28 0) - 1) / 2) := rfl
theorem cs_frrp (c : cs_T) (s d : Nat) : cs_fr (cs_rp c s d) = 2 * (cs_k c (cs_ss c s) 28 / 2) + 2 := by
  unfold cs_rp
  rw [cs_frnb, cs_frop, cs_frfsl]
  omega
theorem cs_frcl (c : cs_T) (f : Nat) : cs_fr (cs_cl c f) = 2 * ((cs_fr c + 1) / 2) + 2 := by
  unfold cs_cl
  rw [cs_frpt, cs_frnb, cs_frpl, cs_k29]
  omega
theorem cs_opS {K A : Nat → Int32} {n : Nat} (V : wd_V K A n) : ∀ i, i ≤ n → ∀ j, j < wd_N K i → 2 * cs_op (cs_C K A i) j + 2 = cs_fr (cs_C K A (wd_o K i j + 1)) := by
  intro i
  induction i with
  | zero => intro _ j hj; exact absurd hj (Nat.not_lt_zero _)
  | succ i ih =>
    intro hi j hj
    have IH := ih (by omega)
    have eN : wd_N K (i + 1) = wd_n (wd_k K i) (wd_N K i) := rfl
    have eo : wd_o K (i + 1) j = if wd_k K i = 11 ∧ j = wd_N K i then i else wd_o K i j := rfl
    have eC : cs_C K A (i + 1) = cs_w (cs_C K A i) (wd_k K i) (A i) (wd_H K i) (wd_N K i) := rfl
    rw [eN] at hj
    rw [eo]
    by_cases z : wd_k K i = 11
    · rw [z, cs_w11] at eC
      by_cases y : j = wd_N K i
      · rw [if_pos ⟨z, y⟩, eC, cs_frrp, cs_oprp, y, cs_us, cs_frfsl]
        omega
      · rw [if_neg (fun q => y q.2), eC, cs_oprp, cs_un y]
        refine IH j ?_
        unfold wd_n at hj
        rw [if_pos z] at hj
        omega
    · rw [if_neg (fun q => z q.1), eC, cs_opw z]
      refine IH j ?_
      unfold wd_n at hj
      rw [if_neg z] at hj
      split at hj <;> omega
end
section
/-! the links of the loops -/
def wd_E (K : Nat → Int32) (n i d e : Nat) : Prop := i ≤ e ∧ e < n ∧ wd_k K e = 12 ∧ wd_N K (e + 1) = d ∧ ∀ j, i ≤ j → j ≤ e → d < wd_N K j
theorem wd_Eu {K : Nat → Int32} {n n' i d e e' : Nat} (h : wd_E K n i d e) (g : wd_E K n' i d e') : e = e' := by
  obtain ⟨a1, a2, a3, a4, a5⟩ := h
  obtain ⟨b1, b2, b3, b4, b5⟩ := g
  rcases Nat.lt_trichotomy e e' with z | z | z
  · have := b5 (e + 1) (by omega) (by omega)
    omega
  · exact z
  · have := a5 (e' + 1) (by omega) (by omega)
    omega
theorem wd_Nst {K A : Nat → Int32} {n i : Nat} (V : wd_V K A n) (hi : i < n) : (wd_k K i = 11 ∧ wd_N K (i + 1) = wd_N K i + 1) ∨ (wd_k K i = 12 ∧ 0 < wd_N K i ∧ wd_N K (i + 1) + 1 = wd_N K i) ∨ (wd_k K i ≠ 11 ∧ wd_k K i ≠ 12 ∧ wd_N K (i + 1) = wd_N K i) := by
  have hz := (V.2 i hi).2.2.2.2.2.2
  have eN : wd_N K (i + 1) = wd_n (wd_k K i) (wd_N K i) := rfl
  rw [eN]
  unfold wd_n
  by_cases z : wd_k K i = 11
  · rw [if_pos z]; exact Or.inl ⟨z, rfl⟩
  · rw [if_neg z]
    by_cases y : wd_k K i = 12
    · rw [if_pos y]
      have := hz y
      exact Or.inr (Or.inl ⟨y, this, by omega⟩)
    · rw [if_neg y]; exact Or.inr (Or.inr ⟨z, y, rfl⟩)
theorem wd_Ex {K A : Nat → Int32} {n : Nat} (V : wd_V K A n) (h0 : wd_N K n = 0) : ∀ m i d, i + m = n → d < wd_N K i → ∃ e, wd_E K n i d e := by
  intro m
  induction m with
  | zero => intro i d hi hd
            have : i = n := by omega
            subst this
            omega
  | succ m ih =>
    intro i d hi hd
    have hs := wd_Nst V (i := i) (by omega)
    by_cases z : d < wd_N K (i + 1)
    · obtain ⟨e, a1, a2, a3, a4, a5⟩ := ih (i + 1) d (by omega) z
      refine ⟨e, by omega, a2, a3, a4, fun j h1 h2 => ?_⟩
      rcases Nat.lt_or_ge i j with y | y
      · exact a5 j (by omega) h2
      · have : j = i := by omega
        subst this
        exact hd
    · refine ⟨i, Nat.le_refl _, by omega, by omega, by omega, fun j h1 h2 => ?_⟩
      have : j = i := by omega
      subst this
      exact hd
theorem wd_Es {K : Nat → Int32} {n i d e : Nat} (h : wd_E K n i d e) (hd : d < wd_N K (i + 1)) : wd_E K n (i + 1) d e := by
  obtain ⟨a1, a2, a3, a4, a5⟩ := h
  refine ⟨?_, a2, a3, a4, fun j h1 h2 => a5 j (by omega) h2⟩
  rcases Nat.lt_or_ge i e with z | z
  · exact z
  · have : i = e := by omega
    subst this
    omega
/-- where the move that enters the loop of word i stands -/
def cs_lp (K A : Nat → Int32) (i : Nat) : Nat := cs_k (cs_C K A i) (cs_ss (cs_C K A i) (wd_H K i - 1)) 28
theorem cs_C11 {K A : Nat → Int32} {i : Nat} (h : wd_k K i = 11) : cs_C K A (i + 1) = cs_rp (cs_C K A i) (wd_H K i - 1) (wd_N K i) := by
  show cs_w (cs_C K A i) (wd_k K i) (A i) (wd_H K i) (wd_N K i) = _
  rw [h, cs_w11]
theorem cs_C12 {K A : Nat → Int32} {i : Nat} (h : wd_k K i = 12) : cs_C K A (i + 1) = cs_cl (cs_C K A i) (cs_op (cs_C K A i) (wd_N K i - 1)) := by
  show cs_w (cs_C K A i) (wd_k K i) (A i) (wd_H K i) (wd_N K i) = _
  rw [h, cs_w12]
theorem cs_lpfr {K A : Nat → Int32} {i : Nat} (h : wd_k K i = 11) : cs_fr (cs_C K A (i + 1)) = 2 * (cs_lp K A i / 2) + 2 := by
  rw [cs_C11 h, cs_frrp]
  rfl
theorem cs_lpv {K A : Nat → Int32} {i : Nat} (h : wd_k K i = 11) : cs_vd (cs_C K A (i + 1)) (cs_lp K A i) = true ∧ cs_tg (cs_C K A (i + 1)) (cs_lp K A i) = 28 := by
  rw [cs_C11 h]
  unfold cs_rp
  constructor
  · show cs_fu (cs_vd (cs_C K A i)) (cs_lp K A i) true (cs_lp K A i) = true
    exact cs_us
  · show cs_fu (cs_tg (cs_C K A i)) (cs_lp K A i) 28 (cs_lp K A i) = 28
    exact cs_us
theorem cs_lex {K A : Nat → Int32} {n : Nat} (V : wd_V K A n) : ∀ j, j ≤ n → ∀ i e, i < j → e < j → wd_k K i = 11 → wd_E K n (i + 1) (wd_N K i) e → cs_ex (cs_C K A j) (cs_lp K A i) = nI (cs_fr (cs_C K A (e + 1)) / 2) := by
  intro j
  induction j with
  | zero => intro _ i e hi; omega
  | succ j ih =>
    intro hj i e hi he hk hE
    have hE1 := hE.1
    have lf := cs_lpfr (A := A) hk
    have mono := (cs_EC (i := i + 1) V (j := j) (by omega) (by omega)).1
    have lt : cs_lp K A i < cs_fr (cs_C K A j) := by omega
    by_cases z : wd_k K j = 12
    · have oS := wd_oS V j (by omega) (wd_N K j - 1)
      have oP := cs_opS V j (by omega) (wd_N K j - 1)
      have st := wd_Nst V (i := j) (by omega)
      have hN : 0 < wd_N K j := by omega
      obtain ⟨o1, o2, o3, o4⟩ := oS (by omega)
      have oP := oP (by omega)
      rw [cs_C12 z]
      generalize hd : wd_N K j - 1 = d at *
      generalize ho : wd_o K j d = o at *
      have lo := cs_lpfr (A := A) o2
      rcases Nat.lt_or_ge e j with y | y
      · have no : o ≠ i := by
          intro q
          subst q
          have := o4 (e + 1) (by omega) (by omega)
          have := hE.2.2.2.1
          omega
        have nl : cs_lp K A i / 2 ≠ cs_op (cs_C K A j) d := by
          intro q
          rcases Nat.lt_trichotomy o i with w | w | w
          · have m1 := (cs_EC (i := o + 1) V (j := i) (by omega) (by omega)).1
            have : cs_fr (cs_C K A i) ≤ cs_lp K A i := cs_kfr _ _ _
            omega
          · exact no w
          · have m1 := (cs_EC (i := i + 1) V (j := o) (by omega) (by omega)).1
            have : cs_fr (cs_C K A o) ≤ cs_lp K A o := cs_kfr _ _ _
            omega
        rw [cs_clex lt nl]
        exact ih (by omega) i e (by omega) y hk hE
      · have ee : e = j := by omega
        subst ee
        have hd2 := hE.2.2.2.1
        have oi : o = i := by
          rcases Nat.lt_trichotomy o i with w | w | w
          · have := o4 i w (by omega)
            omega
          · exact w
          · have := hE.2.2.2.2 o (by omega) (by omega)
            omega
        subst oi
        have pl : cs_lp K A o / 2 = cs_op (cs_C K A e) d := by omega
        have vv := cs_lpv (A := A) hk
        have ex := (cs_EC (i := o + 1) V (j := e) (by omega) (by omega)).2 (cs_lp K A o) (by omega)
        have v1 := ex.1.trans vv.1
        have t1 := (ex.2 vv.1).2.2.1.trans vv.2
        have W := cs_EXt (cs_EXnb (cs_C K A e)) (cs_EXt (cs_EXpl _ 15 29 0 (nI (cs_op (cs_C K A e) d + 1))) (cs_EXnb _))
        have w1 := W.1.2 _ lt
        have v2 := w1.1.trans v1
        have t2 := (w1.2 v1).2.2.1.trans t1
        rw [cs_C12 z, hd]
        unfold cs_cl
        generalize cs_nb (cs_pl (cs_nb (cs_C K A e)) 15 0 29 (nI (cs_op (cs_C K A e) d + 1))) = c3 at *
        rw [cs_frpt]
        exact if_pos ⟨pl, v2, t2⟩
    · have ne : e ≠ j := by
        intro q
        subst q
        exact z hE.2.2.1
      have h12 := (V.2 j (by omega)).2.1
      have X := (cs_EXw (c := cs_C K A j) (k := wd_k K j) (a := A j) (h := wd_H K j) (d := wd_N K j) (by omega)).2 _ lt
      have X' : cs_ex (cs_C K A (j + 1)) (cs_lp K A i) = cs_ex (cs_C K A j) (cs_lp K A i) := X
      rw [X']
      rcases Nat.lt_or_ge i j with w | w
      · exact ih (by omega) i e w (by omega) hk hE
      · omega
/-- the move that goes back at the end e -/
theorem cs_bk {K A : Nat → Int32} {n e : Nat} (V : wd_V K A n) (he : e < n) (hk : wd_k K e = 12) : cs_vd (cs_C K A (e + 1)) (2 * ((cs_fr (cs_C K A e) + 1) / 2)) = true ∧ cs_sr (cs_C K A (e + 1)) (2 * ((cs_fr (cs_C K A e) + 1) / 2)) = 15 ∧ cs_tg (cs_C K A (e + 1)) (2 * ((cs_fr (cs_C K A e) + 1) / 2)) = 29 ∧ cs_ex (cs_C K A (e + 1)) (2 * ((cs_fr (cs_C K A e) + 1) / 2)) = nI (cs_fr (cs_C K A (wd_o K e (wd_N K e - 1) + 1)) / 2) := by
  have st := wd_Nst V (i := e) (by omega)
  have oP := cs_opS V e (by omega) (wd_N K e - 1) (by omega)
  rw [cs_C12 hk]
  generalize cs_op (cs_C K A e) (wd_N K e - 1) = f at *
  have ef : cs_fr (cs_C K A (wd_o K e (wd_N K e - 1) + 1)) / 2 = f + 1 := by omega
  rw [ef]
  generalize cs_C K A e = c at *
  have kk := cs_k29 c
  unfold cs_cl
  have v : cs_vd (cs_pl (cs_nb c) 15 0 29 (nI (f + 1))) (2 * ((cs_fr c + 1) / 2)) = true := by
    show cs_fu (cs_vd (cs_nb c)) (cs_k (cs_nb c) 15 29) true _ = true
    rw [kk]; exact cs_us
  have s : cs_sr (cs_pl (cs_nb c) 15 0 29 (nI (f + 1))) (2 * ((cs_fr c + 1) / 2)) = 15 := by
    show cs_fu (cs_sr (cs_nb c)) (cs_k (cs_nb c) 15 29) 15 _ = 15
    rw [kk]; exact cs_us
  have t : cs_tg (cs_pl (cs_nb c) 15 0 29 (nI (f + 1))) (2 * ((cs_fr c + 1) / 2)) = 29 := by
    show cs_fu (cs_tg (cs_nb c)) (cs_k (cs_nb c) 15 29) 29 _ = 29
    rw [kk]; exact cs_us
  have x : cs_ex (cs_pl (cs_nb c) 15 0 29 (nI (f + 1))) (2 * ((cs_fr c + 1) / 2)) = nI (f + 1) := by
    show cs_fu (cs_ex (cs_nb c)) (cs_k (cs_nb c) 15 29) (nI (f + 1)) _ = nI (f + 1)
    rw [kk]; exact cs_us
  have l : 2 * ((cs_fr c + 1) / 2) < cs_fr (cs_pl (cs_nb c) 15 0 29 (nI (f + 1))) := by
    rw [cs_frpl, kk]; omega
  generalize cs_pl (cs_nb c) 15 0 29 (nI (f + 1)) = c1 at *
  have Z := (cs_Et (cs_EXnb c1).1 (cs_Ept (cs_nb c1) f)).2 _ l
  have Z2 := Z.2 v
  refine ⟨Z.1.trans v, Z2.1.trans s, Z2.2.2.1.trans t, (Z2.2.2.2 (by omega)).trans x⟩
end
section
/-! the walks of closeLoop and compile -/
theorem cs_RCm {c : cs_T} {h d h' d' : Nat} {f_bundle : Int32} {a_slotSource : Nat → Int32} {a_slotValue : Nat → Int32} {a_holder : Nat → Int32} {a_ready : Nat → Int32} {a_lastWrite : Nat → Int32} {a_lastTrigger : Nat → Int32} {a_filled : Nat → Int32} {a_source : Nat → Int32} {a_constant : Nat → Int32} {a_target : Nat → Int32} {a_extra : Nat → Int32} {a_opened : Nat → Int32} (R : cs_RC c h d f_bundle a_slotSource a_slotValue a_holder a_ready a_lastWrite a_lastTrigger a_filled a_source a_constant a_target a_extra a_opened) (hh : h' ≤ h) (hd : d' ≤ d) : cs_RC c h' d' f_bundle a_slotSource a_slotValue a_holder a_ready a_lastWrite a_lastTrigger a_filled a_source a_constant a_target a_extra a_opened :=
  ⟨R.1, fun s hs => R.2.1 s (by omega), R.2.2.1, R.2.2.2.1, R.2.2.2.2.1, R.2.2.2.2.2.1, R.2.2.2.2.2.2.1, fun j hj => R.2.2.2.2.2.2.2 j (by omega)⟩
theorem cs_RCpt {c : cs_T} {h d f : Nat} {f_bundle : Int32} {a_slotSource : Nat → Int32} {a_slotValue : Nat → Int32} {a_holder : Nat → Int32} {a_ready : Nat → Int32} {a_lastWrite : Nat → Int32} {a_lastTrigger : Nat → Int32} {a_filled : Nat → Int32} {a_source : Nat → Int32} {a_constant : Nat → Int32} {a_target : Nat → Int32} {a_extra : Nat → Int32} {a_opened : Nat → Int32} {E1 E2 : Nat → Int32} (R : cs_RC c h d f_bundle a_slotSource a_slotValue a_holder a_ready a_lastWrite a_lastTrigger a_filled a_source a_constant a_target a_extra a_opened) (H : cs_CB c) (eb : f_bundle = nI (cs_fr c / 2)) (e1 : E1 = if a_target (2 * f) = 28 then upd a_extra (2 * f) f_bundle else a_extra) (e2 : E2 = if a_target (2 * f + 1) = 28 then upd E1 (2 * f + 1) f_bundle else E1) : cs_RC (cs_pt c f) h d f_bundle a_slotSource a_slotValue a_holder a_ready a_lastWrite a_lastTrigger a_filled a_source a_constant a_target E2 a_opened := by
  obtain ⟨r1, r2, r3, r4, r5, r6, ⟨r7, r8⟩, r9⟩ := R
  refine ⟨r1, r2, r3, r4, r5, r6, ⟨r7, fun k hk => ?_⟩, r9⟩
  have g := r8 k hk
  refine ⟨g.1, g.2.1, g.2.2.1, ?_⟩
  show E2 k = if k / 2 = f ∧ cs_vd c k = true ∧ cs_tg c k = 28 then nI (cs_fr c / 2) else cs_ex c k
  have hv : cs_vd c k = true := hk
  have tl : cs_tg c k < 30 := by
    have := (H.2.2.2.2.2.2.2.2.2 k hv).2.1
    omega
  have ti : a_target k = 28 ↔ cs_tg c k = 28 := by
    rw [g.2.2.1]
    exact nI_eq (b := 28) (by omega) (by omega)
  have n1 : ∀ j, j ≠ 2 * f → E1 j = a_extra j := by
    intro j hj
    rw [e1]
    split
    · exact pk_un hj
    · rfl
  have n2 : ∀ j, j ≠ 2 * f + 1 → E2 j = E1 j := by
    intro j hj
    rw [e2]
    split
    · exact pk_un hj
    · rfl
  by_cases z1 : k = 2 * f + 1
  · by_cases t : cs_tg c k = 28
    · rw [if_pos ⟨by omega, hv, t⟩, e2, if_pos (by rw [← z1]; exact ti.mpr t), ← z1, pk_us, eb]
    · rw [if_neg (fun q => t q.2.2), e2, if_neg (by rw [← z1]; exact fun q => t (ti.mp q)), n1 k (by omega)]
      exact g.2.2.2
  · rw [n2 k z1]
    by_cases z2 : k = 2 * f
    · by_cases t : cs_tg c k = 28
      · rw [if_pos ⟨by omega, hv, t⟩, e1, if_pos (by rw [← z2]; exact ti.mpr t), ← z2, pk_us, eb]
      · rw [if_neg (fun q => t q.2.2), e1, if_neg (by rw [← z2]; exact fun q => t (ti.mp q))]
        exact g.2.2.2
    · rw [if_neg (by omega), n1 k z2]
      exact g.2.2.2
theorem cs_RCop {c : cs_T} {h d d' : Nat} {x : Nat → Nat} {f_bundle : Int32} {a_slotSource : Nat → Int32} {a_slotValue : Nat → Int32} {a_holder : Nat → Int32} {a_ready : Nat → Int32} {a_lastWrite : Nat → Int32} {a_lastTrigger : Nat → Int32} {a_filled : Nat → Int32} {a_source : Nat → Int32} {a_constant : Nat → Int32} {a_target : Nat → Int32} {a_extra : Nat → Int32} {a_opened : Nat → Int32} {op' : Nat → Int32} (R : cs_RC c h d f_bundle a_slotSource a_slotValue a_holder a_ready a_lastWrite a_lastTrigger a_filled a_source a_constant a_target a_extra a_opened) (hx : ∀ j, j < d' → op' j = nI (x j)) : cs_RC (cs_wOp c x) h d' f_bundle a_slotSource a_slotValue a_holder a_ready a_lastWrite a_lastTrigger a_filled a_source a_constant a_target a_extra op' :=
  ⟨R.1, R.2.1, R.2.2.1, R.2.2.2.1, R.2.2.2.2.1, R.2.2.2.2.2.1, R.2.2.2.2.2.2.1, hx⟩
section
variable {f_count : Int32} {f_tall : Int32} {f_open : Int32} {f_bundle : Int32} {f_compiled : Int32} {f_cycle : Int32} {f_place : Int32} {f_loopDepth : Int32} {f_effects : Int32} {a_kinds : Nat → Int32} {a_arguments : Nat → Int32} {a_slotSource : Nat → Int32} {a_slotValue : Nat → Int32} {a_holder : Nat → Int32} {a_ready : Nat → Int32} {a_lastWrite : Nat → Int32} {a_lastTrigger : Nat → Int32} {a_filled : Nat → Int32} {a_source : Nat → Int32} {a_constant : Nat → Int32} {a_target : Nat → Int32} {a_extra : Nat → Int32} {a_opened : Nat → Int32} {a_registers : Nat → Int32} {a_cells : Nat → Int32} {a_operands : Nat → Int32} {a_triggers : Nat → Int32} {a_starts : Nat → Int32} {a_oldResult : Nat → Int32} {a_newResult : Nat → Int32} {a_resultAt : Nat → Int32} {a_loops : Nat → Int32} {a_setCounts : Nat → Int32} {a_putCounts : Nat → Int32} {post : SX → Prop} {c : cs_T} {P : Nat → Prop} {h d f k n m i N : Nat}
theorem xw_cl1 (hk : k < 2 * f + 2) (hf : f < 400) (hp : wX_closeLoop_24 post (nI f) f_count f_tall f_open f_bundle f_compiled f_cycle f_place f_loopDepth f_effects n (nI (k + 1)) a_kinds a_arguments a_slotSource a_slotValue a_holder a_ready a_lastWrite a_lastTrigger a_filled a_source a_constant a_target (if a_target k = 28 then upd a_extra k f_bundle else a_extra) a_opened a_registers a_cells a_operands a_triggers a_starts a_oldResult a_newResult a_resultAt a_loops a_setCounts a_putCounts) : wX_closeLoop_24 post (nI f) f_count f_tall f_open f_bundle f_compiled f_cycle f_place f_loopDepth f_effects (n + 1) (nI k) a_kinds a_arguments a_slotSource a_slotValue a_holder a_ready a_lastWrite a_lastTrigger a_filled a_source a_constant a_target a_extra a_opened a_registers a_cells a_operands a_triggers a_starts a_oldResult a_newResult a_resultAt a_loops a_setCounts a_putCounts := by
  have ec : (nI k).toNatClampNeg = k := nI_clamp (by omega)
  have ei : vp_in (nI k) 800 := vp_in_nI (by omega) (by omega)
  have e2 : (2 : Int32) * nI f + 2 = nI (2 * f + 2) := by
    rw [show (2 : Int32) * nI f = nI (2 * f) from pk_mul 2 f]
    exact nI_add _ 2
  refine br_f (by rw [e2]; exact nI_ge (by omega) (by omega)) ⟨ei, ?_⟩
  by_cases z : a_target k = 28
  · rw [if_pos z] at hp
    exact br_t (by rw [ec]; exact z) ⟨ei, nm_r (e' := upd a_extra k f_bundle) (by rw [ec]) (nm_r (e' := nI (k + 1)) (nI_1 k) hp)⟩
  · rw [if_neg z] at hp
    exact br_f (by rw [ec]; exact z) (nm_r (e' := nI (k + 1)) (nI_1 k) hp)
theorem xw_close (R : cs_RC c h d f_bundle a_slotSource a_slotValue a_holder a_ready a_lastWrite a_lastTrigger a_filled a_source a_constant a_target a_extra a_opened) (H : cs_CB c) (hm : (cs_fr c + 1) / 2 + 3 < 399) (hf : f < 399) (hp : ∀ (f_bundle : Int32) (a_slotSource a_slotValue a_holder a_ready a_lastWrite a_lastTrigger a_filled a_source a_constant a_target a_extra a_opened : Nat → Int32), cs_RC (cs_cl c f) h d f_bundle a_slotSource a_slotValue a_holder a_ready a_lastWrite a_lastTrigger a_filled a_source a_constant a_target a_extra a_opened → post (f_count, f_tall, f_open, f_bundle, f_compiled, f_cycle, f_place, f_loopDepth, f_effects, a_kinds, a_arguments, a_slotSource, a_slotValue, a_holder, a_ready, a_lastWrite, a_lastTrigger, a_filled, a_source, a_constant, a_target, a_extra, a_opened, a_registers, a_cells, a_operands, a_triggers, a_starts, a_oldResult, a_newResult, a_resultAt, a_loops, a_setCounts, a_putCounts)) : wpX_closeLoop post (f_count, f_tall, f_open, f_bundle, f_compiled, f_cycle, f_place, f_loopDepth, f_effects, a_kinds, a_arguments, a_slotSource, a_slotValue, a_holder, a_ready, a_lastWrite, a_lastTrigger, a_filled, a_source, a_constant, a_target, a_extra, a_opened, a_registers, a_cells, a_operands, a_triggers, a_starts, a_oldResult, a_newResult, a_resultAt, a_loops, a_setCounts, a_putCounts) (nI f) := by
  have e2 : (2 : Int32) * nI f = nI (2 * f) := pk_mul 2 f
  have e3 : (2 : Int32) * nI f + 2 = nI (2 * f + 2) := by
    rw [e2]
    exact nI_add _ 2
  unfold wpX_closeLoop
  dsimp only
  rw [show nI f + 1 = nI (f + 1) from nI_1 f]
  refine xw_next R H (by omega) ?_
  intro f_bundle a_slotSource a_slotValue a_holder a_ready a_lastWrite a_lastTrigger a_filled a_source a_constant a_target a_extra a_opened R1 _
  have F1 := cs_frnb c
  have B1 := cs_CBnb H
  have N1 := cs_NLnb c
  refine xw_place (f := 15) (t := 29) (v := 0) (e := nI (f + 1)) R1 B1 (by omega) (by unfold cs_S; omega) (by omega) ?_
  intro f_bundle a_slotSource a_slotValue a_holder a_ready a_lastWrite a_lastTrigger a_filled a_source a_constant a_target a_extra a_opened R2 _
  have B2 := cs_CBpl (f := 15) (t := 29) (v := 0) (e := nI (f + 1)) B1 N1 ⟨by unfold cs_S; omega, by omega, by omega⟩
  have F2 := cs_frpl (cs_nb c) 15 29 0 (nI (f + 1))
  rw [cs_k29] at F2
  unfold cs_cl at hp
  generalize cs_pl (cs_nb c) 15 0 29 (nI (f + 1)) = c2 at *
  refine xw_next R2 B2 (by omega) ?_
  intro f_bundle a_slotSource a_slotValue a_holder a_ready a_lastWrite a_lastTrigger a_filled a_source a_constant a_target a_extra a_opened R3 eb
  have F3 := cs_frnb c2
  have eb2 : f_bundle = nI (cs_fr (cs_nb c2) / 2) := by rw [eb, F3]; exact congrArg nI (by omega)
  refine nm_r (e' := nI (2 * f)) e2 ⟨3, ?_⟩
  refine xw_cl1 (by omega) (by omega) (xw_cl1 (by omega) (by omega) ?_)
  exact br_t (by rw [e3]; exact nI_le (by omega) (by omega)) (hp _ _ _ _ _ _ _ _ _ _ _ _ _ (cs_RCpt R3 (cs_CBnb B2) eb2 rfl rfl))
theorem xw_149 {J : Int32 → Int32 → Int32 → Int32 → Int32 → Int32 → Int32 → Int32 → Int32 → Int32 → Int32 → Int32 → (Nat → Int32) → (Nat → Int32) → (Nat → Int32) → (Nat → Int32) → (Nat → Int32) → (Nat → Int32) → (Nat → Int32) → (Nat → Int32) → (Nat → Int32) → (Nat → Int32) → (Nat → Int32) → (Nat → Int32) → (Nat → Int32) → (Nat → Int32) → (Nat → Int32) → (Nat → Int32) → (Nat → Int32) → (Nat → Int32) → (Nat → Int32) → (Nat → Int32) → (Nat → Int32) → (Nat → Int32) → (Nat → Int32) → (Nat → Int32) → (Nat → Int32) → Prop} {x2 : Int32} {s : Nat} (R : cs_RC c h d f_bundle a_slotSource a_slotValue a_holder a_ready a_lastWrite a_lastTrigger a_filled a_source a_constant a_target a_extra a_opened) (hh : h < 5) (hi : i < 40)
    (IH : ∀ (f_bundle : Int32) (a_slotSource a_slotValue a_holder a_ready a_lastWrite a_lastTrigger a_filled a_source a_constant a_target a_extra a_opened : Nat → Int32), cs_RC (cs_pu c h s (a_arguments i)) (h + 1) d f_bundle a_slotSource a_slotValue a_holder a_ready a_lastWrite a_lastTrigger a_filled a_source a_constant a_target a_extra a_opened → J (nI (h + 1)) x2 (nI (i + 1)) f_count f_tall f_open f_bundle f_compiled f_cycle f_place f_loopDepth f_effects a_kinds a_arguments a_slotSource a_slotValue a_holder a_ready a_lastWrite a_lastTrigger a_filled a_source a_constant a_target a_extra a_opened a_registers a_cells a_operands a_triggers a_starts a_oldResult a_newResult a_resultAt a_loops a_setCounts a_putCounts) : wX_compile_149 post J (nI h) x2 (nI i) (nI s) (nI h) f_count f_tall f_open f_bundle f_compiled f_cycle f_place f_loopDepth f_effects a_kinds a_arguments a_slotSource a_slotValue a_holder a_ready a_lastWrite a_lastTrigger a_filled a_source a_constant a_target a_extra a_opened a_registers a_cells a_operands a_triggers a_starts a_oldResult a_newResult a_resultAt a_loops a_setCounts a_putCounts := by
  have eh : (nI h).toNatClampNeg = h := nI_clamp (by omega)
  have ei : (nI i).toNatClampNeg = i := nI_clamp (by omega)
  have ih6 : vp_in (nI h) 6 := vp_in_nI (by omega) (by omega)
  have ii : vp_in (nI i) 40 := vp_in_nI (by omega) (by omega)
  unfold wX_compile_149
  rw [eh, ei]
  refine ⟨ih6, nm_e ⟨ii, ih6, nm_e (nm_r (e' := nI (h + 1)) (nI_1 h) (nm_r (e' := nI (i + 1)) (nI_1 i) ?_))⟩⟩
  refine IH _ _ _ _ _ _ _ _ _ _ _ _ _ ⟨R.1, fun j hj => ?_, R.2.2⟩
  constructor
  · show upd a_slotSource h (nI s) j = nI (cs_fu (cs_ss c) h s j)
    by_cases z : j = h
    · rw [z, pk_us, cs_us]
    · rw [pk_un z, cs_un z]; exact (R.2.1 j (by omega)).1
  · show upd a_slotValue h (a_arguments i) j = cs_fu (cs_sv c) h (a_arguments i) j
    by_cases z : j = h
    · rw [z, pk_us, cs_us]
    · rw [pk_un z, cs_un z]; exact (R.2.1 j (by omega)).2
theorem xw_crep (I : cs_I c (fun j => j < 1) (9 * i)) (hi : i < 40) (hd2 : d ≤ 2) (hd : d < 2) (R : cs_RC c 1 d f_bundle a_slotSource a_slotValue a_holder a_ready a_lastWrite a_lastTrigger a_filled a_source a_constant a_target a_extra a_opened)
    (IH : ∀ (f_bundle : Int32) (a_slotSource a_slotValue a_holder a_ready a_lastWrite a_lastTrigger a_filled a_source a_constant a_target a_extra a_opened : Nat → Int32), cs_RC (cs_rp c 0 d) 0 (d + 1) f_bundle a_slotSource a_slotValue a_holder a_ready a_lastWrite a_lastTrigger a_filled a_source a_constant a_target a_extra a_opened → wX_compile_106 post m (nI 0) (nI (d + 1)) (nI (i + 1)) (nI N) f_tall f_open f_bundle f_compiled f_cycle f_place f_loopDepth f_effects a_kinds a_arguments a_slotSource a_slotValue a_holder a_ready a_lastWrite a_lastTrigger a_filled a_source a_constant a_target a_extra a_opened a_registers a_cells a_operands a_triggers a_starts a_oldResult a_newResult a_resultAt a_loops a_setCounts a_putCounts) :
    ∀ x1_87, x1_87 = nI 1 + (-1) → wpX_fromSlot (fun u => match u with | (f_count, f_tall, f_open, f_bundle, f_compiled, f_cycle, f_place, f_loopDepth, f_effects, a_kinds, a_arguments, a_slotSource, a_slotValue, a_holder, a_ready, a_lastWrite, a_lastTrigger, a_filled, a_source, a_constant, a_target, a_extra, a_opened, a_registers, a_cells, a_operands, a_triggers, a_starts, a_oldResult, a_newResult, a_resultAt, a_loops, a_setCounts, a_putCounts) => (vp_in (nI d) 2 ∧ ∀ a_opened_124, a_opened_124 = upd a_opened (nI d).toNatClampNeg f_bundle → (∀ x2_125, x2_125 = nI d + 1 → (wpX_nextBundle (fun u => match u with | (f_count, f_tall, f_open, f_bundle, f_compiled, f_cycle, f_place, f_loopDepth, f_effects, a_kinds, a_arguments, a_slotSource, a_slotValue, a_holder, a_ready, a_lastWrite, a_lastTrigger, a_filled, a_source, a_constant, a_target, a_extra, a_opened, a_registers, a_cells, a_operands, a_triggers, a_starts, a_oldResult, a_newResult, a_resultAt, a_loops, a_setCounts, a_putCounts) => (∀ x3_161, x3_161 = nI i + 1 → (wX_compile_106 post m x1_87 x2_125 x3_161 f_count f_tall f_open f_bundle f_compiled f_cycle f_place f_loopDepth f_effects a_kinds a_arguments a_slotSource a_slotValue a_holder a_ready a_lastWrite a_lastTrigger a_filled a_source a_constant a_target a_extra a_opened a_registers a_cells a_operands a_triggers a_starts a_oldResult a_newResult a_resultAt a_loops a_setCounts a_putCounts))) (f_count, f_tall, f_open, f_bundle, f_compiled, f_cycle, f_place, f_loopDepth, f_effects, a_kinds, a_arguments, a_slotSource, a_slotValue, a_holder, a_ready, a_lastWrite, a_lastTrigger, a_filled, a_source, a_constant, a_target, a_extra, a_opened_124, a_registers, a_cells, a_operands, a_triggers, a_starts, a_oldResult, a_newResult, a_resultAt, a_loops, a_setCounts, a_putCounts))))) (nI N, f_tall, f_open, f_bundle, f_compiled, f_cycle, f_place, f_loopDepth, f_effects, a_kinds, a_arguments, a_slotSource, a_slotValue, a_holder, a_ready, a_lastWrite, a_lastTrigger, a_filled, a_source, a_constant, a_target, a_extra, a_opened, a_registers, a_cells, a_operands, a_triggers, a_starts, a_oldResult, a_newResult, a_resultAt, a_loops, a_setCounts, a_putCounts) x1_87 28 0 := by
  have i4 := I.2.2.2
  have B := cs_CBpl (v := cs_sv c 0) I.1 I.2.1 (cs_Mof (s := 0) (e := 0) (t := 28) I.2.2.1 (by omega) (by omega) (by omega))
  have B2 : cs_CB (cs_fsl c 0 28 0) := by
    unfold cs_fsl
    exact cs_CBhd B
  have L := cs_kB I.1 (cs_ss c 0) 28
  have F := cs_frfsl c 0 28 0
  refine nm_r (e' := nI 0) (sb_m1 (p := 1) (by omega)) ?_
  refine xw_fsl (s := 0) (t := 28) (e := 0) R I (by omega) (by omega) (by omega) (by omega) ?_
  intro f_bundle a_slotSource a_slotValue a_holder a_ready a_lastWrite a_lastTrigger a_filled a_source a_constant a_target a_extra a_opened R1 eb
  have edc : (nI d).toNatClampNeg = d := nI_clamp (by omega)
  refine ⟨vp_in_nI (by omega) (by omega), nm_r (e' := upd a_opened d f_bundle) (by rw [edc]) (nm_r (e' := nI (d + 1)) (nI_1 d) ?_)⟩
  have ro : ∀ j, j < d → a_opened j = nI (cs_op c j) := R1.2.2.2.2.2.2.2
  unfold cs_rp at IH
  generalize cs_fsl c 0 28 0 = c1 at *
  have R1' := cs_RCop (d' := d + 1) (x := cs_fu (cs_op c) d ((cs_fr c1 - 1) / 2)) (op' := upd a_opened d f_bundle) R1 (by
    intro j hj
    by_cases z : j = d
    · rw [z, pk_us, cs_us, eb, F, Nat.add_sub_cancel]
    · rw [pk_un z, cs_un z]
      exact ro j (by omega))
  refine xw_next R1' (cs_CBop B2) ?_ ?_
  · rw [cs_frop]
    omega
  · intro f_bundle a_slotSource a_slotValue a_holder a_ready a_lastWrite a_lastTrigger a_filled a_source a_constant a_target a_extra a_opened R2 _
    exact nm_r (e' := nI (i + 1)) (nI_1 i) (IH _ _ _ _ _ _ _ _ _ _ _ _ _ (cs_RCm R2 (by omega) (by omega)))
theorem xw_cstep (I : cs_I c (fun j => j < h) (9 * i)) (hiN : i < N) (hN : N ≤ 40) (hk : a_kinds i = nI k) (ok : wd_ok k (a_arguments i) h d) (hh : h ≤ 5) (hd2 : d ≤ 2) (hop : k = 12 → cs_op c (d - 1) < 399) (R : cs_RC c h d f_bundle a_slotSource a_slotValue a_holder a_ready a_lastWrite a_lastTrigger a_filled a_source a_constant a_target a_extra a_opened)
    (IH : ∀ (f_bundle : Int32) (a_slotSource a_slotValue a_holder a_ready a_lastWrite a_lastTrigger a_filled a_source a_constant a_target a_extra a_opened : Nat → Int32), cs_RC (cs_w c k (a_arguments i) h d) (wd_h k h) (wd_n k d) f_bundle a_slotSource a_slotValue a_holder a_ready a_lastWrite a_lastTrigger a_filled a_source a_constant a_target a_extra a_opened → wX_compile_106 post m (nI (wd_h k h)) (nI (wd_n k d)) (nI (i + 1)) (nI N) f_tall f_open f_bundle f_compiled f_cycle f_place f_loopDepth f_effects a_kinds a_arguments a_slotSource a_slotValue a_holder a_ready a_lastWrite a_lastTrigger a_filled a_source a_constant a_target a_extra a_opened a_registers a_cells a_operands a_triggers a_starts a_oldResult a_newResult a_resultAt a_loops a_setCounts a_putCounts) :
    wX_compile_106 post (m + 1) (nI h) (nI d) (nI i) (nI N) f_tall f_open f_bundle f_compiled f_cycle f_place f_loopDepth f_effects a_kinds a_arguments a_slotSource a_slotValue a_holder a_ready a_lastWrite a_lastTrigger a_filled a_source a_constant a_target a_extra a_opened a_registers a_cells a_operands a_triggers a_starts a_oldResult a_newResult a_resultAt a_loops a_setCounts a_putCounts := by
  obtain ⟨h12, ha, h4, hf, h11, hz⟩ := ok
  unfold wd_fit at hf
  have i4 := I.2.2.2
  have ec : (nI i).toNatClampNeg = i := nI_clamp (by omega)
  have ei : vp_in (nI i) 40 := vp_in_nI (by omega) (by omega)
  have eK : a_kinds (nI i).toNatClampNeg = nI k := by rw [ec]; exact hk
  refine br_f (nI_ge (by omega) (by omega)) ⟨ei, nm_r (e' := nI k) eK ?_⟩
  refine pk_lt 1 k (fun a1 => pk_eq k 2 (fun z2 => ?_) (fun z2 => pk_lt 8 k (fun a8 => pk_eq k 9 (fun z9 => ?_) (fun z9 => pk_eq k 10 (fun z10 => ?_) (fun z10 => pk_eq k 11 (fun z11 => ?_) (fun z11 => ?_)))) (fun a8 => ?_))) (fun a1 => pk_eq k 0 (fun z0 => ?_) (fun z0 => ?_))
  · subst z2
    rw [cs_w2, show wd_h 2 h = h from rfl, show wd_n 2 d = d from rfl] at IH
    rw [wd_s1 (h := h) (by omega)]
    refine xw_load R I (by omega) (by omega) (by omega) ?_
    intro f_bundle a_slotSource a_slotValue a_holder a_ready a_lastWrite a_lastTrigger a_filled a_source a_constant a_target a_extra a_opened R'
    exact nm_r (e' := nI (i + 1)) (nI_1 i) (IH _ _ _ _ _ _ _ _ _ _ _ _ _ R')
  · subst z9
    rw [cs_w9, show wd_h 9 h = h - 1 from rfl, show wd_n 9 d = d from rfl] at IH
    obtain ⟨j, hj, eA⟩ := ha (Or.inr rfl)
    refine nm_r (e' := nI (h - 1)) (sb_m1 (by omega)) ⟨ei, ?_⟩
    rw [ec, eA]
    rw [eA, nI_clamp (by omega)] at IH
    refine xw_fsl R I (by omega) (s := h - 1) (by omega) (by omega) (by omega) ?_
    intro f_bundle a_slotSource a_slotValue a_holder a_ready a_lastWrite a_lastTrigger a_filled a_source a_constant a_target a_extra a_opened R' _
    exact nm_r (e' := nI (i + 1)) (nI_1 i) (IH _ _ _ _ _ _ _ _ _ _ _ _ _ (cs_RCm R' (by omega) (by omega)))
  · subst z10
    have h2 : h = 2 := by omega
    subst h2
    rw [cs_w10, show wd_h 10 2 = 0 from rfl, show wd_n 10 d = d from rfl] at IH
    refine nm_r (e' := nI 0) (wd_p2 0) ?_
    rw [show nI 0 + 1 = nI 1 from nI_1 0]
    refine xw_fsl (s := 0) (t := 23) (e := 0) R I (by omega) (by omega) (by omega) (by omega) ?_
    intro f_bundle a_slotSource a_slotValue a_holder a_ready a_lastWrite a_lastTrigger a_filled a_source a_constant a_target a_extra a_opened R1 _
    have I1 := cs_Ifsl (s := 0) (t := 23) (e := 0) I (by omega) (by omega) (by omega)
    refine xw_fsl (s := 1) (t := 27) (e := 0) R1 I1 (by omega) ⟨by omega, by omega⟩ (by omega) (by omega) ?_
    intro f_bundle a_slotSource a_slotValue a_holder a_ready a_lastWrite a_lastTrigger a_filled a_source a_constant a_target a_extra a_opened R2 _
    exact nm_r (e' := nI (i + 1)) (nI_1 i) (IH _ _ _ _ _ _ _ _ _ _ _ _ _ (cs_RCm R2 (by omega) (by omega)))
  · subst z11
    have h1 : h = 1 := by omega
    subst h1
    have hd := h11 rfl
    rw [cs_w11, show wd_h 11 1 = 0 from rfl, show wd_n 11 d = d + 1 from rfl, show (1 : Nat) - 1 = 0 from rfl] at IH
    exact xw_crep I (by omega) (by omega) hd R IH
  · have z12 : k = 12 := by omega
    subst z12
    have hd := hz rfl
    have op := hop rfl
    rw [cs_w12, show wd_h 12 h = h from rfl, show wd_n 12 d = d - 1 from rfl] at IH
    refine nm_r (e' := nI (d - 1)) (sb_m1 (by omega)) ⟨vp_in_nI (by omega) (by omega), ?_⟩
    have eo : a_opened (nI (d - 1)).toNatClampNeg = nI (cs_op c (d - 1)) := by
      rw [nI_clamp (by omega)]
      exact R.2.2.2.2.2.2.2 _ (by omega)
    rw [eo]
    refine xw_close R I.1 (by omega) op ?_
    intro f_bundle a_slotSource a_slotValue a_holder a_ready a_lastWrite a_lastTrigger a_filled a_source a_constant a_target a_extra a_opened R'
    exact nm_r (e' := nI (i + 1)) (nI_1 i) (IH _ _ _ _ _ _ _ _ _ _ _ _ _ (cs_RCm R' (by omega) (by omega)))
  · rw [cs_w38 (by omega) (by omega)] at IH
    have e1 : wd_h k h = h - 1 := by
      unfold wd_h
      rw [if_neg (by omega), if_neg (by omega), if_neg (by omega), if_neg (by omega)]
    have e2 : wd_n k d = d := by
      unfold wd_n
      rw [if_neg (by omega), if_neg (by omega)]
    rw [e1, e2] at IH
    refine nm_r (e' := nI (h - 1)) (sb_m1 (by omega)) ?_
    rw [show nI (h - 1) - 1 = nI (h - 2) from wd_s1 (h := h - 1) (by omega)]
    refine xw_comb R I (by omega) (by omega) (by omega) ⟨by omega, by omega⟩ ?_
    intro f_bundle a_slotSource a_slotValue a_holder a_ready a_lastWrite a_lastTrigger a_filled a_source a_constant a_target a_extra a_opened R'
    exact nm_r (e' := nI (i + 1)) (nI_1 i) (IH _ _ _ _ _ _ _ _ _ _ _ _ _ (cs_RCm R' (by omega) (by omega)))
  · subst z0
    have := h4 (by omega)
    rw [cs_w0, show wd_h 0 h = h + 1 from rfl, show wd_n 0 d = d from rfl] at IH
    obtain ⟨j, hj, eA⟩ := ha (Or.inl rfl)
    refine ⟨ei, ?_⟩
    have eA2 : (a_arguments i).toNatClampNeg = j := by rw [eA]; exact nI_clamp (by omega)
    rw [eA2] at IH
    have eA3 : a_arguments (nI i).toNatClampNeg = nI j := by rw [ec]; exact eA
    rw [eA3]
    exact xw_149 R (by omega) (by omega) IH
  · have z1 : k = 1 := by omega
    subst z1
    have := h4 (by omega)
    rw [cs_w1, show wd_h 1 h = h + 1 from rfl, show wd_n 1 d = d from rfl] at IH
    exact xw_149 (s := 15) R (by omega) (by omega) IH
end
end
section
/-! the walk of compile -/
section
variable {f_count : Int32} {f_tall : Int32} {f_open : Int32} {f_bundle : Int32} {f_compiled : Int32} {f_cycle : Int32} {f_place : Int32} {f_loopDepth : Int32} {f_effects : Int32} {a_kinds : Nat → Int32} {a_arguments : Nat → Int32} {a_slotSource : Nat → Int32} {a_slotValue : Nat → Int32} {a_holder : Nat → Int32} {a_ready : Nat → Int32} {a_lastWrite : Nat → Int32} {a_lastTrigger : Nat → Int32} {a_filled : Nat → Int32} {a_source : Nat → Int32} {a_constant : Nat → Int32} {a_target : Nat → Int32} {a_extra : Nat → Int32} {a_opened : Nat → Int32} {a_registers : Nat → Int32} {a_cells : Nat → Int32} {a_operands : Nat → Int32} {a_triggers : Nat → Int32} {a_starts : Nat → Int32} {a_oldResult : Nat → Int32} {a_newResult : Nat → Int32} {a_resultAt : Nat → Int32} {a_loops : Nat → Int32} {a_setCounts : Nat → Int32} {a_putCounts : Nat → Int32} {post : SX → Prop} {n : Nat}
theorem xw_c106 (V : wd_V a_kinds a_arguments n) (hp : ∀ (f_bundle : Int32) (a_slotSource a_slotValue a_holder a_ready a_lastWrite a_lastTrigger a_filled a_source a_constant a_target a_extra a_opened : Nat → Int32), cs_RC (cs_nb (cs_C a_kinds a_arguments n)) (wd_H a_kinds n) (wd_N a_kinds n) f_bundle a_slotSource a_slotValue a_holder a_ready a_lastWrite a_lastTrigger a_filled a_source a_constant a_target a_extra a_opened → f_bundle = nI ((cs_fr (cs_C a_kinds a_arguments n) + 1) / 2) → post (nI n, f_tall, f_open, f_bundle, f_compiled, f_cycle, f_place, f_loopDepth, f_effects, a_kinds, a_arguments, a_slotSource, a_slotValue, a_holder, a_ready, a_lastWrite, a_lastTrigger, a_filled, a_source, a_constant, a_target, a_extra, a_opened, a_registers, a_cells, a_operands, a_triggers, a_starts, a_oldResult, a_newResult, a_resultAt, a_loops, a_setCounts, a_putCounts)) : ∀ dd i m, i + dd = n → dd < m → ∀ (f_bundle : Int32) (a_slotSource a_slotValue a_holder a_ready a_lastWrite a_lastTrigger a_filled a_source a_constant a_target a_extra a_opened : Nat → Int32), cs_RC (cs_C a_kinds a_arguments i) (wd_H a_kinds i) (wd_N a_kinds i) f_bundle a_slotSource a_slotValue a_holder a_ready a_lastWrite a_lastTrigger a_filled a_source a_constant a_target a_extra a_opened → wX_compile_106 post m (nI (wd_H a_kinds i)) (nI (wd_N a_kinds i)) (nI i) (nI n) f_tall f_open f_bundle f_compiled f_cycle f_place f_loopDepth f_effects a_kinds a_arguments a_slotSource a_slotValue a_holder a_ready a_lastWrite a_lastTrigger a_filled a_source a_constant a_target a_extra a_opened a_registers a_cells a_operands a_triggers a_starts a_oldResult a_newResult a_resultAt a_loops a_setCounts a_putCounts := by
  have hn := V.1
  intro dd
  induction dd with
  | zero =>
    intro i m hi hm f_bundle a_slotSource a_slotValue a_holder a_ready a_lastWrite a_lastTrigger a_filled a_source a_constant a_target a_extra a_opened R
    obtain ⟨m, rfl⟩ : ∃ m', m = m' + 1 := ⟨m - 1, by omega⟩
    have : i = n := by omega
    subst this
    have I := cs_IC V i (Nat.le_refl _)
    refine br_t (nI_le (Nat.le_refl _) (by omega)) ?_
    exact xw_next R I.1 (by have := I.2.2.2; omega) hp
  | succ dd ih =>
    intro i m hi hm f_bundle a_slotSource a_slotValue a_holder a_ready a_lastWrite a_lastTrigger a_filled a_source a_constant a_target a_extra a_opened R
    obtain ⟨m, rfl⟩ : ∃ m', m = m' + 1 := ⟨m - 1, by omega⟩
    have IH := ih (i + 1) m (by omega) (by omega)
    have I := cs_IC V i (by omega)
    have hv := V.2 i (by omega)
    have hb := wd_bnd V i (by omega)
    have hop : wd_k a_kinds i = 12 → cs_op (cs_C a_kinds a_arguments i) (wd_N a_kinds i - 1) < 399 := by
      intro z
      have st := wd_Nst V (i := i) (by omega)
      have o := cs_opS V i (by omega) (wd_N a_kinds i - 1) (by omega)
      have o2 := wd_oS V i (by omega) (wd_N a_kinds i - 1) (by omega)
      have e := (cs_EC (i := wd_o a_kinds i (wd_N a_kinds i - 1) + 1) V (j := i) (by omega) (by omega)).1
      have i4 := I.2.2.2
      omega
    exact xw_cstep I (by omega) hn hv.1 hv.2 hb.1 hb.2 hop R IH
theorem xw_c75 (hp : ∀ a_holder a_ready : Nat → Int32, (∀ j, j < 3 → a_holder j = -1) → (∀ j, j < 3 → a_ready j = 0) → ∃ n106 : Nat, wX_compile_106 post n106 0 0 0 f_count f_tall f_open f_bundle f_compiled f_cycle f_place f_loopDepth f_effects a_kinds a_arguments a_slotSource a_slotValue a_holder a_ready a_lastWrite a_lastTrigger a_filled a_source a_constant a_target a_extra a_opened a_registers a_cells a_operands a_triggers a_starts a_oldResult a_newResult a_resultAt a_loops a_setCounts a_putCounts) : ∃ n75 : Nat, wX_compile_75 post f_count f_tall f_open f_bundle f_compiled f_cycle f_place f_loopDepth f_effects n75 0 a_kinds a_arguments a_slotSource a_slotValue a_holder a_ready a_lastWrite a_lastTrigger a_filled a_source a_constant a_target a_extra a_opened a_registers a_cells a_operands a_triggers a_starts a_oldResult a_newResult a_resultAt a_loops a_setCounts a_putCounts := by
  refine loop_0 (σ := (Nat → Int32) × (Nat → Int32)) (fun n i s => wX_compile_75 post f_count f_tall f_open f_bundle f_compiled f_cycle f_place f_loopDepth f_effects n (nI i) a_kinds a_arguments a_slotSource a_slotValue s.1 s.2 a_lastWrite a_lastTrigger a_filled a_source a_constant a_target a_extra a_opened a_registers a_cells a_operands a_triggers a_starts a_oldResult a_newResult a_resultAt a_loops a_setCounts a_putCounts) (fun i s => (∀ j, j < i → s.1 j = -1) ∧ (∀ j, j < i → s.2 j = 0)) 3 (a_holder, a_ready) ⟨fun j hj => by omega, fun j hj => by omega⟩ ?_ ?_
  · intro n s hs
    exact br_t (nI_le (a := 3) (b := 3) (by omega) (by omega)) (hp _ _ hs.1 hs.2)
  · intro n i s hi hs K
    have ec : (nI i).toNatClampNeg = i := nI_clamp (by omega)
    have iv : vp_in (nI i) 3 := vp_in_nI (by omega) (by omega)
    refine br_f (nI_ge (b := 3) (by omega) (by omega)) ⟨iv, nm_r (e' := upd s.1 i (-1)) (by rw [ec]) ⟨iv, nm_r (e' := upd s.2 i 0) (by rw [ec]) (nm_r (e' := nI (i + 1)) (nI_1 i) (K (upd s.1 i (-1), upd s.2 i 0) ⟨fun j hj => ?_, fun j hj => ?_⟩))⟩⟩
    · show upd s.1 i (-1) j = -1
      by_cases z : j = i
      · rw [z, pk_us]
      · rw [pk_un z]; exact hs.1 j (by omega)
    · show upd s.2 i 0 j = 0
      by_cases z : j = i
      · rw [z, pk_us]
      · rw [pk_un z]; exact hs.2 j (by omega)
theorem xw_c55 (hp : ∀ a_lastTrigger : Nat → Int32, (∀ j, j < 4 → a_lastTrigger j = -1) → ∃ n75 : Nat, wX_compile_75 post f_count f_tall f_open f_bundle f_compiled f_cycle f_place f_loopDepth f_effects n75 0 a_kinds a_arguments a_slotSource a_slotValue a_holder a_ready a_lastWrite a_lastTrigger a_filled a_source a_constant a_target a_extra a_opened a_registers a_cells a_operands a_triggers a_starts a_oldResult a_newResult a_resultAt a_loops a_setCounts a_putCounts) : ∃ n55 : Nat, wX_compile_55 post f_count f_tall f_open f_bundle f_compiled f_cycle f_place f_loopDepth f_effects n55 0 a_kinds a_arguments a_slotSource a_slotValue a_holder a_ready a_lastWrite a_lastTrigger a_filled a_source a_constant a_target a_extra a_opened a_registers a_cells a_operands a_triggers a_starts a_oldResult a_newResult a_resultAt a_loops a_setCounts a_putCounts := by
  refine loop_0 (σ := (Nat → Int32)) (fun n i s => wX_compile_55 post f_count f_tall f_open f_bundle f_compiled f_cycle f_place f_loopDepth f_effects n (nI i) a_kinds a_arguments a_slotSource a_slotValue a_holder a_ready a_lastWrite s a_filled a_source a_constant a_target a_extra a_opened a_registers a_cells a_operands a_triggers a_starts a_oldResult a_newResult a_resultAt a_loops a_setCounts a_putCounts) (fun i s => (∀ j, j < i → s j = -1)) 4 a_lastTrigger (fun j hj => by omega) ?_ ?_
  · intro n s hs
    exact br_t (nI_le (a := 4) (b := 4) (by omega) (by omega)) (hp _ hs)
  · intro n i s hi hs K
    have ec : (nI i).toNatClampNeg = i := nI_clamp (by omega)
    have iv : vp_in (nI i) 4 := vp_in_nI (by omega) (by omega)
    refine br_f (nI_ge (b := 4) (by omega) (by omega)) ⟨iv, nm_r (e' := upd s i (-1)) (by rw [ec]) (nm_r (e' := nI (i + 1)) (nI_1 i) (K (upd s i (-1)) (fun j hj => ?_)))⟩
    by_cases z : j = i
    · rw [z, pk_us]
    · rw [pk_un z]; exact hs j (by omega)
theorem xw_c34 (hp : ∀ a_lastWrite : Nat → Int32, (∀ j, j < 12 → a_lastWrite j = -1) → ∃ n55 : Nat, wX_compile_55 post f_count f_tall f_open f_bundle f_compiled f_cycle f_place f_loopDepth f_effects n55 0 a_kinds a_arguments a_slotSource a_slotValue a_holder a_ready a_lastWrite a_lastTrigger a_filled a_source a_constant a_target a_extra a_opened a_registers a_cells a_operands a_triggers a_starts a_oldResult a_newResult a_resultAt a_loops a_setCounts a_putCounts) : ∃ n34 : Nat, wX_compile_34 post f_count f_tall f_open f_bundle f_compiled f_cycle f_place f_loopDepth f_effects n34 0 a_kinds a_arguments a_slotSource a_slotValue a_holder a_ready a_lastWrite a_lastTrigger a_filled a_source a_constant a_target a_extra a_opened a_registers a_cells a_operands a_triggers a_starts a_oldResult a_newResult a_resultAt a_loops a_setCounts a_putCounts := by
  refine loop_0 (σ := (Nat → Int32)) (fun n i s => wX_compile_34 post f_count f_tall f_open f_bundle f_compiled f_cycle f_place f_loopDepth f_effects n (nI i) a_kinds a_arguments a_slotSource a_slotValue a_holder a_ready s a_lastTrigger a_filled a_source a_constant a_target a_extra a_opened a_registers a_cells a_operands a_triggers a_starts a_oldResult a_newResult a_resultAt a_loops a_setCounts a_putCounts) (fun i s => (∀ j, j < i → s j = -1)) 12 a_lastWrite (fun j hj => by omega) ?_ ?_
  · intro n s hs
    exact br_t (nI_le (a := 12) (b := 12) (by omega) (by omega)) (hp _ hs)
  · intro n i s hi hs K
    have ec : (nI i).toNatClampNeg = i := nI_clamp (by omega)
    have iv : vp_in (nI i) 12 := vp_in_nI (by omega) (by omega)
    refine br_f (nI_ge (b := 12) (by omega) (by omega)) ⟨iv, nm_r (e' := upd s i (-1)) (by rw [ec]) (nm_r (e' := nI (i + 1)) (nI_1 i) (K (upd s i (-1)) (fun j hj => ?_)))⟩
    by_cases z : j = i
    · rw [z, pk_us]
    · rw [pk_un z]; exact hs j (by omega)
theorem xw_c12 (hp : ∀ a_filled : Nat → Int32, (∀ j, j < 400 → a_filled j = 0) → ∃ n34 : Nat, wX_compile_34 post f_count f_tall f_open f_bundle f_compiled f_cycle f_place f_loopDepth f_effects n34 0 a_kinds a_arguments a_slotSource a_slotValue a_holder a_ready a_lastWrite a_lastTrigger a_filled a_source a_constant a_target a_extra a_opened a_registers a_cells a_operands a_triggers a_starts a_oldResult a_newResult a_resultAt a_loops a_setCounts a_putCounts) : ∃ n12 : Nat, wX_compile_12 post f_count f_tall f_open f_bundle f_compiled f_cycle f_place f_loopDepth f_effects n12 0 a_kinds a_arguments a_slotSource a_slotValue a_holder a_ready a_lastWrite a_lastTrigger a_filled a_source a_constant a_target a_extra a_opened a_registers a_cells a_operands a_triggers a_starts a_oldResult a_newResult a_resultAt a_loops a_setCounts a_putCounts := by
  refine loop_0 (σ := (Nat → Int32)) (fun n i s => wX_compile_12 post f_count f_tall f_open f_bundle f_compiled f_cycle f_place f_loopDepth f_effects n (nI i) a_kinds a_arguments a_slotSource a_slotValue a_holder a_ready a_lastWrite a_lastTrigger s a_source a_constant a_target a_extra a_opened a_registers a_cells a_operands a_triggers a_starts a_oldResult a_newResult a_resultAt a_loops a_setCounts a_putCounts) (fun i s => (∀ j, j < i → s j = 0)) 400 a_filled (fun j hj => by omega) ?_ ?_
  · intro n s hs
    exact br_t (nI_le (a := 400) (b := 400) (by omega) (by omega)) (hp _ hs)
  · intro n i s hi hs K
    have ec : (nI i).toNatClampNeg = i := nI_clamp (by omega)
    have iv : vp_in (nI i) 400 := vp_in_nI (by omega) (by omega)
    refine br_f (nI_ge (b := 400) (by omega) (by omega)) ⟨iv, nm_r (e' := upd s i 0) (by rw [ec]) (nm_r (e' := nI (i + 1)) (nI_1 i) (K (upd s i 0) (fun j hj => ?_)))⟩
    by_cases z : j = i
    · rw [z, pk_us]
    · rw [pk_un z]; exact hs j (by omega)
theorem xw_compile (V : wd_V a_kinds a_arguments n) (hp : ∀ (f_bundle : Int32) (a_slotSource a_slotValue a_holder a_ready a_lastWrite a_lastTrigger a_filled a_source a_constant a_target a_extra a_opened : Nat → Int32), cs_RK (cs_nb (cs_C a_kinds a_arguments n)) a_filled a_source a_constant a_target a_extra → f_bundle = nI ((cs_fr (cs_C a_kinds a_arguments n) + 1) / 2) → post (nI n, f_tall, f_open, f_bundle, 1, f_cycle, f_place, f_loopDepth, f_effects, a_kinds, a_arguments, a_slotSource, a_slotValue, a_holder, a_ready, a_lastWrite, a_lastTrigger, a_filled, a_source, a_constant, a_target, a_extra, a_opened, a_registers, a_cells, a_operands, a_triggers, a_starts, a_oldResult, a_newResult, a_resultAt, a_loops, a_setCounts, a_putCounts)) : wpX_compile post (nI n, f_tall, f_open, f_bundle, f_compiled, f_cycle, f_place, f_loopDepth, f_effects, a_kinds, a_arguments, a_slotSource, a_slotValue, a_holder, a_ready, a_lastWrite, a_lastTrigger, a_filled, a_source, a_constant, a_target, a_extra, a_opened, a_registers, a_cells, a_operands, a_triggers, a_starts, a_oldResult, a_newResult, a_resultAt, a_loops, a_setCounts, a_putCounts) := by
  unfold wpX_compile
  refine xw_c12 ?_
  intro a_filled hfi
  refine xw_c34 ?_
  intro a_lastWrite hlw
  refine xw_c55 ?_
  intro a_lastTrigger hlt
  refine xw_c75 ?_
  intro a_holder a_ready hho hre
  refine ⟨n + 1, ?_⟩
  refine xw_c106 V (fun _ _ _ _ _ _ _ _ _ _ _ _ _ R eb => hp _ _ _ _ _ _ _ _ _ _ _ _ _ R.2.2.2.2.2.2.1 eb) n 0 (n + 1) (by omega) (by omega) _ _ _ _ _ _ _ _ _ _ _ _ _ ?_
  have m1 : (-1 : Int32) = nI 0 - 1 := by decide +kernel
  refine ⟨⟨0, rfl, rfl⟩, fun s hs => absurd hs (Nat.not_lt_zero _), fun u hu => (hho u hu).trans m1, fun u hu => hre u hu, fun u hu => (hlw u hu).trans m1, fun u hu => (hlt u hu).trans m1, ⟨fun b hb => hfi b hb, fun k hk => absurd (show false = true from hk) (by decide)⟩, fun j hj => absurd hj (Nat.not_lt_zero _)⟩
end
end
section
/-! the machine, one move at a time -/
abbrev rn_Q : Type := Nat × Nat × Int32 × (Nat → Int32) × (Nat → Int32) × (Nat → Int32) × (Nat → Int32) × (Nat → Nat) × (Nat → Int32) × (Nat → Int32) × (Nat → Int32)
def rn_cy (q : rn_Q) : Nat := q.1
def rn_dp (q : rn_Q) : Nat := q.2.1
def rn_ef (q : rn_Q) : Int32 := q.2.2.1
def rn_rg (q : rn_Q) : Nat → Int32 := q.2.2.2.1
def rn_ce (q : rn_Q) : Nat → Int32 := q.2.2.2.2.1
def rn_op (q : rn_Q) : Nat → Int32 := q.2.2.2.2.2.1
def rn_re (q : rn_Q) : Nat → Int32 := q.2.2.2.2.2.2.1
def rn_at (q : rn_Q) : Nat → Nat := q.2.2.2.2.2.2.2.1
def rn_lp (q : rn_Q) : Nat → Int32 := q.2.2.2.2.2.2.2.2.1
def rn_st (q : rn_Q) : Nat → Int32 := q.2.2.2.2.2.2.2.2.2.1
def rn_pt (q : rn_Q) : Nat → Int32 := q.2.2.2.2.2.2.2.2.2.2
def rn_cm (k x y : Int32) : Int32 := if k = 3 then x + y else if k = 4 then x - y else if k = 6 then x &&& y else if k = 7 then x ^^^ y else if y ≤ x then 0 else 1
def rn_ad (v : Int32) : Nat := (v &&& 15).toNatClampNeg
def rn_mv (t : Nat) (e v : Int32) (q : rn_Q) : rn_Q :=
  if t < 6 then (rn_cy q, rn_dp q, rn_ef q + 1, upd (rn_rg q) t v, rn_ce q, rn_op q, rn_re q, rn_at q, rn_lp q, upd (rn_st q) t (rn_st q t + 1), rn_pt q)
  else if t < 11 then (rn_cy q, rn_dp q, rn_ef q, upd (rn_rg q) t v, rn_ce q, rn_op q, rn_re q, rn_at q, rn_lp q, rn_st q, rn_pt q)
  else if t < 24 then (rn_cy q, rn_dp q, rn_ef q, rn_rg q, rn_ce q, upd (rn_op q) (t - 20) v, rn_re q, rn_at q, rn_lp q, rn_st q, rn_pt q)
  else if t = 24 then (rn_cy q, rn_dp q, rn_ef q, rn_rg q, rn_ce q, rn_op q, upd (rn_re q) 0 (rn_cm e (rn_op q 0) v), cs_fu (rn_at q) 0 (rn_cy q + 1), rn_lp q, rn_st q, rn_pt q)
  else if t = 25 then (rn_cy q, rn_dp q, rn_ef q, rn_rg q, rn_ce q, rn_op q, upd (rn_re q) 1 (rn_op q 1 * v), cs_fu (rn_at q) 1 (rn_cy q + 3), rn_lp q, rn_st q, rn_pt q)
  else if t = 26 then (rn_cy q, rn_dp q, rn_ef q, rn_rg q, rn_ce q, rn_op q, upd (rn_re q) 2 (rn_ce q (rn_ad v)), cs_fu (rn_at q) 2 (rn_cy q + 2), rn_lp q, rn_st q, rn_pt q)
  else (rn_cy q, rn_dp q, rn_ef q + 1, rn_rg q, upd (rn_ce q) (rn_ad v) (rn_op q 3), rn_op q, rn_re q, rn_at q, rn_lp q, rn_st q, upd (rn_pt q) (rn_ad v) (rn_pt q (rn_ad v) + 1))
def rn_lo (v : Int32) (q : rn_Q) : rn_Q := (rn_cy q, rn_dp q + 1, rn_ef q, rn_rg q, rn_ce q, rn_op q, rn_re q, rn_at q, upd (rn_lp q) (rn_dp q) (if v ≤ 9 then v else 9), rn_st q, rn_pt q)
def rn_ba (d : Nat) (q : rn_Q) : rn_Q := (rn_cy q, d, rn_ef q, rn_rg q, rn_ce q, rn_op q, rn_re q, rn_at q, upd (rn_lp q) (rn_dp q - 1) (rn_lp q (rn_dp q - 1) - 1), rn_st q, rn_pt q)
def rn_go (t : Nat) (e v : Int32) (p : Int32 × rn_Q) : Int32 × rn_Q :=
  if t < 28 then (p.1, rn_mv t e v p.2)
  else if t = 28 then (if v ≤ 0 then (e, p.2) else (p.1, rn_lo v p.2))
  else (if rn_lp p.2 (rn_dp p.2 - 1) - 1 ≤ 0 then (p.1, rn_ba (rn_dp p.2 - 1) p.2) else (e, rn_ba (rn_dp p.2) p.2))
def rn_rd (F : cs_T) (k : Nat) (q : rn_Q) : Int32 := if cs_sr F k = 15 then cs_vl F k else if cs_sr F k < 16 then rn_rg q (cs_sr F k) else rn_re q (cs_sr F k - 16)
def rn_h (F : cs_T) (k : Nat) (p : Int32 × rn_Q) : Int32 × rn_Q := if cs_vd F k = true then rn_go (cs_tg F k) (cs_ex F k) (rn_rd F k p.2) p else p
def rn_sf (F : cs_T) (k : Nat) (q : rn_Q) : Prop := cs_vd F k = true → (16 ≤ cs_sr F k → rn_at q (cs_sr F k - 16) ≤ rn_cy q) ∧ (cs_tg F k = 28 → rn_dp q < 2) ∧ (cs_tg F k = 29 → 1 ≤ rn_dp q ∧ rn_dp q ≤ 2)
def rn_cyc (n : Nat) (q : rn_Q) : rn_Q := (n, q.2)
def rn_G (F : cs_T) (nb : Nat) (Post : rn_Q → Prop) : Nat → Nat → rn_Q → Prop
  | 0, _, _ => False
  | t + 1, b, q => (nb ≤ b ∧ Post q) ∨ (b < nb ∧ rn_cy q < 40000 ∧ rn_sf F (2 * b) q ∧ rn_sf F (2 * b + 1) (rn_h F (2 * b) (nI (b + 1), q)).2 ∧ ∃ b', (rn_h F (2 * b + 1) (rn_h F (2 * b) (nI (b + 1), q))).1 = nI b' ∧ b' ≤ 400 ∧ rn_G F nb Post t b' (rn_cyc (rn_cy q + 1) (rn_h F (2 * b + 1) (rn_h F (2 * b) (nI (b + 1), q))).2))
theorem rn_m1 {t : Nat} {e v : Int32} {q : rn_Q} (h : t < 6) : rn_mv t e v q = (rn_cy q, rn_dp q, rn_ef q + 1, upd (rn_rg q) t v, rn_ce q, rn_op q, rn_re q, rn_at q, rn_lp q, upd (rn_st q) t (rn_st q t + 1), rn_pt q) := if_pos h
theorem rn_m2 {t : Nat} {e v : Int32} {q : rn_Q} (h0 : 6 ≤ t) (h : t < 11) : rn_mv t e v q = (rn_cy q, rn_dp q, rn_ef q, upd (rn_rg q) t v, rn_ce q, rn_op q, rn_re q, rn_at q, rn_lp q, rn_st q, rn_pt q) := by
  unfold rn_mv
  rw [if_neg (by omega), if_pos h]
theorem rn_m3 {t : Nat} {e v : Int32} {q : rn_Q} (h0 : 11 ≤ t) (h : t < 24) : rn_mv t e v q = (rn_cy q, rn_dp q, rn_ef q, rn_rg q, rn_ce q, upd (rn_op q) (t - 20) v, rn_re q, rn_at q, rn_lp q, rn_st q, rn_pt q) := by
  unfold rn_mv
  rw [if_neg (by omega), if_neg (by omega), if_pos h]
theorem rn_m24 {e v : Int32} {q : rn_Q} : rn_mv 24 e v q = (rn_cy q, rn_dp q, rn_ef q, rn_rg q, rn_ce q, rn_op q, upd (rn_re q) 0 (rn_cm e (rn_op q 0) v), cs_fu (rn_at q) 0 (rn_cy q + 1), rn_lp q, rn_st q, rn_pt q) := rfl
theorem rn_m25 {e v : Int32} {q : rn_Q} : rn_mv 25 e v q = (rn_cy q, rn_dp q, rn_ef q, rn_rg q, rn_ce q, rn_op q, upd (rn_re q) 1 (rn_op q 1 * v), cs_fu (rn_at q) 1 (rn_cy q + 3), rn_lp q, rn_st q, rn_pt q) := rfl
theorem rn_m26 {e v : Int32} {q : rn_Q} : rn_mv 26 e v q = (rn_cy q, rn_dp q, rn_ef q, rn_rg q, rn_ce q, rn_op q, upd (rn_re q) 2 (rn_ce q (rn_ad v)), cs_fu (rn_at q) 2 (rn_cy q + 2), rn_lp q, rn_st q, rn_pt q) := rfl
theorem rn_m27 {e v : Int32} {q : rn_Q} : rn_mv 27 e v q = (rn_cy q, rn_dp q, rn_ef q + 1, rn_rg q, upd (rn_ce q) (rn_ad v) (rn_op q 3), rn_op q, rn_re q, rn_at q, rn_lp q, rn_st q, upd (rn_pt q) (rn_ad v) (rn_pt q (rn_ad v) + 1)) := rfl
theorem rn_g0 {t : Nat} {e v pl : Int32} {q : rn_Q} (h : t < 28) : rn_go t e v (pl, q) = (pl, rn_mv t e v q) := if_pos h
theorem rn_g28 {e v pl : Int32} {q : rn_Q} : rn_go 28 e v (pl, q) = (if v ≤ 0 then (e, q) else (pl, rn_lo v q)) := rfl
theorem rn_g29 {e v pl : Int32} {q : rn_Q} : rn_go 29 e v (pl, q) = (if rn_lp q (rn_dp q - 1) - 1 ≤ 0 then (pl, rn_ba (rn_dp q - 1) q) else (e, rn_ba (rn_dp q) q)) := rfl
theorem rn_uc {f : Nat → Int32} {a b : Nat} {x y : Int32} (h : a ≠ b) : upd (upd f a x) b y = upd (upd f b y) a x := by
  funext j
  unfold upd
  by_cases z : j = a
  · subst z
    rw [if_neg h, if_pos rfl, if_pos rfl]
  · rw [if_neg z, if_neg z]
theorem rn_fc {f : Nat → Nat} {a b : Nat} {x y : Nat} (h : a ≠ b) : cs_fu (cs_fu f a x) b y = cs_fu (cs_fu f b y) a x := by
  funext j
  unfold cs_fu
  by_cases z : j = a
  · subst z
    rw [if_neg h, if_pos rfl, if_pos rfl]
  · rw [if_neg z, if_neg z]
theorem rn_cymv {t : Nat} {e v : Int32} {q : rn_Q} : rn_cy (rn_mv t e v q) = rn_cy q := by
  unfold rn_mv
  split
  · rfl
  split
  · rfl
  split
  · rfl
  split
  · rfl
  split
  · rfl
  split
  · rfl
  · rfl
theorem rn_cygo {t : Nat} {e v : Int32} {p : Int32 × rn_Q} : rn_cy (rn_go t e v p).2 = rn_cy p.2 := by
  unfold rn_go
  split
  · exact rn_cymv
  split
  · split <;> rfl
  · split <;> rfl
theorem rn_cyh {F : cs_T} {k : Nat} {p : Int32 × rn_Q} : rn_cy (rn_h F k p).2 = rn_cy p.2 := by
  unfold rn_h
  split
  · exact rn_cygo
  · rfl
/-! the units fire behind both writes -/
def rn_fi (u : Nat) (g s : Nat → Int32) (q : rn_Q) : rn_Q := if s u = -1 then q else rn_mv (24 + u) (s u) (g u) q
def rn_fa (g s : Nat → Int32) (q : rn_Q) : rn_Q := rn_fi 3 g s (rn_fi 2 g s (rn_fi 1 g s (rn_fi 0 g s q)))
theorem rn_fa0 {g s : Nat → Int32} {q : rn_Q} (h : ∀ u, u < 4 → s u = -1) : rn_fa g s q = q := by
  unfold rn_fa rn_fi
  rw [if_pos (h 0 (by omega)), if_pos (h 1 (by omega)), if_pos (h 2 (by omega)), if_pos (h 3 (by omega))]
theorem rn_fa1 {g s : Nat → Int32} {q : rn_Q} {u : Nat} {e v : Int32} (h : ∀ u, u < 4 → s u = -1) (hu : u < 4) (he : e ≠ -1) : rn_fa (upd g u v) (upd s u e) q = rn_mv (24 + u) e v q := by
  have a : ∀ w q, w < 4 → w ≠ u → rn_fi w (upd g u v) (upd s u e) q = q := by
    intro w q hw n
    unfold rn_fi
    rw [pk_un n, if_pos (h w hw)]
  have b : ∀ q, rn_fi u (upd g u v) (upd s u e) q = rn_mv (24 + u) e v q := by
    intro q
    unfold rn_fi
    rw [pk_us, if_neg he, pk_us]
  unfold rn_fa
  have c : u = 0 ∨ u = 1 ∨ u = 2 ∨ u = 3 := by omega
  rcases c with c | c | c | c
  · subst c
    rw [b, a 1 _ (by omega) (by omega), a 2 _ (by omega) (by omega), a 3 _ (by omega) (by omega)]
  · subst c
    rw [a 0 _ (by omega) (by omega), b, a 2 _ (by omega) (by omega), a 3 _ (by omega) (by omega)]
  · subst c
    rw [a 0 _ (by omega) (by omega), a 1 _ (by omega) (by omega), b, a 3 _ (by omega) (by omega)]
  · subst c
    rw [a 0 _ (by omega) (by omega), a 1 _ (by omega) (by omega), a 2 _ (by omega) (by omega), b]
theorem rn_co10 {e v e' v' : Int32} {q : rn_Q} : rn_mv 25 e v (rn_mv 24 e' v' q) = rn_mv 24 e' v' (rn_mv 25 e v q) := by
  rw [rn_m24, rn_m25, rn_m25, rn_m24]
  dsimp only [rn_cy, rn_dp, rn_ef, rn_rg, rn_ce, rn_op, rn_re, rn_at, rn_lp, rn_st, rn_pt]
  rw [rn_uc (a := 0) (b := 1) (by omega), rn_fc (a := 0) (b := 1) (by omega)]
theorem rn_co20 {e v e' v' : Int32} {q : rn_Q} : rn_mv 26 e v (rn_mv 24 e' v' q) = rn_mv 24 e' v' (rn_mv 26 e v q) := by
  rw [rn_m24, rn_m26, rn_m26, rn_m24]
  dsimp only [rn_cy, rn_dp, rn_ef, rn_rg, rn_ce, rn_op, rn_re, rn_at, rn_lp, rn_st, rn_pt]
  rw [rn_uc (a := 0) (b := 2) (by omega), rn_fc (a := 0) (b := 2) (by omega)]
theorem rn_co21 {e v e' v' : Int32} {q : rn_Q} : rn_mv 26 e v (rn_mv 25 e' v' q) = rn_mv 25 e' v' (rn_mv 26 e v q) := by
  rw [rn_m25, rn_m26, rn_m26, rn_m25]
  dsimp only [rn_cy, rn_dp, rn_ef, rn_rg, rn_ce, rn_op, rn_re, rn_at, rn_lp, rn_st, rn_pt]
  rw [rn_uc (a := 1) (b := 2) (by omega), rn_fc (a := 1) (b := 2) (by omega)]
theorem rn_co30 {e v e' v' : Int32} {q : rn_Q} : rn_mv 27 e v (rn_mv 24 e' v' q) = rn_mv 24 e' v' (rn_mv 27 e v q) := by
  rw [rn_m24, rn_m27, rn_m27, rn_m24]
  rfl
theorem rn_co31 {e v e' v' : Int32} {q : rn_Q} : rn_mv 27 e v (rn_mv 25 e' v' q) = rn_mv 25 e' v' (rn_mv 27 e v q) := by
  rw [rn_m25, rn_m27, rn_m27, rn_m25]
  rfl
theorem rn_fa2 {g s : Nat → Int32} {q : rn_Q} {u0 u1 : Nat} {e0 v0 e1 v1 : Int32} (h : ∀ u, u < 4 → s u = -1) (h0 : u0 < 4) (h1 : u1 < 4) (n : u1 ≠ u0) (ns : ¬ (u0 = 3 ∧ u1 = 2)) (he0 : e0 ≠ -1) (he1 : e1 ≠ -1) : rn_fa (upd (upd g u0 v0) u1 v1) (upd (upd s u0 e0) u1 e1) q = rn_mv (24 + u1) e1 v1 (rn_mv (24 + u0) e0 v0 q) := by
  have a : ∀ w q, w < 4 → w ≠ u0 → w ≠ u1 → rn_fi w (upd (upd g u0 v0) u1 v1) (upd (upd s u0 e0) u1 e1) q = q := by
    intro w q hw n0 n1
    unfold rn_fi
    rw [pk_un n1, pk_un n0, if_pos (h w hw)]
  have b1 : ∀ q, rn_fi u1 (upd (upd g u0 v0) u1 v1) (upd (upd s u0 e0) u1 e1) q = rn_mv (24 + u1) e1 v1 q := by
    intro q
    unfold rn_fi
    rw [pk_us, if_neg he1, pk_us]
  have b0 : ∀ q, rn_fi u0 (upd (upd g u0 v0) u1 v1) (upd (upd s u0 e0) u1 e1) q = rn_mv (24 + u0) e0 v0 q := by
    intro q
    unfold rn_fi
    rw [pk_un n.symm, pk_us, if_neg he0, pk_un n.symm, pk_us]
  unfold rn_fa
  have c0 : u0 = 0 ∨ u0 = 1 ∨ u0 = 2 ∨ u0 = 3 := by omega
  have c1 : u1 = 0 ∨ u1 = 1 ∨ u1 = 2 ∨ u1 = 3 := by omega
  rcases c0 with c0 | c0 | c0 | c0 <;> rcases c1 with c1 | c1 | c1 | c1 <;> subst c0 <;> subst c1
  · exact absurd rfl n
  · rw [b0, b1, a 2 _ (by omega) (by omega) (by omega), a 3 _ (by omega) (by omega) (by omega)]
  · rw [b0, a 1 _ (by omega) (by omega) (by omega), b1, a 3 _ (by omega) (by omega) (by omega)]
  · rw [b0, a 1 _ (by omega) (by omega) (by omega), a 2 _ (by omega) (by omega) (by omega), b1]
  · rw [b1, b0, a 2 _ (by omega) (by omega) (by omega), a 3 _ (by omega) (by omega) (by omega)]
    exact rn_co10
  · exact absurd rfl n
  · rw [a 0 _ (by omega) (by omega) (by omega), b0, b1, a 3 _ (by omega) (by omega) (by omega)]
  · rw [a 0 _ (by omega) (by omega) (by omega), b0, a 2 _ (by omega) (by omega) (by omega), b1]
  · rw [b1, a 1 _ (by omega) (by omega) (by omega), b0, a 3 _ (by omega) (by omega) (by omega)]
    exact rn_co20
  · rw [a 0 _ (by omega) (by omega) (by omega), b1, b0, a 3 _ (by omega) (by omega) (by omega)]
    exact rn_co21
  · exact absurd rfl n
  · rw [a 0 _ (by omega) (by omega) (by omega), a 1 _ (by omega) (by omega) (by omega), b0, b1]
  · rw [b1, a 1 _ (by omega) (by omega) (by omega), a 2 _ (by omega) (by omega) (by omega), b0]
    exact rn_co30
  · rw [a 0 _ (by omega) (by omega) (by omega), b1, a 2 _ (by omega) (by omega) (by omega), b0]
    exact rn_co31
  · exact absurd ⟨rfl, rfl⟩ ns
  · exact absurd rfl n
theorem rn_cgo1 {t u : Nat} {e v e' v' : Int32} {q : rn_Q} (hu : u < 4) (y : t < 6) : rn_mv (24 + u) e v (rn_mv t e' v' q) = rn_mv t e' v' (rn_mv (24 + u) e v q) := by
  rw [rn_m1 y, rn_m1 y]
  have c : u = 0 ∨ u = 1 ∨ u = 2 ∨ u = 3 := by omega
  rcases c with c | c | c | c <;> subst c
  · rw [rn_m24, rn_m24]; rfl
  · rw [rn_m25, rn_m25]; rfl
  · rw [rn_m26, rn_m26]; rfl
  · rw [rn_m27, rn_m27]; rfl
theorem rn_cgo2 {t u : Nat} {e v e' v' : Int32} {q : rn_Q} (hu : u < 4) (y : 6 ≤ t) (w : t < 11) : rn_mv (24 + u) e v (rn_mv t e' v' q) = rn_mv t e' v' (rn_mv (24 + u) e v q) := by
  rw [rn_m2 y w, rn_m2 y w]
  have c : u = 0 ∨ u = 1 ∨ u = 2 ∨ u = 3 := by omega
  rcases c with c | c | c | c <;> subst c
  · rw [rn_m24, rn_m24]; rfl
  · rw [rn_m25, rn_m25]; rfl
  · rw [rn_m26, rn_m26]; rfl
  · rw [rn_m27, rn_m27]; rfl
theorem rn_cgo3 {t u : Nat} {e v e' v' : Int32} {q : rn_Q} (hu : u < 4) (y : 20 ≤ t) (w : t < 24) (hn : t ≠ 20 + u) : rn_mv (24 + u) e v (rn_mv t e' v' q) = rn_mv t e' v' (rn_mv (24 + u) e v q) := by
  rw [rn_m3 (by omega) w, rn_m3 (by omega) w]
  have n : u ≠ t - 20 := by omega
  have c : u = 0 ∨ u = 1 ∨ u = 2 ∨ u = 3 := by omega
  rcases c with c | c | c | c <;> subst c
  · rw [rn_m24, rn_m24]
    dsimp only [rn_cy, rn_dp, rn_ef, rn_rg, rn_ce, rn_op, rn_re, rn_at, rn_lp, rn_st, rn_pt]
    rw [pk_un n]
  · rw [rn_m25, rn_m25]
    dsimp only [rn_cy, rn_dp, rn_ef, rn_rg, rn_ce, rn_op, rn_re, rn_at, rn_lp, rn_st, rn_pt]
    rw [pk_un n]
  · rw [rn_m26, rn_m26]; rfl
  · rw [rn_m27, rn_m27]
    dsimp only [rn_cy, rn_dp, rn_ef, rn_rg, rn_ce, rn_op, rn_re, rn_at, rn_lp, rn_st, rn_pt]
    rw [pk_un n]
theorem rn_clo {u : Nat} {e v v' : Int32} {q : rn_Q} (hu : u < 4) : rn_mv (24 + u) e v (rn_lo v' q) = rn_lo v' (rn_mv (24 + u) e v q) := by
  have c : u = 0 ∨ u = 1 ∨ u = 2 ∨ u = 3 := by omega
  unfold rn_lo
  rcases c with c | c | c | c <;> subst c
  · rw [rn_m24, rn_m24]; rfl
  · rw [rn_m25, rn_m25]; rfl
  · rw [rn_m26, rn_m26]; rfl
  · rw [rn_m27, rn_m27]; rfl
theorem rn_cba {u d : Nat} {e v : Int32} {q : rn_Q} (hu : u < 4) : rn_mv (24 + u) e v (rn_ba d q) = rn_ba d (rn_mv (24 + u) e v q) := by
  have c : u = 0 ∨ u = 1 ∨ u = 2 ∨ u = 3 := by omega
  unfold rn_ba
  rcases c with c | c | c | c <;> subst c
  · rw [rn_m24, rn_m24]; rfl
  · rw [rn_m25, rn_m25]; rfl
  · rw [rn_m26, rn_m26]; rfl
  · rw [rn_m27, rn_m27]; rfl
theorem rn_clp {u : Nat} {e v : Int32} {q : rn_Q} (hu : u < 4) : rn_lp (rn_mv (24 + u) e v q) = rn_lp q ∧ rn_dp (rn_mv (24 + u) e v q) = rn_dp q := by
  have c : u = 0 ∨ u = 1 ∨ u = 2 ∨ u = 3 := by omega
  rcases c with c | c | c | c <;> subst c
  · rw [rn_m24]; exact ⟨rfl, rfl⟩
  · rw [rn_m25]; exact ⟨rfl, rfl⟩
  · rw [rn_m26]; exact ⟨rfl, rfl⟩
  · rw [rn_m27]; exact ⟨rfl, rfl⟩
theorem rn_cgo {t u : Nat} {e v e' v' pl : Int32} {q : rn_Q} (hu : u < 4) (ht : t < 11 ∨ (20 ≤ t ∧ t < 24) ∨ t = 28 ∨ t = 29) (hn : t ≠ 20 + u) : rn_mv (24 + u) e v (rn_go t e' v' (pl, q)).2 = (rn_go t e' v' (pl, rn_mv (24 + u) e v q)).2 ∧ (rn_go t e' v' (pl, q)).1 = (rn_go t e' v' (pl, rn_mv (24 + u) e v q)).1 := by
  rcases Nat.lt_or_ge t 28 with z | z
  · rw [rn_g0 z, rn_g0 z]
    refine ⟨?_, rfl⟩
    show rn_mv (24 + u) e v (rn_mv t e' v' q) = rn_mv t e' v' (rn_mv (24 + u) e v q)
    rcases Nat.lt_or_ge t 6 with y | y
    · exact rn_cgo1 hu y
    · rcases Nat.lt_or_ge t 11 with w | w
      · exact rn_cgo2 hu y w
      · exact rn_cgo3 hu (by omega) (by omega) hn
  · have d : t = 28 ∨ t = 29 := by omega
    rcases d with d | d
    · subst d
      rw [rn_g28, rn_g28]
      split
      · exact ⟨rfl, rfl⟩
      · exact ⟨rn_clo hu, rfl⟩
    · subst d
      have l := rn_clp (e := e) (v := v) (q := q) hu
      rw [rn_g29, rn_g29, l.1, l.2]
      split
      · exact ⟨rn_cba hu, rfl⟩
      · exact ⟨rn_cba hu, rfl⟩
end
section
/-! the walks of the machine -/
section
variable {f_count : Int32} {f_tall : Int32} {f_open : Int32} {f_bundle : Int32} {f_compiled : Int32} {f_cycle : Int32} {f_place : Int32} {f_loopDepth : Int32} {f_effects : Int32} {a_kinds : Nat → Int32} {a_arguments : Nat → Int32} {a_slotSource : Nat → Int32} {a_slotValue : Nat → Int32} {a_holder : Nat → Int32} {a_ready : Nat → Int32} {a_lastWrite : Nat → Int32} {a_lastTrigger : Nat → Int32} {a_filled : Nat → Int32} {a_source : Nat → Int32} {a_constant : Nat → Int32} {a_target : Nat → Int32} {a_extra : Nat → Int32} {a_opened : Nat → Int32} {a_registers : Nat → Int32} {a_cells : Nat → Int32} {a_operands : Nat → Int32} {a_triggers : Nat → Int32} {a_starts : Nat → Int32} {a_oldResult : Nat → Int32} {a_newResult : Nat → Int32} {a_resultAt : Nat → Int32} {a_loops : Nat → Int32} {a_setCounts : Nat → Int32} {a_putCounts : Nat → Int32} {F : cs_T} {q : rn_Q} {pl : Int32} {g s o r : Nat → Int32} {k b u : Nat} {v : Int32}
theorem xw_seen {post : Int32 → Prop} (hu : u < 3) (ha : r u = nI (rn_at q u)) (ht : rn_at q u ≤ rn_cy q) (hc : rn_cy q < 2 ^ 31) (hp : post (rn_re q u)) : wpX_seen post (f_count, f_tall, f_open, f_bundle, f_compiled, nI (rn_cy q), pl, nI (rn_dp q), rn_ef q, a_kinds, a_arguments, a_slotSource, a_slotValue, a_holder, a_ready, a_lastWrite, a_lastTrigger, a_filled, a_source, a_constant, a_target, a_extra, a_opened, rn_rg q, rn_ce q, rn_op q, g, s, o, rn_re q, r, rn_lp q, rn_st q, rn_pt q) (nI u) := by
  have ec : (nI u).toNatClampNeg = u := nI_clamp (by omega)
  have iu : vp_in (nI u) 3 := vp_in_nI (by omega) (by omega)
  unfold wpX_seen
  dsimp only
  rw [ec, ha]
  exact ⟨iu, br_f (nI_nlt ht hc) ⟨iu, hp⟩⟩
theorem xw_read {post : Int32 → Prop} (RK : cs_RK F a_filled a_source a_constant a_target a_extra) (hv : cs_vd F k = true) (hk : k < 800) (hS : cs_S (cs_sr F k)) (hr : ∀ u, u < 3 → r u = nI (rn_at q u)) (ht : 16 ≤ cs_sr F k → rn_at q (cs_sr F k - 16) ≤ rn_cy q) (hc : rn_cy q < 2 ^ 31) (hp : post (rn_rd F k q)) : wpX_read post (f_count, f_tall, f_open, f_bundle, f_compiled, nI (rn_cy q), pl, nI (rn_dp q), rn_ef q, a_kinds, a_arguments, a_slotSource, a_slotValue, a_holder, a_ready, a_lastWrite, a_lastTrigger, a_filled, a_source, a_constant, a_target, a_extra, a_opened, rn_rg q, rn_ce q, rn_op q, g, s, o, rn_re q, r, rn_lp q, rn_st q, rn_pt q) (nI k) := by
  have ec : (nI k).toNatClampNeg = k := nI_clamp (by omega)
  have ik : vp_in (nI k) 800 := vp_in_nI (by omega) (by omega)
  have w := RK.2 k hv
  unfold wpX_read
  dsimp only
  rw [ec, w.1, w.2.1]
  unfold cs_S at hS
  unfold rn_rd at hp
  generalize cs_sr F k = f at *
  refine ⟨ik, nm_e (pk_eq f 15 (fun z => ⟨ik, ?_⟩) (fun z => pk_lt f 16 (fun y => ?_) (fun y => ?_)))⟩
  · rw [if_pos z] at hp
    exact hp
  · rw [if_neg z, if_pos y] at hp
    rw [nI_clamp (by omega)]
    exact ⟨vp_in_nI (by omega) (by omega), hp⟩
  · rw [if_neg z, if_neg (by omega)] at hp
    rw [show nI f - 16 = nI (f - 16) from pk_sub (b := 16) (by omega)]
    exact xw_seen (by omega) (hr _ (by omega)) (ht (by omega)) hc hp
theorem xw_wt {post : SX → Prop} (RK : cs_RK F a_filled a_source a_constant a_target a_extra) (hv : cs_vd F k = true) (hk : k < 800) (hu : u < 4) (et : cs_tg F k = 24 + u) (hp : post (f_count, f_tall, f_open, f_bundle, f_compiled, nI (rn_cy q), pl, nI (rn_dp q), rn_ef q, a_kinds, a_arguments, a_slotSource, a_slotValue, a_holder, a_ready, a_lastWrite, a_lastTrigger, a_filled, a_source, a_constant, a_target, a_extra, a_opened, rn_rg q, rn_ce q, rn_op q, upd g u v, upd s u (cs_ex F k), o, rn_re q, r, rn_lp q, rn_st q, rn_pt q)) : wpX_write post (f_count, f_tall, f_open, f_bundle, f_compiled, nI (rn_cy q), pl, nI (rn_dp q), rn_ef q, a_kinds, a_arguments, a_slotSource, a_slotValue, a_holder, a_ready, a_lastWrite, a_lastTrigger, a_filled, a_source, a_constant, a_target, a_extra, a_opened, rn_rg q, rn_ce q, rn_op q, g, s, o, rn_re q, r, rn_lp q, rn_st q, rn_pt q) (nI k) v := by
  have ec : (nI k).toNatClampNeg = k := nI_clamp (by omega)
  have ik : vp_in (nI k) 800 := vp_in_nI (by omega) (by omega)
  have w := RK.2 k hv
  have es : nI (24 + u) - 24 = nI u := by
    rw [show nI (24 + u) - 24 = nI (24 + u - 24) from pk_sub (b := 24) (by omega)]
    exact congrArg nI (by omega)
  have eu : (nI u).toNatClampNeg = u := nI_clamp (by omega)
  have iu : vp_in (nI u) 4 := vp_in_nI (by omega) (by omega)
  unfold wpX_write
  dsimp only
  rw [ec, w.2.2.1, w.2.2.2, et]
  refine ⟨ik, nm_e ?_⟩
  rw [es, eu]
  refine br_t (nI_le (a := 11) (by omega) (by omega)) (br_t (nI_le (a := 24) (by omega) (by omega)) (br_f (nI_ge (b := 28) (by omega) (by omega)) ?_))
  exact ⟨iu, nm_e ⟨ik, iu, nm_e hp⟩⟩
theorem xw_enter {post : SX → Prop} {e : Int32} (hd : rn_dp q < 2) (hp : post (f_count, f_tall, f_open, f_bundle, f_compiled, nI (rn_cy ((rn_go 28 e v (pl, q)).2)), (rn_go 28 e v (pl, q)).1, nI (rn_dp ((rn_go 28 e v (pl, q)).2)), rn_ef ((rn_go 28 e v (pl, q)).2), a_kinds, a_arguments, a_slotSource, a_slotValue, a_holder, a_ready, a_lastWrite, a_lastTrigger, a_filled, a_source, a_constant, a_target, a_extra, a_opened, rn_rg ((rn_go 28 e v (pl, q)).2), rn_ce ((rn_go 28 e v (pl, q)).2), rn_op ((rn_go 28 e v (pl, q)).2), g, s, o, rn_re ((rn_go 28 e v (pl, q)).2), r, rn_lp ((rn_go 28 e v (pl, q)).2), rn_st ((rn_go 28 e v (pl, q)).2), rn_pt ((rn_go 28 e v (pl, q)).2))) : wpX_enterLoop post (f_count, f_tall, f_open, f_bundle, f_compiled, nI (rn_cy q), pl, nI (rn_dp q), rn_ef q, a_kinds, a_arguments, a_slotSource, a_slotValue, a_holder, a_ready, a_lastWrite, a_lastTrigger, a_filled, a_source, a_constant, a_target, a_extra, a_opened, rn_rg q, rn_ce q, rn_op q, g, s, o, rn_re q, r, rn_lp q, rn_st q, rn_pt q) v e := by
  have ec : (nI (rn_dp q)).toNatClampNeg = rn_dp q := nI_clamp (by omega)
  have iu : vp_in (nI (rn_dp q)) 2 := vp_in_nI (by omega) (by omega)
  rw [rn_g28] at hp
  have M : ¬ v ≤ 0 → ∀ x, x = (if v ≤ 9 then v else 9) → wX_enterLoop_38 post x (nI (rn_dp q)) f_count f_tall f_open f_bundle f_compiled (nI (rn_cy q)) pl (nI (rn_dp q)) (rn_ef q) a_kinds a_arguments a_slotSource a_slotValue a_holder a_ready a_lastWrite a_lastTrigger a_filled a_source a_constant a_target a_extra a_opened (rn_rg q) (rn_ce q) (rn_op q) g s o (rn_re q) r (rn_lp q) (rn_st q) (rn_pt q) := by
    intro z x ex
    rw [if_neg z] at hp
    unfold wX_enterLoop_38
    rw [ec]
    refine ⟨iu, nm_e (nm_r (e' := nI (rn_dp q + 1)) (nI_1 _) ?_)⟩
    subst ex
    exact hp
  unfold wpX_enterLoop
  refine br_c (fun z => ?_) (fun z => pk_eq (rn_dp q) 2 (fun y => absurd y (by omega)) (fun y => br_c (fun w => M z v (if_pos w).symm) (fun w => M z 9 (if_neg w).symm)))
  rw [if_pos z] at hp
  exact hp
theorem xw_repeat {post : SX → Prop} {e : Int32} (hd : 1 ≤ rn_dp q ∧ rn_dp q ≤ 2) (hp : post (f_count, f_tall, f_open, f_bundle, f_compiled, nI (rn_cy ((rn_go 29 e v (pl, q)).2)), (rn_go 29 e v (pl, q)).1, nI (rn_dp ((rn_go 29 e v (pl, q)).2)), rn_ef ((rn_go 29 e v (pl, q)).2), a_kinds, a_arguments, a_slotSource, a_slotValue, a_holder, a_ready, a_lastWrite, a_lastTrigger, a_filled, a_source, a_constant, a_target, a_extra, a_opened, rn_rg ((rn_go 29 e v (pl, q)).2), rn_ce ((rn_go 29 e v (pl, q)).2), rn_op ((rn_go 29 e v (pl, q)).2), g, s, o, rn_re ((rn_go 29 e v (pl, q)).2), r, rn_lp ((rn_go 29 e v (pl, q)).2), rn_st ((rn_go 29 e v (pl, q)).2), rn_pt ((rn_go 29 e v (pl, q)).2))) : wpX_repeatLoop post (f_count, f_tall, f_open, f_bundle, f_compiled, nI (rn_cy q), pl, nI (rn_dp q), rn_ef q, a_kinds, a_arguments, a_slotSource, a_slotValue, a_holder, a_ready, a_lastWrite, a_lastTrigger, a_filled, a_source, a_constant, a_target, a_extra, a_opened, rn_rg q, rn_ce q, rn_op q, g, s, o, rn_re q, r, rn_lp q, rn_st q, rn_pt q) e := by
  have es : nI (rn_dp q) - 1 = nI (rn_dp q - 1) := wd_s1 hd.1
  have ec : (nI (rn_dp q - 1)).toNatClampNeg = rn_dp q - 1 := nI_clamp (by omega)
  have iu : vp_in (nI (rn_dp q - 1)) 2 := vp_in_nI (by omega) (by omega)
  rw [rn_g29] at hp
  unfold wpX_repeatLoop
  dsimp only
  rw [es, ec]
  refine pk_eq (rn_dp q) 0 (fun z => absurd z (by omega)) (fun _ => ⟨iu, iu, nm_e ⟨iu, ?_⟩⟩)
  rw [pk_us]
  refine br_c (fun z => ?_) (fun z => ?_)
  · rw [if_pos z] at hp
    exact nm_e hp
  · rw [if_neg z] at hp
    exact hp
theorem xw_wn {post : SX → Prop} (RK : cs_RK F a_filled a_source a_constant a_target a_extra) (hv : cs_vd F k = true) (hk : k < 800) (hM : cs_tg F k < 11 ∨ (20 ≤ cs_tg F k ∧ cs_tg F k < 30)) (hn : ¬ (24 ≤ cs_tg F k ∧ cs_tg F k < 28)) (h8 : cs_tg F k = 28 → rn_dp q < 2) (h9 : cs_tg F k = 29 → 1 ≤ rn_dp q ∧ rn_dp q ≤ 2) (hp : post (f_count, f_tall, f_open, f_bundle, f_compiled, nI (rn_cy ((rn_go (cs_tg F k) (cs_ex F k) v (pl, q)).2)), (rn_go (cs_tg F k) (cs_ex F k) v (pl, q)).1, nI (rn_dp ((rn_go (cs_tg F k) (cs_ex F k) v (pl, q)).2)), rn_ef ((rn_go (cs_tg F k) (cs_ex F k) v (pl, q)).2), a_kinds, a_arguments, a_slotSource, a_slotValue, a_holder, a_ready, a_lastWrite, a_lastTrigger, a_filled, a_source, a_constant, a_target, a_extra, a_opened, rn_rg ((rn_go (cs_tg F k) (cs_ex F k) v (pl, q)).2), rn_ce ((rn_go (cs_tg F k) (cs_ex F k) v (pl, q)).2), rn_op ((rn_go (cs_tg F k) (cs_ex F k) v (pl, q)).2), g, s, o, rn_re ((rn_go (cs_tg F k) (cs_ex F k) v (pl, q)).2), r, rn_lp ((rn_go (cs_tg F k) (cs_ex F k) v (pl, q)).2), rn_st ((rn_go (cs_tg F k) (cs_ex F k) v (pl, q)).2), rn_pt ((rn_go (cs_tg F k) (cs_ex F k) v (pl, q)).2))) : wpX_write post (f_count, f_tall, f_open, f_bundle, f_compiled, nI (rn_cy q), pl, nI (rn_dp q), rn_ef q, a_kinds, a_arguments, a_slotSource, a_slotValue, a_holder, a_ready, a_lastWrite, a_lastTrigger, a_filled, a_source, a_constant, a_target, a_extra, a_opened, rn_rg q, rn_ce q, rn_op q, g, s, o, rn_re q, r, rn_lp q, rn_st q, rn_pt q) (nI k) v := by
  have ec : (nI k).toNatClampNeg = k := nI_clamp (by omega)
  have ik : vp_in (nI k) 800 := vp_in_nI (by omega) (by omega)
  have w := RK.2 k hv
  unfold wpX_write
  dsimp only
  rw [ec, w.2.2.1, w.2.2.2]
  generalize cs_tg F k = t at *
  generalize cs_ex F k = e at *
  refine ⟨ik, nm_e (pk_le 11 t (fun l => pk_le 24 t (fun l2 => pk_le 28 t (fun l3 => pk_eq t 28 (fun z => ⟨ik, ?_⟩) (fun z => ⟨ik, ?_⟩)) (fun l3 => absurd (And.intro l2 l3) hn)) (fun l2 => ?_)) (fun l => ?_))⟩
  · subst z
    exact xw_enter (h8 rfl) hp
  · have z9 : t = 29 := by omega
    subst z9
    exact xw_repeat (v := v) (h9 rfl) hp
  · have es : nI t - 20 = nI (t - 20) := pk_sub (b := 20) (by omega)
    have et : (nI t - 20).toNatClampNeg = t - 20 := by rw [es]; exact nI_clamp (by omega)
    rw [rn_g0 (by omega), rn_m3 (by omega) (by omega)] at hp
    exact ⟨by rw [es]; exact vp_in_nI (by omega) (by omega), nm_r (e' := upd (rn_op q) (t - 20) v) (by rw [et]) hp⟩
  · have et : (nI t).toNatClampNeg = t := nI_clamp (by omega)
    rw [et]
    refine ⟨vp_in_nI (by omega) (by omega), nm_e (pk_le 6 t (fun z => ?_) (fun z => ?_))⟩
    · rw [rn_g0 (by omega), rn_m2 (by omega) (by omega)] at hp
      exact hp
    · have i6 : vp_in (nI t) 6 := vp_in_nI (by omega) (by omega)
      rw [rn_g0 (by omega), rn_m1 (by omega)] at hp
      exact ⟨i6, i6, nm_e (nm_e hp)⟩
/-! the units -/
theorem xw_comp {post : Int32 → Prop} {e x y : Int32} (hp : post (rn_cm e x y)) : wpX_computed post e x y := by
  unfold rn_cm at hp
  unfold wpX_computed
  refine br_c (fun z => ?_) (fun z => br_c (fun z1 => ?_) (fun z1 => br_c (fun z2 => ?_) (fun z2 => br_c (fun z3 => ?_) (fun z3 => br_c (fun z4 => ?_) (fun z4 => ?_)))))
  · rw [if_pos z] at hp; exact hp
  · rw [if_neg z, if_pos z1] at hp; exact hp
  · rw [if_neg z, if_neg z1, if_pos z2] at hp; exact hp
  · rw [if_neg z, if_neg z1, if_neg z2, if_pos z3] at hp; exact hp
  · rw [if_neg z, if_neg z1, if_neg z2, if_neg z3, if_pos z4] at hp; exact hp
  · rw [if_neg z, if_neg z1, if_neg z2, if_neg z3, if_neg z4] at hp; exact hp
theorem xw_fin {post : SX → Prop} {x d : Int32} (hu : u < 3) (hp : ∀ o', post (f_count, f_tall, f_open, f_bundle, f_compiled, f_cycle, f_place, f_loopDepth, f_effects, a_kinds, a_arguments, a_slotSource, a_slotValue, a_holder, a_ready, a_lastWrite, a_lastTrigger, a_filled, a_source, a_constant, a_target, a_extra, a_opened, a_registers, a_cells, a_operands, a_triggers, a_starts, o', upd a_newResult u x, upd a_resultAt u (f_cycle + d), a_loops, a_setCounts, a_putCounts)) : wpX_finish post (f_count, f_tall, f_open, f_bundle, f_compiled, f_cycle, f_place, f_loopDepth, f_effects, a_kinds, a_arguments, a_slotSource, a_slotValue, a_holder, a_ready, a_lastWrite, a_lastTrigger, a_filled, a_source, a_constant, a_target, a_extra, a_opened, a_registers, a_cells, a_operands, a_triggers, a_starts, a_oldResult, a_newResult, a_resultAt, a_loops, a_setCounts, a_putCounts) (nI u) x d := by
  have ec : (nI u).toNatClampNeg = u := nI_clamp (by omega)
  have iu : vp_in (nI u) 3 := vp_in_nI (by omega) (by omega)
  unfold wpX_finish wpX_seen
  dsimp only
  rw [ec]
  exact ⟨iu, br_c (fun _ => ⟨iu, iu, nm_e ⟨iu, nm_e ⟨iu, nm_e (hp _)⟩⟩⟩) (fun _ => ⟨iu, iu, nm_e ⟨iu, nm_e ⟨iu, nm_e (hp _)⟩⟩⟩)⟩
theorem xw_f3 {post : SX → Prop} (hp : post (f_count, f_tall, f_open, f_bundle, f_compiled, nI (rn_cy (rn_fi 3 g s q)), pl, nI (rn_dp (rn_fi 3 g s q)), rn_ef (rn_fi 3 g s q), a_kinds, a_arguments, a_slotSource, a_slotValue, a_holder, a_ready, a_lastWrite, a_lastTrigger, a_filled, a_source, a_constant, a_target, a_extra, a_opened, rn_rg (rn_fi 3 g s q), rn_ce (rn_fi 3 g s q), rn_op (rn_fi 3 g s q), g, s, o, rn_re (rn_fi 3 g s q), r, rn_lp (rn_fi 3 g s q), rn_st (rn_fi 3 g s q), rn_pt (rn_fi 3 g s q))) : wX_doBundle_212 post f_count f_tall f_open f_bundle f_compiled (nI (rn_cy q)) pl (nI (rn_dp q)) (rn_ef q) a_kinds a_arguments a_slotSource a_slotValue a_holder a_ready a_lastWrite a_lastTrigger a_filled a_source a_constant a_target a_extra a_opened (rn_rg q) (rn_ce q) (rn_op q) g s o (rn_re q) r (rn_lp q) (rn_st q) (rn_pt q) := by
  unfold rn_fi at hp
  unfold wX_doBundle_212
  by_cases z : s 3 = -1
  · rw [if_pos z] at hp
    exact br_t z hp
  · rw [if_neg z, show 24 + 3 = 27 from rfl, rn_m27] at hp
    have i16 : vp_in (g 3 &&& 15) 16 := pk_andIn (g 3) 4 (by decide) (by omega)
    exact br_f z (nm_e ⟨i16, nm_e ⟨i16, i16, nm_e (nm_e hp)⟩⟩)
theorem xw_rat {d j : Nat} (hr : ∀ w, w < 3 → r w = nI (rn_at q w)) : ∀ w, w < 3 → upd r u (nI j + nI d) w = nI (cs_fu (rn_at q) u (j + d) w) := by
  intro w hw
  by_cases z : w = u
  · rw [z, pk_us, cs_us, nI_add]
  · rw [pk_un z, cs_un z]; exact hr w hw
theorem xw_f2 {post : SX → Prop} (hr : ∀ w, w < 3 → r w = nI (rn_at q w)) (hp : ∀ o r, (∀ w, w < 3 → r w = nI (rn_at (rn_fi 2 g s q) w)) → wX_doBundle_212 post f_count f_tall f_open f_bundle f_compiled (nI (rn_cy (rn_fi 2 g s q))) pl (nI (rn_dp (rn_fi 2 g s q))) (rn_ef (rn_fi 2 g s q)) a_kinds a_arguments a_slotSource a_slotValue a_holder a_ready a_lastWrite a_lastTrigger a_filled a_source a_constant a_target a_extra a_opened (rn_rg (rn_fi 2 g s q)) (rn_ce (rn_fi 2 g s q)) (rn_op (rn_fi 2 g s q)) g s o (rn_re (rn_fi 2 g s q)) r (rn_lp (rn_fi 2 g s q)) (rn_st (rn_fi 2 g s q)) (rn_pt (rn_fi 2 g s q))) : wX_doBundle_182 post f_count f_tall f_open f_bundle f_compiled (nI (rn_cy q)) pl (nI (rn_dp q)) (rn_ef q) a_kinds a_arguments a_slotSource a_slotValue a_holder a_ready a_lastWrite a_lastTrigger a_filled a_source a_constant a_target a_extra a_opened (rn_rg q) (rn_ce q) (rn_op q) g s o (rn_re q) r (rn_lp q) (rn_st q) (rn_pt q) := by
  unfold rn_fi at hp
  unfold wX_doBundle_182
  by_cases z : s 2 = -1
  · rw [if_pos z] at hp
    exact br_t z (hp o r hr)
  · rw [if_neg z, show 24 + 2 = 26 from rfl, rn_m26] at hp
    have i16 : vp_in (g 2 &&& 15) 16 := pk_andIn (g 2) 4 (by decide) (by omega)
    refine br_f z ⟨i16, ?_⟩
    refine xw_fin (u := 2) (by omega) (fun o' => ?_)
    exact hp o' _ (xw_rat (u := 2) (d := 2) hr)
theorem xw_f1 {post : SX → Prop} (hr : ∀ w, w < 3 → r w = nI (rn_at q w)) (hp : ∀ o r, (∀ w, w < 3 → r w = nI (rn_at (rn_fi 1 g s q) w)) → wX_doBundle_182 post f_count f_tall f_open f_bundle f_compiled (nI (rn_cy (rn_fi 1 g s q))) pl (nI (rn_dp (rn_fi 1 g s q))) (rn_ef (rn_fi 1 g s q)) a_kinds a_arguments a_slotSource a_slotValue a_holder a_ready a_lastWrite a_lastTrigger a_filled a_source a_constant a_target a_extra a_opened (rn_rg (rn_fi 1 g s q)) (rn_ce (rn_fi 1 g s q)) (rn_op (rn_fi 1 g s q)) g s o (rn_re (rn_fi 1 g s q)) r (rn_lp (rn_fi 1 g s q)) (rn_st (rn_fi 1 g s q)) (rn_pt (rn_fi 1 g s q))) : wX_doBundle_153 post f_count f_tall f_open f_bundle f_compiled (nI (rn_cy q)) pl (nI (rn_dp q)) (rn_ef q) a_kinds a_arguments a_slotSource a_slotValue a_holder a_ready a_lastWrite a_lastTrigger a_filled a_source a_constant a_target a_extra a_opened (rn_rg q) (rn_ce q) (rn_op q) g s o (rn_re q) r (rn_lp q) (rn_st q) (rn_pt q) := by
  unfold rn_fi at hp
  unfold wX_doBundle_153
  by_cases z : s 1 = -1
  · rw [if_pos z] at hp
    exact br_t z (hp o r hr)
  · rw [if_neg z, show 24 + 1 = 25 from rfl, rn_m25] at hp
    refine br_f z ?_
    refine xw_fin (u := 1) (by omega) (fun o' => ?_)
    exact hp o' _ (xw_rat (u := 1) (d := 3) hr)
theorem xw_f0 {post : SX → Prop} (hr : ∀ w, w < 3 → r w = nI (rn_at q w)) (hp : ∀ o r, (∀ w, w < 3 → r w = nI (rn_at (rn_fi 0 g s q) w)) → wX_doBundle_153 post f_count f_tall f_open f_bundle f_compiled (nI (rn_cy (rn_fi 0 g s q))) pl (nI (rn_dp (rn_fi 0 g s q))) (rn_ef (rn_fi 0 g s q)) a_kinds a_arguments a_slotSource a_slotValue a_holder a_ready a_lastWrite a_lastTrigger a_filled a_source a_constant a_target a_extra a_opened (rn_rg (rn_fi 0 g s q)) (rn_ce (rn_fi 0 g s q)) (rn_op (rn_fi 0 g s q)) g s o (rn_re (rn_fi 0 g s q)) r (rn_lp (rn_fi 0 g s q)) (rn_st (rn_fi 0 g s q)) (rn_pt (rn_fi 0 g s q))) : wX_doBundle_112 post f_count f_tall f_open f_bundle f_compiled (nI (rn_cy q)) pl (nI (rn_dp q)) (rn_ef q) a_kinds a_arguments a_slotSource a_slotValue a_holder a_ready a_lastWrite a_lastTrigger a_filled a_source a_constant a_target a_extra a_opened (rn_rg q) (rn_ce q) (rn_op q) g s o (rn_re q) r (rn_lp q) (rn_st q) (rn_pt q) := by
  unfold rn_fi at hp
  unfold wX_doBundle_112
  by_cases z : s 0 = -1
  · rw [if_pos z] at hp
    exact br_t z (hp o r hr)
  · rw [if_neg z, show 24 + 0 = 24 from rfl, rn_m24] at hp
    refine br_f z (xw_comp ?_)
    refine xw_fin (u := 0) (by omega) (fun o' => ?_)
    exact hp o' _ (xw_rat (u := 0) (d := 1) hr)
theorem xw_fire {post : SX → Prop} (hr : ∀ w, w < 3 → r w = nI (rn_at q w)) (hp : ∀ o r, (∀ w, w < 3 → r w = nI (rn_at (rn_fa g s q) w)) → post (f_count, f_tall, f_open, f_bundle, f_compiled, nI (rn_cy (rn_fa g s q)), pl, nI (rn_dp (rn_fa g s q)), rn_ef (rn_fa g s q), a_kinds, a_arguments, a_slotSource, a_slotValue, a_holder, a_ready, a_lastWrite, a_lastTrigger, a_filled, a_source, a_constant, a_target, a_extra, a_opened, rn_rg (rn_fa g s q), rn_ce (rn_fa g s q), rn_op (rn_fa g s q), g, s, o, rn_re (rn_fa g s q), r, rn_lp (rn_fa g s q), rn_st (rn_fa g s q), rn_pt (rn_fa g s q))) : wX_doBundle_112 post f_count f_tall f_open f_bundle f_compiled (nI (rn_cy q)) pl (nI (rn_dp q)) (rn_ef q) a_kinds a_arguments a_slotSource a_slotValue a_holder a_ready a_lastWrite a_lastTrigger a_filled a_source a_constant a_target a_extra a_opened (rn_rg q) (rn_ce q) (rn_op q) g s o (rn_re q) r (rn_lp q) (rn_st q) (rn_pt q) := by
  have a3 : ∀ q, rn_at (rn_fi 3 g s q) = rn_at q := by
    intro q
    unfold rn_fi
    split
    · rfl
    · rw [show 24 + 3 = 27 from rfl, rn_m27]
      rfl
  unfold rn_fa at hp
  refine xw_f0 hr (fun o r hr => xw_f1 hr (fun o r hr => xw_f2 hr (fun o r hr => xw_f3 (hp o r ?_))))
  rw [a3]
  exact hr
end
end
section
/-! a bundle is two moves, one behind the other -/
theorem rn_keep {t u : Nat} {e v : Int32} {q : rn_Q} (ht : t < 28) (hu : u < 3) (h : rn_at (rn_mv t e v q) u ≤ rn_cy q) : rn_re (rn_mv t e v q) u = rn_re q u ∧ rn_at (rn_mv t e v q) u = rn_at q u := by
  rcases Nat.lt_or_ge t 6 with y | y
  · rw [rn_m1 y]; exact ⟨rfl, rfl⟩
  rcases Nat.lt_or_ge t 11 with w | w
  · rw [rn_m2 y w]; exact ⟨rfl, rfl⟩
  rcases Nat.lt_or_ge t 24 with x | x
  · rw [rn_m3 w x]; exact ⟨rfl, rfl⟩
  have c : t = 24 ∨ t = 25 ∨ t = 26 ∨ t = 27 := by omega
  rcases c with c | c | c | c <;> subst c
  · rw [rn_m24] at h ⊢
    have h' : cs_fu (rn_at q) 0 (rn_cy q + 1) u ≤ rn_cy q := h
    have n : u ≠ 0 := by
      intro z
      rw [z, cs_us] at h'
      omega
    exact ⟨pk_un n, cs_un n⟩
  · rw [rn_m25] at h ⊢
    have h' : cs_fu (rn_at q) 1 (rn_cy q + 3) u ≤ rn_cy q := h
    have n : u ≠ 1 := by
      intro z
      rw [z, cs_us] at h'
      omega
    exact ⟨pk_un n, cs_un n⟩
  · rw [rn_m26] at h ⊢
    have h' : cs_fu (rn_at q) 2 (rn_cy q + 2) u ≤ rn_cy q := h
    have n : u ≠ 2 := by
      intro z
      rw [z, cs_us] at h'
      omega
    exact ⟨pk_un n, cs_un n⟩
  · rw [rn_m27]; exact ⟨rfl, rfl⟩
theorem rn_rgk {t x : Nat} {e v : Int32} {q : rn_Q} (ht : t < 28) (hn : t ≠ x) : rn_rg (rn_mv t e v q) x = rn_rg q x := by
  rcases Nat.lt_or_ge t 6 with y | y
  · rw [rn_m1 y]; exact pk_un (fun z => hn z.symm)
  rcases Nat.lt_or_ge t 11 with w | w
  · rw [rn_m2 y w]; exact pk_un (fun z => hn z.symm)
  rcases Nat.lt_or_ge t 24 with x | x
  · rw [rn_m3 w x]; rfl
  have c : t = 24 ∨ t = 25 ∨ t = 26 ∨ t = 27 := by omega
  rcases c with c | c | c | c <;> subst c
  · rw [rn_m24]; rfl
  · rw [rn_m25]; rfl
  · rw [rn_m26]; rfl
  · rw [rn_m27]; rfl
theorem rn_rdk {F : cs_T} {k t : Nat} {e v : Int32} {q : rn_Q} (hS : cs_S (cs_sr F k)) (ht : t < 28) (hn : cs_sr F k < 11 → t ≠ cs_sr F k) (h : 16 ≤ cs_sr F k → rn_at (rn_mv t e v q) (cs_sr F k - 16) ≤ rn_cy q) : rn_rd F k (rn_mv t e v q) = rn_rd F k q ∧ (16 ≤ cs_sr F k → rn_at q (cs_sr F k - 16) ≤ rn_cy q) := by
  unfold cs_S at hS
  unfold rn_rd
  by_cases z : cs_sr F k = 15
  · rw [if_pos z, if_pos z]
    exact ⟨rfl, fun y => by omega⟩
  · rw [if_neg z, if_neg z]
    by_cases y : cs_sr F k < 16
    · rw [if_pos y, if_pos y]
      exact ⟨rn_rgk ht (hn (by omega)), fun w => by omega⟩
    · rw [if_neg y, if_neg y]
      have K := rn_keep (e := e) (v := v) (q := q) ht (u := cs_sr F k - 16) (by omega) (h (by omega))
      refine ⟨K.1, fun w => ?_⟩
      rw [← K.2]
      exact h w
theorem rn_atgo {t : Nat} {e v : Int32} {p : Int32 × rn_Q} (hn : ¬ (24 ≤ t ∧ t < 28)) : rn_at (rn_go t e v p).2 = rn_at p.2 := by
  unfold rn_go
  split
  · show rn_at (rn_mv t e v p.2) = rn_at p.2
    rcases Nat.lt_or_ge t 6 with y | y
    · rw [rn_m1 y]; rfl
    rcases Nat.lt_or_ge t 11 with w | w
    · rw [rn_m2 y w]; rfl
    · rw [rn_m3 w (by omega)]; rfl
  · split
    · split <;> rfl
    · split <;> rfl
section
variable {f_count : Int32} {f_tall : Int32} {f_open : Int32} {f_bundle : Int32} {f_compiled : Int32} {f_cycle : Int32} {f_place : Int32} {f_loopDepth : Int32} {f_effects : Int32} {a_kinds : Nat → Int32} {a_arguments : Nat → Int32} {a_slotSource : Nat → Int32} {a_slotValue : Nat → Int32} {a_holder : Nat → Int32} {a_ready : Nat → Int32} {a_lastWrite : Nat → Int32} {a_lastTrigger : Nat → Int32} {a_filled : Nat → Int32} {a_source : Nat → Int32} {a_constant : Nat → Int32} {a_target : Nat → Int32} {a_extra : Nat → Int32} {a_opened : Nat → Int32} {a_registers : Nat → Int32} {a_cells : Nat → Int32} {a_operands : Nat → Int32} {a_triggers : Nat → Int32} {a_starts : Nat → Int32} {a_oldResult : Nat → Int32} {a_newResult : Nat → Int32} {a_resultAt : Nat → Int32} {a_loops : Nat → Int32} {a_setCounts : Nat → Int32} {a_putCounts : Nat → Int32} {F : cs_T} {q : rn_Q} {pl : Int32} {g s o r : Nat → Int32} {k b c0 : Nat} {post : SX → Prop} {x2 x3 : Int32}
theorem xw_92a (hb : b < 400) (eF : a_filled b = nI c0) (hc : c0 ≤ 1) (h : wX_doBundle_112 post f_count f_tall f_open f_bundle f_compiled f_cycle f_place f_loopDepth f_effects a_kinds a_arguments a_slotSource a_slotValue a_holder a_ready a_lastWrite a_lastTrigger a_filled a_source a_constant a_target a_extra a_opened a_registers a_cells a_operands a_triggers a_starts a_oldResult a_newResult a_resultAt a_loops a_setCounts a_putCounts) : wX_doBundle_92 post (nI b) x3 f_count f_tall f_open f_bundle f_compiled f_cycle f_place f_loopDepth f_effects a_kinds a_arguments a_slotSource a_slotValue a_holder a_ready a_lastWrite a_lastTrigger a_filled a_source a_constant a_target a_extra a_opened a_registers a_cells a_operands a_triggers a_starts a_oldResult a_newResult a_resultAt a_loops a_setCounts a_putCounts := by
  unfold wX_doBundle_92
  rw [nI_clamp (n := b) (by omega), eF]
  exact ⟨vp_in_nI hb (by omega), br_t (nI_le (b := 1) hc (by omega)) h⟩
theorem xw_92b (hb : b < 400) (eF : a_filled b = nI 2) (h : wpX_write (fun u => match u with | (f_count, f_tall, f_open, f_bundle, f_compiled, f_cycle, f_place, f_loopDepth, f_effects, a_kinds, a_arguments, a_slotSource, a_slotValue, a_holder, a_ready, a_lastWrite, a_lastTrigger, a_filled, a_source, a_constant, a_target, a_extra, a_opened, a_registers, a_cells, a_operands, a_triggers, a_starts, a_oldResult, a_newResult, a_resultAt, a_loops, a_setCounts, a_putCounts) => wX_doBundle_112 post f_count f_tall f_open f_bundle f_compiled f_cycle f_place f_loopDepth f_effects a_kinds a_arguments a_slotSource a_slotValue a_holder a_ready a_lastWrite a_lastTrigger a_filled a_source a_constant a_target a_extra a_opened a_registers a_cells a_operands a_triggers a_starts a_oldResult a_newResult a_resultAt a_loops a_setCounts a_putCounts) (f_count, f_tall, f_open, f_bundle, f_compiled, f_cycle, f_place, f_loopDepth, f_effects, a_kinds, a_arguments, a_slotSource, a_slotValue, a_holder, a_ready, a_lastWrite, a_lastTrigger, a_filled, a_source, a_constant, a_target, a_extra, a_opened, a_registers, a_cells, a_operands, a_triggers, a_starts, a_oldResult, a_newResult, a_resultAt, a_loops, a_setCounts, a_putCounts) (nI (2 * b + 1)) x3) : wX_doBundle_92 post (nI b) x3 f_count f_tall f_open f_bundle f_compiled f_cycle f_place f_loopDepth f_effects a_kinds a_arguments a_slotSource a_slotValue a_holder a_ready a_lastWrite a_lastTrigger a_filled a_source a_constant a_target a_extra a_opened a_registers a_cells a_operands a_triggers a_starts a_oldResult a_newResult a_resultAt a_loops a_setCounts a_putCounts := by
  unfold wX_doBundle_92
  rw [nI_clamp (n := b) (by omega), eF, show (2 : Int32) * nI b + 1 = nI (2 * b + 1) from by rw [show (2 : Int32) * nI b = nI (2 * b) from pk_mul 2 b, nI_1]]
  exact ⟨vp_in_nI hb (by omega), br_f (nI_ge (a := 1) (b := 2) (by omega) (by omega)) h⟩
theorem xw_48 (hb : b < 400) (eF : a_filled b = nI c0) (hc : c0 ≤ 2) (h0 : c0 = 0 → ∀ s : Nat → Int32, (∀ u, u < 4 → s u = -1) → wX_doBundle_92 post (nI b) x3 f_count f_tall f_open f_bundle f_compiled f_cycle (nI (b + 1)) f_loopDepth f_effects a_kinds a_arguments a_slotSource a_slotValue a_holder a_ready a_lastWrite a_lastTrigger a_filled a_source a_constant a_target a_extra a_opened a_registers a_cells a_operands a_triggers s a_oldResult a_newResult a_resultAt a_loops a_setCounts a_putCounts) (h1 : 0 < c0 → ∀ s : Nat → Int32, (∀ u, u < 4 → s u = -1) → wpX_write (fun u => match u with | (f_count, f_tall, f_open, f_bundle, f_compiled, f_cycle, f_place, f_loopDepth, f_effects, a_kinds, a_arguments, a_slotSource, a_slotValue, a_holder, a_ready, a_lastWrite, a_lastTrigger, a_filled, a_source, a_constant, a_target, a_extra, a_opened, a_registers, a_cells, a_operands, a_triggers, a_starts, a_oldResult, a_newResult, a_resultAt, a_loops, a_setCounts, a_putCounts) => wX_doBundle_92 post (nI b) x3 f_count f_tall f_open f_bundle f_compiled f_cycle f_place f_loopDepth f_effects a_kinds a_arguments a_slotSource a_slotValue a_holder a_ready a_lastWrite a_lastTrigger a_filled a_source a_constant a_target a_extra a_opened a_registers a_cells a_operands a_triggers a_starts a_oldResult a_newResult a_resultAt a_loops a_setCounts a_putCounts) (f_count, f_tall, f_open, f_bundle, f_compiled, f_cycle, nI (b + 1), f_loopDepth, f_effects, a_kinds, a_arguments, a_slotSource, a_slotValue, a_holder, a_ready, a_lastWrite, a_lastTrigger, a_filled, a_source, a_constant, a_target, a_extra, a_opened, a_registers, a_cells, a_operands, a_triggers, s, a_oldResult, a_newResult, a_resultAt, a_loops, a_setCounts, a_putCounts) (nI (2 * b)) x2) : ∃ n48 : Nat, wX_doBundle_48 post (nI b) x2 x3 f_count f_tall f_open f_bundle f_compiled f_cycle f_place f_loopDepth f_effects n48 0 a_kinds a_arguments a_slotSource a_slotValue a_holder a_ready a_lastWrite a_lastTrigger a_filled a_source a_constant a_target a_extra a_opened a_registers a_cells a_operands a_triggers a_starts a_oldResult a_newResult a_resultAt a_loops a_setCounts a_putCounts := by
  have ib : vp_in (nI b) 400 := vp_in_nI hb (by omega)
  have ec : (nI b).toNatClampNeg = b := nI_clamp (by omega)
  have e2 : (2 : Int32) * nI b = nI (2 * b) := pk_mul 2 b
  refine loop_0 (σ := (Nat → Int32)) (fun n i s => wX_doBundle_48 post (nI b) x2 x3 f_count f_tall f_open f_bundle f_compiled f_cycle f_place f_loopDepth f_effects n (nI i) a_kinds a_arguments a_slotSource a_slotValue a_holder a_ready a_lastWrite a_lastTrigger a_filled a_source a_constant a_target a_extra a_opened a_registers a_cells a_operands a_triggers s a_oldResult a_newResult a_resultAt a_loops a_setCounts a_putCounts) (fun i s => (∀ j, j < i → s j = -1)) 4 a_starts (fun j hj => by omega) ?_ ?_
  · intro n s hs
    refine br_t (nI_le (a := 4) (b := 4) (by omega) (by omega)) (nm_r (e' := nI (b + 1)) (nI_1 b) ⟨ib, ?_⟩)
    rw [ec, eF, e2]
    exact pk_le c0 0 (fun z => h0 (by omega) s hs) (fun z => h1 z s hs)
  · intro n i s hi hs K
    have ec : (nI i).toNatClampNeg = i := nI_clamp (by omega)
    have iv : vp_in (nI i) 4 := vp_in_nI (by omega) (by omega)
    refine br_f (nI_ge (b := 4) (by omega) (by omega)) ⟨iv, nm_r (e' := upd s i (-1)) (by rw [ec]) (nm_r (e' := nI (i + 1)) (nI_1 i) (K (upd s i (-1)) (fun j hj => ?_)))⟩
    by_cases z : j = i
    · rw [z, pk_us]
    · rw [pk_un z]; exact hs j (by omega)
theorem xw_end {p2 : Int32 × rn_Q} (HP : ∀ g s o r, (∀ w, w < 3 → r w = nI (rn_at p2.2 w)) → post (f_count, f_tall, f_open, f_bundle, f_compiled, nI (rn_cy p2.2), p2.1, nI (rn_dp p2.2), rn_ef p2.2, a_kinds, a_arguments, a_slotSource, a_slotValue, a_holder, a_ready, a_lastWrite, a_lastTrigger, a_filled, a_source, a_constant, a_target, a_extra, a_opened, rn_rg p2.2, rn_ce p2.2, rn_op p2.2, g, s, o, rn_re p2.2, r, rn_lp p2.2, rn_st p2.2, rn_pt p2.2)) (hr : ∀ w, w < 3 → r w = nI (rn_at q w)) (e : (pl, rn_fa g s q) = p2) : wX_doBundle_112 post f_count f_tall f_open f_bundle f_compiled (nI (rn_cy q)) pl (nI (rn_dp q)) (rn_ef q) a_kinds a_arguments a_slotSource a_slotValue a_holder a_ready a_lastWrite a_lastTrigger a_filled a_source a_constant a_target a_extra a_opened (rn_rg q) (rn_ce q) (rn_op q) g s o (rn_re q) r (rn_lp q) (rn_st q) (rn_pt q) := by
  refine xw_fire hr (fun o r hr => ?_)
  subst e
  exact HP g s o r hr
/-- the second move, behind the first's writes -/
theorem xw_doB2 {p2 : Int32 × rn_Q} {t0 : Nat} {e0 v0 : Int32} (RK : cs_RK F a_filled a_source a_constant a_target a_extra) (H : cs_CB F) (hb : b < 400) (hv : cs_vd F (2 * b + 1) = true) (hv0 : cs_vd F (2 * b) = true) (et : cs_tg F (2 * b) = t0) (ee : cs_ex F (2 * b) = e0) (hr : ∀ w, w < 3 → r w = nI (rn_at q w)) (s1 : rn_sf F (2 * b + 1) (rn_mv t0 e0 v0 q))
    (ep : rn_go (cs_tg F (2 * b + 1)) (cs_ex F (2 * b + 1)) (rn_rd F (2 * b + 1) q) (nI (b + 1), rn_mv t0 e0 v0 q) = p2) (HP : ∀ g s o r, (∀ w, w < 3 → r w = nI (rn_at p2.2 w)) → post (f_count, f_tall, f_open, f_bundle, f_compiled, nI (rn_cy p2.2), p2.1, nI (rn_dp p2.2), rn_ef p2.2, a_kinds, a_arguments, a_slotSource, a_slotValue, a_holder, a_ready, a_lastWrite, a_lastTrigger, a_filled, a_source, a_constant, a_target, a_extra, a_opened, rn_rg p2.2, rn_ce p2.2, rn_op p2.2, g, s, o, rn_re p2.2, r, rn_lp p2.2, rn_st p2.2, rn_pt p2.2)) (hs : ∀ u, u < 4 → s u = -1) :
    wpX_write (fun u => match u with | (f_count, f_tall, f_open, f_bundle, f_compiled, f_cycle, f_place, f_loopDepth, f_effects, a_kinds, a_arguments, a_slotSource, a_slotValue, a_holder, a_ready, a_lastWrite, a_lastTrigger, a_filled, a_source, a_constant, a_target, a_extra, a_opened, a_registers, a_cells, a_operands, a_triggers, a_starts, a_oldResult, a_newResult, a_resultAt, a_loops, a_setCounts, a_putCounts) => wX_doBundle_92 post (nI b) (rn_rd F (2 * b + 1) q) f_count f_tall f_open f_bundle f_compiled f_cycle f_place f_loopDepth f_effects a_kinds a_arguments a_slotSource a_slotValue a_holder a_ready a_lastWrite a_lastTrigger a_filled a_source a_constant a_target a_extra a_opened a_registers a_cells a_operands a_triggers a_starts a_oldResult a_newResult a_resultAt a_loops a_setCounts a_putCounts) (f_count, f_tall, f_open, f_bundle, f_compiled, nI (rn_cy q), nI (b + 1), nI (rn_dp q), rn_ef q, a_kinds, a_arguments, a_slotSource, a_slotValue, a_holder, a_ready, a_lastWrite, a_lastTrigger, a_filled, a_source, a_constant, a_target, a_extra, a_opened, rn_rg q, rn_ce q, rn_op q, g, s, o, rn_re q, r, rn_lp q, rn_st q, rn_pt q) (nI (2 * b)) v0 := by
  obtain ⟨g1, g2, g3, g4, g5, g6, g7, g8, g9, g10⟩ := H
  have PC := g6 b hv0 hv
  have M0 := g10 (2 * b) hv0
  have M1 := g10 (2 * b + 1) hv
  have eF : a_filled b = nI 2 := by
    rw [RK.1 b hb]
    unfold cs_ct
    rw [if_pos hv0, if_pos hv]
  have S1 := s1 hv
  rw [et] at PC M0
  rw [ee] at M0
  have M0t := M0.2.1
  have M1t := M1.2.1
  have dpk : rn_dp (rn_mv t0 e0 v0 q) = rn_dp q := by
    rcases Nat.lt_or_ge t0 6 with y | y
    · rw [rn_m1 y]; rfl
    rcases Nat.lt_or_ge t0 11 with w | w
    · rw [rn_m2 y w]; rfl
    rcases Nat.lt_or_ge t0 24 with x | x
    · rw [rn_m3 w x]; rfl
    obtain ⟨u, hu, e⟩ : ∃ u, u < 4 ∧ t0 = 24 + u := ⟨t0 - 24, by have := PC.1; omega, by omega⟩
    subst e
    exact (rn_clp hu).2
  by_cases z0 : 24 ≤ t0
  · obtain ⟨u0, hu0, e⟩ : ∃ u, u < 4 ∧ t0 = 24 + u := ⟨t0 - 24, by have := PC.1; omega, by omega⟩
    subst e
    have PC3 := PC.2.2.1 z0
    have ne0 := M0.2.2 z0 PC.1
    refine xw_wt RK hv0 (by omega) hu0 et ?_
    rw [ee]
    refine xw_92b hb eF ?_
    by_cases z1 : 24 ≤ cs_tg F (2 * b + 1) ∧ cs_tg F (2 * b + 1) < 28
    · obtain ⟨u1, hu1, e1⟩ : ∃ u, u < 4 ∧ cs_tg F (2 * b + 1) = 24 + u := ⟨cs_tg F (2 * b + 1) - 24, by omega, by omega⟩
      have ne1 := M1.2.2 z1.1 z1.2
      refine xw_wt RK hv (by omega) hu1 e1 ?_
      refine xw_end HP hr ?_
      rw [← ep, e1, rn_g0 (by omega), rn_fa2 hs hu0 hu1 (by omega) (fun z => PC.2.2.2 ⟨by omega, by omega⟩) ne0 ne1]
    · have C := rn_cgo (t := cs_tg F (2 * b + 1)) (u := u0) (e := e0) (v := v0) (e' := cs_ex F (2 * b + 1)) (v' := rn_rd F (2 * b + 1) q) (pl := nI (b + 1)) (q := q) hu0 (by omega) (by omega)
      rw [dpk] at S1
      refine xw_wn RK hv (by omega) M1t z1 (fun z => S1.2.1 z) (fun z => S1.2.2 z) ?_
      refine xw_end HP (by rw [rn_atgo z1]; exact hr) ?_
      rw [← ep, rn_fa1 hs hu0 ne0, C.1, C.2]
  · refine xw_wn RK hv0 (by omega) (by rw [et]; exact M0t) (by rw [et]; omega) (fun z => absurd z (by rw [et]; have := PC.1; omega)) (fun z => absurd z (by rw [et]; have := PC.1; omega)) ?_
    rw [et, ee, rn_g0 PC.1]
    have hr1 : ∀ w, w < 3 → r w = nI (rn_at (rn_mv t0 e0 v0 q) w) := by
      have := rn_atgo (t := t0) (e := e0) (v := v0) (p := (nI (b + 1), q)) (by omega)
      rw [rn_g0 PC.1] at this
      intro w hw
      rw [show rn_at (rn_mv t0 e0 v0 q) = rn_at q from this]
      exact hr w hw
    refine xw_92b hb eF ?_
    by_cases z1 : 24 ≤ cs_tg F (2 * b + 1) ∧ cs_tg F (2 * b + 1) < 28
    · obtain ⟨u1, hu1, e1⟩ : ∃ u, u < 4 ∧ cs_tg F (2 * b + 1) = 24 + u := ⟨cs_tg F (2 * b + 1) - 24, by omega, by omega⟩
      have ne1 := M1.2.2 z1.1 z1.2
      refine xw_wt RK hv (by omega) hu1 e1 ?_
      refine xw_end HP hr1 ?_
      rw [← ep, e1, rn_g0 (by omega), rn_fa1 hs hu1 ne1]
    · refine xw_wn RK hv (by omega) M1t z1 (fun z => S1.2.1 z) (fun z => S1.2.2 z) ?_
      refine xw_end HP (by rw [rn_atgo z1]; exact hr1) ?_
      rw [← ep, rn_fa0 hs]
/-- one move alone -/
theorem xw_doB1 {p2 : Int32 × rn_Q} {v0 : Int32} (RK : cs_RK F a_filled a_source a_constant a_target a_extra) (H : cs_CB F) (hb : b < 400) (hv : cs_vd F (2 * b + 1) = false) (hv0 : cs_vd F (2 * b) = true) (hr : ∀ w, w < 3 → r w = nI (rn_at q w)) (s0 : rn_sf F (2 * b) q)
    (ep : rn_go (cs_tg F (2 * b)) (cs_ex F (2 * b)) v0 (nI (b + 1), q) = p2) (HP : ∀ g s o r, (∀ w, w < 3 → r w = nI (rn_at p2.2 w)) → post (f_count, f_tall, f_open, f_bundle, f_compiled, nI (rn_cy p2.2), p2.1, nI (rn_dp p2.2), rn_ef p2.2, a_kinds, a_arguments, a_slotSource, a_slotValue, a_holder, a_ready, a_lastWrite, a_lastTrigger, a_filled, a_source, a_constant, a_target, a_extra, a_opened, rn_rg p2.2, rn_ce p2.2, rn_op p2.2, g, s, o, rn_re p2.2, r, rn_lp p2.2, rn_st p2.2, rn_pt p2.2)) (hs : ∀ u, u < 4 → s u = -1) :
    wpX_write (fun u => match u with | (f_count, f_tall, f_open, f_bundle, f_compiled, f_cycle, f_place, f_loopDepth, f_effects, a_kinds, a_arguments, a_slotSource, a_slotValue, a_holder, a_ready, a_lastWrite, a_lastTrigger, a_filled, a_source, a_constant, a_target, a_extra, a_opened, a_registers, a_cells, a_operands, a_triggers, a_starts, a_oldResult, a_newResult, a_resultAt, a_loops, a_setCounts, a_putCounts) => wX_doBundle_92 post (nI b) x3 f_count f_tall f_open f_bundle f_compiled f_cycle f_place f_loopDepth f_effects a_kinds a_arguments a_slotSource a_slotValue a_holder a_ready a_lastWrite a_lastTrigger a_filled a_source a_constant a_target a_extra a_opened a_registers a_cells a_operands a_triggers a_starts a_oldResult a_newResult a_resultAt a_loops a_setCounts a_putCounts) (f_count, f_tall, f_open, f_bundle, f_compiled, nI (rn_cy q), nI (b + 1), nI (rn_dp q), rn_ef q, a_kinds, a_arguments, a_slotSource, a_slotValue, a_holder, a_ready, a_lastWrite, a_lastTrigger, a_filled, a_source, a_constant, a_target, a_extra, a_opened, rn_rg q, rn_ce q, rn_op q, g, s, o, rn_re q, r, rn_lp q, rn_st q, rn_pt q) (nI (2 * b)) v0 := by
  obtain ⟨g1, g2, g3, g4, g5, g6, g7, g8, g9, g10⟩ := H
  have M0 := g10 (2 * b) hv0
  have M0t := M0.2.1
  have eF : a_filled b = nI 1 := by
    rw [RK.1 b hb]
    unfold cs_ct
    rw [if_pos hv0, if_neg (by rw [hv]; decide)]
  have S0 := s0 hv0
  by_cases z1 : 24 ≤ cs_tg F (2 * b) ∧ cs_tg F (2 * b) < 28
  · obtain ⟨u1, hu1, e1⟩ : ∃ u, u < 4 ∧ cs_tg F (2 * b) = 24 + u := ⟨cs_tg F (2 * b) - 24, by omega, by omega⟩
    have ne1 := M0.2.2 z1.1 z1.2
    refine xw_wt RK hv0 (by omega) hu1 e1 ?_
    refine xw_92a hb eF (by omega) ?_
    refine xw_end HP hr ?_
    rw [← ep, e1, rn_g0 (by omega), rn_fa1 hs hu1 ne1]
  · refine xw_wn RK hv0 (by omega) M0t z1 (fun z => S0.2.1 z) (fun z => S0.2.2 z) ?_
    refine xw_92a hb eF (by omega) ?_
    refine xw_end HP (by rw [rn_atgo z1]; exact hr) ?_
    rw [← ep, rn_fa0 hs]
theorem xw_doB {p1 p2 : Int32 × rn_Q} (RK : cs_RK F a_filled a_source a_constant a_target a_extra) (H : cs_CB F) (hb : b < 400) (hc : rn_cy q < 40000) (hr : ∀ w, w < 3 → r w = nI (rn_at q w)) (e1 : rn_h F (2 * b) (nI (b + 1), q) = p1) (e2 : rn_h F (2 * b + 1) p1 = p2) (s0 : rn_sf F (2 * b) q) (s1 : rn_sf F (2 * b + 1) p1.2) (HP : ∀ g s o r, (∀ w, w < 3 → r w = nI (rn_at p2.2 w)) → post (f_count, f_tall, f_open, f_bundle, f_compiled, nI (rn_cy p2.2), p2.1, nI (rn_dp p2.2), rn_ef p2.2, a_kinds, a_arguments, a_slotSource, a_slotValue, a_holder, a_ready, a_lastWrite, a_lastTrigger, a_filled, a_source, a_constant, a_target, a_extra, a_opened, rn_rg p2.2, rn_ce p2.2, rn_op p2.2, g, s, o, rn_re p2.2, r, rn_lp p2.2, rn_st p2.2, rn_pt p2.2)) : wpX_doBundle post (f_count, f_tall, f_open, f_bundle, f_compiled, nI (rn_cy q), pl, nI (rn_dp q), rn_ef q, a_kinds, a_arguments, a_slotSource, a_slotValue, a_holder, a_ready, a_lastWrite, a_lastTrigger, a_filled, a_source, a_constant, a_target, a_extra, a_opened, rn_rg q, rn_ce q, rn_op q, g, s, o, rn_re q, r, rn_lp q, rn_st q, rn_pt q) (nI b) := by
  have ib : vp_in (nI b) 400 := vp_in_nI hb (by omega)
  have ec : (nI b).toNatClampNeg = b := nI_clamp (by omega)
  have x2 : (2 : Int32) * nI b = nI (2 * b) := pk_mul 2 b
  have x21 : (2 : Int32) * nI b + 1 = nI (2 * b + 1) := by rw [x2, nI_1]
  have eF := RK.1 b hb
  have ct2 := cs_ct2 F b
  unfold wpX_doBundle
  dsimp only
  rw [ec, x2, eF]
  refine ⟨ib, ?_⟩
  by_cases v0 : cs_vd F (2 * b) = true
  · have M0 := H.2.2.2.2.2.2.2.2.2 (2 * b) v0
    by_cases v1 : cs_vd F (2 * b + 1) = true
    · have M1 := H.2.2.2.2.2.2.2.2.2 (2 * b + 1) v1
      have PC := H.2.2.2.2.2.1 b v0 v1
      have ct : cs_ct F b = 2 := by
        unfold cs_ct
        rw [if_pos v0, if_pos v1]
      rw [ct] at eF ⊢
      have e1' : p1 = (nI (b + 1), rn_mv (cs_tg F (2 * b)) (cs_ex F (2 * b)) (rn_rd F (2 * b) q) q) := by
        rw [← e1]
        unfold rn_h
        rw [if_pos v0, rn_g0 PC.1]
      subst e1'
      have S1 := s1 v1
      have K := rn_rdk (F := F) (k := 2 * b + 1) (t := cs_tg F (2 * b)) (e := cs_ex F (2 * b)) (v := rn_rd F (2 * b) q) (q := q) M1.1 PC.1 PC.2.1 (fun w => by have := S1.1 w; rw [rn_cymv] at this; exact this)
      refine br_f (nI_ge (a := 0) (by omega) (by omega)) ?_
      refine xw_read RK v0 (by omega) M0.1 hr (fun w => (s0 v0).1 w) (by omega) ?_
      unfold wX_doBundle_20
      rw [ec, eF, x21]
      refine ⟨ib, br_f (nI_ge (a := 1) (b := 2) (by omega) (by omega)) ?_⟩
      refine xw_read RK v1 (by omega) M1.1 hr K.2 (by omega) ?_
      refine xw_48 hb eF (by omega) (fun z => by omega) (fun _ s hs => ?_)
      refine xw_doB2 RK H hb v1 v0 rfl rfl hr s1 ?_ HP hs
      rw [← e2]
      unfold rn_h
      rw [if_pos v1]
      show _ = rn_go _ _ (rn_rd F (2 * b + 1) (rn_mv _ _ _ _)) _
      rw [K.1]
    · have v1' : cs_vd F (2 * b + 1) = false := by
        cases h : cs_vd F (2 * b + 1)
        · rfl
        · exact absurd h v1
      have ct : cs_ct F b = 1 := by
        unfold cs_ct
        rw [if_pos v0, if_neg v1]
      rw [ct] at eF ⊢
      refine br_f (nI_ge (a := 0) (by omega) (by omega)) ?_
      refine xw_read RK v0 (by omega) M0.1 hr (fun w => (s0 v0).1 w) (by omega) ?_
      unfold wX_doBundle_20
      rw [ec, eF, x21]
      refine ⟨ib, br_t (nI_le (a := 1) (b := 1) (by omega) (by omega)) ?_⟩
      refine xw_48 hb eF (by omega) (fun z => by omega) (fun _ s hs => ?_)
      refine xw_doB1 RK H hb v1' v0 hr s0 ?_ HP hs
      rw [← e2, ← e1]
      unfold rn_h
      rw [if_pos v0, if_neg v1]
  · have v1 : ¬ cs_vd F (2 * b + 1) = true := fun z => v0 (H.2.2.1 b z)
    have ct : cs_ct F b = 0 := by
      unfold cs_ct
      rw [if_neg v0, if_neg v1]
    rw [ct] at eF ⊢
    refine br_t (nI_le (a := 0) (b := 0) (by omega) (by omega)) ?_
    unfold wX_doBundle_20
    rw [ec, eF, x21]
    refine ⟨ib, br_t (nI_le (a := 0) (b := 1) (by omega) (by omega)) ?_⟩
    refine xw_48 hb eF (by omega) (fun _ s hs => ?_) (fun z => by omega)
    refine xw_92a hb eF (by omega) ?_
    refine xw_end HP hr ?_
    rw [← e2, ← e1, rn_fa0 hs]
    unfold rn_h
    rw [if_neg v0, if_neg v1]
end
end
section
/-! the walk of execute -/
def rn_z (n : Nat) (f : Nat → Int32) : Nat → Int32 := fun j => if j < n then 0 else f j
theorem rn_z0 (f : Nat → Int32) : rn_z 0 f = f := by
  funext j
  exact if_neg (by omega)
theorem rn_zs (n : Nat) (f : Nat → Int32) : upd (rn_z n f) n 0 = rn_z (n + 1) f := by
  funext j
  unfold upd rn_z
  by_cases z : j = n
  · rw [if_pos z, if_pos (by omega)]
  · rw [if_neg z]
    by_cases y : j < n
    · rw [if_pos y, if_pos (by omega)]
    · rw [if_neg y, if_neg (by omega)]
section
variable {f_count : Int32} {f_tall : Int32} {f_open : Int32} {f_bundle : Int32} {f_compiled : Int32} {f_cycle : Int32} {f_place : Int32} {f_loopDepth : Int32} {f_effects : Int32} {a_kinds : Nat → Int32} {a_arguments : Nat → Int32} {a_slotSource : Nat → Int32} {a_slotValue : Nat → Int32} {a_holder : Nat → Int32} {a_ready : Nat → Int32} {a_lastWrite : Nat → Int32} {a_lastTrigger : Nat → Int32} {a_filled : Nat → Int32} {a_source : Nat → Int32} {a_constant : Nat → Int32} {a_target : Nat → Int32} {a_extra : Nat → Int32} {a_opened : Nat → Int32} {a_registers : Nat → Int32} {a_cells : Nat → Int32} {a_operands : Nat → Int32} {a_triggers : Nat → Int32} {a_starts : Nat → Int32} {a_oldResult : Nat → Int32} {a_newResult : Nat → Int32} {a_resultAt : Nat → Int32} {a_loops : Nat → Int32} {a_setCounts : Nat → Int32} {a_putCounts : Nat → Int32} {F : cs_T} {nb : Nat} {post : SX → Prop} {Post : rn_Q → Prop}
theorem xw_e98 (RK : cs_RK F a_filled a_source a_constant a_target a_extra) (H : cs_CB F) (hnb : nb ≤ 399) (hp : ∀ q pl g s o r, Post q → post (f_count, f_tall, f_open, nI nb, f_compiled, nI (rn_cy q), pl, nI (rn_dp q), rn_ef q, a_kinds, a_arguments, a_slotSource, a_slotValue, a_holder, a_ready, a_lastWrite, a_lastTrigger, a_filled, a_source, a_constant, a_target, a_extra, a_opened, rn_rg q, rn_ce q, rn_op q, g, s, o, rn_re q, r, rn_lp q, rn_st q, rn_pt q)) : ∀ t b q g s o r n, rn_G F nb Post t b q → b ≤ 400 → (∀ w, w < 3 → r w = nI (rn_at q w)) → t < n → wX_execute_98 post n (nI (rn_cy q)) f_count f_tall f_open (nI nb) f_compiled (nI (rn_cy q)) (nI b) (nI (rn_dp q)) (rn_ef q) a_kinds a_arguments a_slotSource a_slotValue a_holder a_ready a_lastWrite a_lastTrigger a_filled a_source a_constant a_target a_extra a_opened (rn_rg q) (rn_ce q) (rn_op q) g s o (rn_re q) r (rn_lp q) (rn_st q) (rn_pt q) := by
  intro t
  induction t with
  | zero => intro b q g s o r n G; exact absurd G id
  | succ t ih =>
    intro b q g s o r n G hb hr hn
    obtain ⟨n, rfl⟩ : ∃ n', n = n' + 1 := ⟨n - 1, by omega⟩
    rcases G with ⟨G1, G2⟩ | ⟨G1, G2, G3, G4, b', G5, G6, G7⟩
    · have P := hp q (nI b) g s o r G2
      exact br_c (fun _ => P) (fun _ => pk_lt b nb (fun z => absurd z (by omega)) (fun _ => P))
    · refine br_f (nI_ge (b := 40000) (by omega) (by omega)) (br_t (nI_lt G1 (by omega)) ?_)
      refine xw_doB RK H (by omega) G2 hr rfl rfl G3 G4 ?_
      intro g s o r hr
      have cy : rn_cy (rn_h F (2 * b + 1) (rn_h F (2 * b) (nI (b + 1), q))).2 = rn_cy q := by rw [rn_cyh, rn_cyh]
      have IH := ih b' _ g s o r n G7 G6 hr (by omega)
      rw [cy, G5]
      exact nm_r (e' := nI (rn_cy q + 1)) (nI_1 _) (nm_r (e' := nI (rn_cy q + 1)) (nI_1 _) IH)
theorem xw_e44 (hp : ∃ n98 : Nat, wX_execute_98 post n98 0 f_count f_tall f_open f_bundle f_compiled 0 0 0 0 a_kinds a_arguments a_slotSource a_slotValue a_holder a_ready a_lastWrite a_lastTrigger a_filled a_source a_constant a_target a_extra a_opened a_registers a_cells a_operands a_triggers a_starts (rn_z 3 a_oldResult) (rn_z 3 a_newResult) (rn_z 3 a_resultAt) a_loops a_setCounts a_putCounts) : ∃ n44 : Nat, wX_execute_44 post f_count f_tall f_open f_bundle f_compiled f_cycle f_place f_loopDepth f_effects n44 0 a_kinds a_arguments a_slotSource a_slotValue a_holder a_ready a_lastWrite a_lastTrigger a_filled a_source a_constant a_target a_extra a_opened a_registers a_cells a_operands a_triggers a_starts a_oldResult a_newResult a_resultAt a_loops a_setCounts a_putCounts := by
  refine loop_0 (σ := (Nat → Int32) × (Nat → Int32) × (Nat → Int32)) (fun n i s => wX_execute_44 post f_count f_tall f_open f_bundle f_compiled f_cycle f_place f_loopDepth f_effects n (nI i) a_kinds a_arguments a_slotSource a_slotValue a_holder a_ready a_lastWrite a_lastTrigger a_filled a_source a_constant a_target a_extra a_opened a_registers a_cells a_operands a_triggers a_starts s.1 s.2.1 s.2.2 a_loops a_setCounts a_putCounts) (fun i s => s = (rn_z i a_oldResult, rn_z i a_newResult, rn_z i a_resultAt)) 3 (a_oldResult, a_newResult, a_resultAt) (by rw [rn_z0, rn_z0, rn_z0]) ?_ ?_
  · intro n s hs
    subst hs
    exact br_t (nI_le (a := 3) (b := 3) (by omega) (by omega)) hp
  · intro n i s hi hs K
    have ec : (nI i).toNatClampNeg = i := nI_clamp (by omega)
    have iv : vp_in (nI i) 3 := vp_in_nI (by omega) (by omega)
    refine br_f (nI_ge (b := 3) (by omega) (by omega)) ⟨iv, nm_r (e' := upd s.1 i 0) (by rw [ec]) ⟨iv, nm_r (e' := upd s.2.1 i 0) (by rw [ec]) ⟨iv, nm_r (e' := upd s.2.2 i 0) (by rw [ec]) (nm_r (e' := nI (i + 1)) (nI_1 i) (K (upd s.1 i 0, upd s.2.1 i 0, upd s.2.2 i 0) ?_))⟩⟩⟩
    subst hs
    rw [rn_zs, rn_zs, rn_zs]
theorem xw_e23 (hp : ∃ n44 : Nat, wX_execute_44 post f_count f_tall f_open f_bundle f_compiled f_cycle f_place f_loopDepth f_effects n44 0 a_kinds a_arguments a_slotSource a_slotValue a_holder a_ready a_lastWrite a_lastTrigger a_filled a_source a_constant a_target a_extra a_opened a_registers a_cells a_operands a_triggers a_starts a_oldResult a_newResult a_resultAt a_loops a_setCounts (rn_z 16 a_putCounts)) : ∃ n23 : Nat, wX_execute_23 post f_count f_tall f_open f_bundle f_compiled f_cycle f_place f_loopDepth f_effects n23 0 a_kinds a_arguments a_slotSource a_slotValue a_holder a_ready a_lastWrite a_lastTrigger a_filled a_source a_constant a_target a_extra a_opened a_registers a_cells a_operands a_triggers a_starts a_oldResult a_newResult a_resultAt a_loops a_setCounts a_putCounts := by
  refine loop_0 (σ := (Nat → Int32)) (fun n i s => wX_execute_23 post f_count f_tall f_open f_bundle f_compiled f_cycle f_place f_loopDepth f_effects n (nI i) a_kinds a_arguments a_slotSource a_slotValue a_holder a_ready a_lastWrite a_lastTrigger a_filled a_source a_constant a_target a_extra a_opened a_registers a_cells a_operands a_triggers a_starts a_oldResult a_newResult a_resultAt a_loops a_setCounts s) (fun i s => s = rn_z i a_putCounts) 16 a_putCounts (rn_z0 _).symm ?_ ?_
  · intro n s hs
    subst hs
    exact br_t (nI_le (a := 16) (b := 16) (by omega) (by omega)) hp
  · intro n i s hi hs K
    have ec : (nI i).toNatClampNeg = i := nI_clamp (by omega)
    have iv : vp_in (nI i) 16 := vp_in_nI (by omega) (by omega)
    exact br_f (nI_ge (b := 16) (by omega) (by omega)) ⟨iv, nm_r (e' := upd s i 0) (by rw [ec]) (nm_r (e' := nI (i + 1)) (nI_1 i) (K (upd s i 0) (by rw [hs, rn_zs])))⟩
theorem xw_e2 (hp : ∃ n23 : Nat, wX_execute_23 post f_count f_tall f_open f_bundle f_compiled f_cycle f_place f_loopDepth f_effects n23 0 a_kinds a_arguments a_slotSource a_slotValue a_holder a_ready a_lastWrite a_lastTrigger a_filled a_source a_constant a_target a_extra a_opened a_registers a_cells a_operands a_triggers a_starts a_oldResult a_newResult a_resultAt a_loops (rn_z 6 a_setCounts) a_putCounts) : ∃ n2 : Nat, wX_execute_2 post f_count f_tall f_open f_bundle f_compiled f_cycle f_place f_loopDepth f_effects n2 0 a_kinds a_arguments a_slotSource a_slotValue a_holder a_ready a_lastWrite a_lastTrigger a_filled a_source a_constant a_target a_extra a_opened a_registers a_cells a_operands a_triggers a_starts a_oldResult a_newResult a_resultAt a_loops a_setCounts a_putCounts := by
  refine loop_0 (σ := (Nat → Int32)) (fun n i s => wX_execute_2 post f_count f_tall f_open f_bundle f_compiled f_cycle f_place f_loopDepth f_effects n (nI i) a_kinds a_arguments a_slotSource a_slotValue a_holder a_ready a_lastWrite a_lastTrigger a_filled a_source a_constant a_target a_extra a_opened a_registers a_cells a_operands a_triggers a_starts a_oldResult a_newResult a_resultAt a_loops s a_putCounts) (fun i s => s = rn_z i a_setCounts) 6 a_setCounts (rn_z0 _).symm ?_ ?_
  · intro n s hs
    subst hs
    exact br_t (nI_le (a := 6) (b := 6) (by omega) (by omega)) hp
  · intro n i s hi hs K
    have ec : (nI i).toNatClampNeg = i := nI_clamp (by omega)
    have iv : vp_in (nI i) 6 := vp_in_nI (by omega) (by omega)
    exact br_f (nI_ge (b := 6) (by omega) (by omega)) ⟨iv, nm_r (e' := upd s i 0) (by rw [ec]) (nm_r (e' := nI (i + 1)) (nI_1 i) (K (upd s i 0) (by rw [hs, rn_zs])))⟩
theorem xw_exec (RK : cs_RK F a_filled a_source a_constant a_target a_extra) (H : cs_CB F) (hnb : nb ≤ 399) (hG : ∃ t, rn_G F nb Post t 0 (0, 0, 0, a_registers, a_cells, a_operands, rn_z 3 a_newResult, fun _ => 0, a_loops, rn_z 6 a_setCounts, rn_z 16 a_putCounts)) (hp : ∀ q pl g s o r, Post q → post (f_count, f_tall, f_open, nI nb, f_compiled, nI (rn_cy q), pl, nI (rn_dp q), rn_ef q, a_kinds, a_arguments, a_slotSource, a_slotValue, a_holder, a_ready, a_lastWrite, a_lastTrigger, a_filled, a_source, a_constant, a_target, a_extra, a_opened, rn_rg q, rn_ce q, rn_op q, g, s, o, rn_re q, r, rn_lp q, rn_st q, rn_pt q)) : wpX_execute post (f_count, f_tall, f_open, nI nb, f_compiled, f_cycle, f_place, f_loopDepth, f_effects, a_kinds, a_arguments, a_slotSource, a_slotValue, a_holder, a_ready, a_lastWrite, a_lastTrigger, a_filled, a_source, a_constant, a_target, a_extra, a_opened, a_registers, a_cells, a_operands, a_triggers, a_starts, a_oldResult, a_newResult, a_resultAt, a_loops, a_setCounts, a_putCounts) := by
  unfold wpX_execute
  refine xw_e2 (xw_e23 (xw_e44 ?_))
  obtain ⟨t, G⟩ := hG
  refine ⟨t + 1, ?_⟩
  refine xw_e98 RK H hnb hp t 0 _ a_triggers a_starts (rn_z 3 a_oldResult) (rn_z 3 a_resultAt) (t + 1) G (by omega) ?_ (by omega)
  intro w hw
  show rn_z 3 a_resultAt w = nI 0
  unfold rn_z
  rw [if_pos hw]
  rfl
end
end
section
/-! the machine at half a bundle -/
def rn_E (F : cs_T) (nb : Nat) (Post : rn_Q → Prop) (k : Nat) (q : rn_Q) : Prop :=
  (k % 2 = 0 → ∃ t, rn_G F nb Post t (k / 2) q) ∧
  (k % 2 = 1 → rn_cy q < 40000 ∧ rn_sf F k q ∧ ∃ b', (rn_h F k (nI (k / 2 + 1), q)).1 = nI b' ∧ b' ≤ 400 ∧ ∃ t, rn_G F nb Post t b' (rn_cyc (rn_cy q + 1) (rn_h F k (nI (k / 2 + 1), q)).2))
section
variable {F : cs_T} {nb : Nat} {Post : rn_Q → Prop} {q q1 : rn_Q} {b b' k : Nat}
theorem rn_E0 (hb : nb ≤ b) (h : Post q) : rn_E F nb Post (2 * b) q := by
  refine ⟨fun _ => ⟨1, Or.inl ⟨by omega, h⟩⟩, fun z => by omega⟩
theorem rn_E1 (hb : b < nb) (hc : rn_cy q < 40000) (sf : rn_sf F (2 * b) q) (e : rn_h F (2 * b) (nI (b + 1), q) = (nI (b + 1), q1)) (h : rn_E F nb Post (2 * b + 1) q1) : rn_E F nb Post (2 * b) q := by
  obtain ⟨h1, h2, b', h3, h4, t, h5⟩ := h.2 (by omega)
  have eb : (2 * b + 1) / 2 = b := by omega
  have eb2 : 2 * b / 2 = b := by omega
  have cy : rn_cy q1 = rn_cy q := by
    have := rn_cyh (F := F) (k := 2 * b) (p := (nI (b + 1), q))
    rw [e] at this
    exact this
  rw [eb] at h3 h5
  rw [cy] at h5
  refine ⟨fun _ => ⟨t + 1, ?_⟩, fun z => by omega⟩
  rw [eb2]
  refine Or.inr ⟨hb, hc, sf, ?_, b', ?_, h4, ?_⟩
  · rw [e]; exact h2
  · rw [e]; exact h3
  · rw [e]; exact h5
theorem rn_E3 (hb : b < nb) (hc : rn_cy q < 40000) (sf : rn_sf F (2 * b) q) (e : rn_h F (2 * b) (nI (b + 1), q) = (nI b', q1)) (hv : cs_vd F (2 * b + 1) = false) (hb' : b' ≤ 400) (h : rn_E F nb Post (2 * b') (rn_cyc (rn_cy q + 1) q1)) : rn_E F nb Post (2 * b) q := by
  obtain ⟨t, g⟩ := h.1 (by omega)
  have eb2 : 2 * b / 2 = b := by omega
  have eb3 : 2 * b' / 2 = b' := by omega
  have v1 : ¬ cs_vd F (2 * b + 1) = true := by rw [hv]; decide
  have e2 : ∀ p, rn_h F (2 * b + 1) p = p := fun p => if_neg v1
  refine ⟨fun _ => ⟨t + 1, ?_⟩, fun z => by omega⟩
  rw [eb2]
  rw [eb3] at g
  refine Or.inr ⟨hb, hc, sf, fun z => absurd z v1, b', ?_, hb', ?_⟩
  · rw [e2, e]
  · rw [e2, e]; exact g
theorem rn_E4 (hc : rn_cy q < 40000) (sf : rn_sf F (2 * b + 1) q) (e : rn_h F (2 * b + 1) (nI (b + 1), q) = (nI b', q1)) (hb' : b' ≤ 400) (h : rn_E F nb Post (2 * b') (rn_cyc (rn_cy q + 1) q1)) : rn_E F nb Post (2 * b + 1) q := by
  obtain ⟨t, g⟩ := h.1 (by omega)
  have eb : (2 * b + 1) / 2 = b := by omega
  have eb3 : 2 * b' / 2 = b' := by omega
  rw [eb3] at g
  refine ⟨fun z => by omega, fun _ => ⟨hc, sf, b', ?_, hb', t, ?_⟩⟩
  · rw [eb, e]
  · rw [eb, e]; exact g
theorem rn_step (hn : nb ≤ 399) (hk : k / 2 < nb) (hc : rn_cy q < 40000) (sf : rn_sf F k q) (e : ∀ pl, rn_h F k (pl, q) = (pl, q1)) (h : rn_E F nb Post (k + 1) (rn_cyc (rn_cy q + ((k + 1) / 2 - k / 2)) q1)) : rn_E F nb Post k q := by
  have cy : rn_cy q1 = rn_cy q := by
    have := rn_cyh (F := F) (k := k) (p := (0, q))
    rw [e] at this
    exact this
  obtain ⟨b, z⟩ : ∃ b, k = 2 * b ∨ k = 2 * b + 1 := ⟨k / 2, by omega⟩
  rcases z with z | z
  · subst z
    have e0 : rn_cy q + ((2 * b + 1) / 2 - 2 * b / 2) = rn_cy q1 := by omega
    rw [e0] at h
    exact rn_E1 (by omega) hc sf (e _) h
  · subst z
    have e0 : rn_cy q + ((2 * b + 1 + 1) / 2 - (2 * b + 1) / 2) = rn_cy q + 1 := by omega
    rw [e0, show 2 * b + 1 + 1 = 2 * (b + 1) by omega] at h
    exact rn_E4 hc sf (e _) (by omega) h
theorem rn_skip (hn : nb ≤ 399) : ∀ m k q, (∀ j, k ≤ j → j < k + m → cs_vd F j = false) → k + m ≤ 2 * nb → rn_cy q + nb ≤ 39000 + k / 2 → rn_E F nb Post (k + m) (rn_cyc (rn_cy q + ((k + m) / 2 - k / 2)) q) → rn_E F nb Post k q := by
  intro m
  induction m with
  | zero =>
    intro k q _ _ _ h
    have e : rn_cy q + ((k + 0) / 2 - k / 2) = rn_cy q := by omega
    rw [e] at h
    exact h
  | succ m ih =>
    intro k q hv hk tb h
    have v1 : ¬ cs_vd F k = true := by rw [hv k (by omega) (by omega)]; decide
    refine rn_step (q1 := q) hn (by omega) (by omega) (fun z => absurd z v1) (fun pl => if_neg v1) ?_
    refine ih (k + 1) _ (fun j h1 h2 => hv j (by omega) (by omega)) (by omega) ?_ ?_
    · show rn_cy q + ((k + 1) / 2 - k / 2) + nb ≤ 39000 + (k + 1) / 2
      omega
    · have e : rn_cy q + ((k + 1) / 2 - k / 2) + ((k + 1 + m) / 2 - (k + 1) / 2) = rn_cy q + ((k + (m + 1)) / 2 - k / 2) := by omega
      have e2 : k + 1 + m = k + (m + 1) := by omega
      show rn_E F nb Post (k + 1 + m) (rn_cyc (rn_cy q + ((k + 1) / 2 - k / 2) + ((k + 1 + m) / 2 - (k + 1) / 2)) q)
      rw [e, e2]
      exact h
theorem rn_skip' (hn : nb ≤ 399) {k k' : Nat} (hk : k ≤ k') (hv : ∀ j, k ≤ j → j < k' → cs_vd F j = false) (hn2 : k' ≤ 2 * nb) (tb : rn_cy q + nb ≤ 39000 + k / 2) (h : rn_E F nb Post k' (rn_cyc (rn_cy q + (k' / 2 - k / 2)) q)) : rn_E F nb Post k q := by
  obtain ⟨m, rfl⟩ : ∃ m, k' = k + m := ⟨k' - k, by omega⟩
  exact rn_skip hn m k q hv hn2 tb h
def rn_vl (f : Nat) (v : Int32) (q : rn_Q) : Int32 := if f = 15 then v else if f < 16 then rn_rg q f else rn_re q (f - 16)
theorem cs_inv {c : cs_T} {f t j : Nat} {v e : Int32} (H : cs_CB c) (X : cs_E (cs_pl c f v t e) F) (h1 : cs_fr c ≤ j) (h2 : j < cs_k c f t) : cs_vd F j = false := by
  have a := (X.2 j (by rw [cs_frpl]; omega)).1
  have b : cs_vd (cs_pl c f v t e) j = cs_vd c j := cs_un (by omega)
  rw [a, b]
  cases z : cs_vd c j
  · rfl
  · have := H.1 j z
    omega
theorem cs_val {c : cs_T} {f t : Nat} {v e : Int32} (X : cs_E (cs_pl c f v t e) F) : cs_vd F (cs_k c f t) = true ∧ cs_sr F (cs_k c f t) = f ∧ cs_vl F (cs_k c f t) = v ∧ cs_tg F (cs_k c f t) = t ∧ (t ≠ 28 → cs_ex F (cs_k c f t) = e) := by
  have a := X.2 (cs_k c f t) (by rw [cs_frpl]; omega)
  have v1 : cs_vd (cs_pl c f v t e) (cs_k c f t) = true := cs_us
  have v2 : cs_sr (cs_pl c f v t e) (cs_k c f t) = f := cs_us
  have v3 : cs_vl (cs_pl c f v t e) (cs_k c f t) = v := cs_us
  have v4 : cs_tg (cs_pl c f v t e) (cs_k c f t) = t := cs_us
  have v5 : cs_ex (cs_pl c f v t e) (cs_k c f t) = e := cs_us
  have a2 := a.2 v1
  exact ⟨a.1.trans v1, a2.1.trans v2, a2.2.1.trans v3, a2.2.2.1.trans v4, fun n => (a2.2.2.2 (by rw [v4]; exact n)).trans v5⟩
/-- a move that isn't a jump -/
theorem rn_place {c : cs_T} {f t : Nat} {v e : Int32} (hn : nb ≤ 399) (hF : cs_fr F = 2 * nb) (H : cs_CB c) (X : cs_E (cs_pl c f v t e) F) (ht : t < 28) (tb : rn_cy q + nb ≤ 39000 + cs_fr c / 2) (tm : 16 ≤ f → rn_at q (f - 16) ≤ rn_cy q + (cs_k c f t / 2 - cs_fr c / 2))
    (h : rn_E F nb Post (cs_k c f t + 1) (rn_cyc (rn_cy q + ((cs_k c f t + 1) / 2 - cs_fr c / 2)) (rn_mv t e (rn_vl f v q) (rn_cyc (rn_cy q + (cs_k c f t / 2 - cs_fr c / 2)) q)))) : rn_E F nb Post (cs_fr c) q := by
  have kf := cs_kfr c f t
  have le := X.1
  rw [cs_frpl] at le
  obtain ⟨v1, v2, v3, v4, v5⟩ := cs_val X
  have v5 := v5 (by omega)
  refine rn_skip' hn kf (fun j h1 h2 => cs_inv H X h1 h2) (by omega) tb ?_
  generalize hk : cs_k c f t = k at *
  refine rn_step (q1 := rn_mv t e (rn_vl f v q) (rn_cyc (rn_cy q + (k / 2 - cs_fr c / 2)) q)) hn (by omega) ?_ ?_ ?_ ?_
  · show rn_cy q + (k / 2 - cs_fr c / 2) < 40000
    omega
  · intro _
    rw [v2, v4]
    exact ⟨tm, fun z => by omega, fun z => by omega⟩
  · intro pl
    unfold rn_h
    rw [if_pos v1, v4, v5, rn_g0 ht]
    refine congrArg (fun x => (pl, rn_mv t e x _)) ?_
    unfold rn_rd rn_vl
    rw [v2, v3]
    rfl
  · have e2 : rn_cy (rn_cyc (rn_cy q + (k / 2 - cs_fr c / 2)) q) + ((k + 1) / 2 - k / 2) = rn_cy q + ((k + 1) / 2 - cs_fr c / 2) := by
      show rn_cy q + (k / 2 - cs_fr c / 2) + ((k + 1) / 2 - k / 2) = rn_cy q + ((k + 1) / 2 - cs_fr c / 2)
      omega
    rw [e2]
    exact h
end
end
section
/-! the slots hold the stack -/
def sm_S (c : cs_T) (P : Nat → Prop) (q : rn_Q) (st : Nat → Int32) : Prop :=
  (∀ s, P s → rn_vl (cs_ss c s) (cs_sv c s) q = st s) ∧ (∀ u, u < 3 → cs_hd c u ≠ 0 → rn_at q u + cs_fr c / 2 ≤ cs_rd c u + rn_cy q)
def sm_F (c c' : cs_T) (q q' : rn_Q) : Prop :=
  rn_cy q' + cs_fr c / 2 = rn_cy q + cs_fr c' / 2 ∧ rn_dp q' = rn_dp q ∧ rn_ef q' = rn_ef q ∧ (∀ v, v < 6 → rn_rg q' v = rn_rg q v) ∧ rn_ce q' = rn_ce q ∧ rn_lp q' = rn_lp q ∧ rn_st q' = rn_st q ∧ rn_pt q' = rn_pt q
theorem sm_Fr (c : cs_T) (q : rn_Q) : sm_F c c q q := ⟨rfl, rfl, rfl, fun _ _ => rfl, rfl, rfl, rfl, rfl⟩
theorem sm_Ft {a b c : cs_T} {q r s : rn_Q} (h : sm_F a b q r) (g : sm_F b c r s) : sm_F a c q s := by
  obtain ⟨h1, h2, h3, h4, h5, h6, h7, h8⟩ := h
  obtain ⟨g1, g2, g3, g4, g5, g6, g7, g8⟩ := g
  exact ⟨by omega, g2.trans h2, g3.trans h3, fun v hv => (g4 v hv).trans (h4 v hv), g5.trans h5, g6.trans h6, g7.trans h7, g8.trans h8⟩
theorem sm_Scg {c : cs_T} {P P' : Nat → Prop} {q : rn_Q} {st st' : Nat → Int32} (h : sm_S c P q st) (hP : ∀ j, P' j → P j) (hs : ∀ j, P' j → st' j = st j) : sm_S c P' q st' :=
  ⟨fun s hs' => (h.1 s (hP s hs')).trans (hs s hs').symm, h.2⟩
theorem sm_S0 {c : cs_T} {P : Nat → Prop} {q : rn_Q} {st : Nat → Int32} (L : cs_CL c P) (h : ∀ j, ¬ P j) : sm_S c P q st :=
  ⟨fun s hs => absurd hs (h s), fun u hu hn => absurd (L.2 u hu hn).1 (h _)⟩
section
variable {F : cs_T} {nb : Nat} {Post : rn_Q → Prop} {q : rn_Q} {c : cs_T} {P : Nat → Prop} {st : Nat → Int32} {m s t u x : Nat} {e : Int32}
/-- a slot's value goes to a register or a port -/
theorem sm_fsl (hn : nb ≤ 399) (hF : cs_fr F = 2 * nb) (I : cs_I c P m) (S : sm_S c P q st) (X : cs_E (cs_fsl c s t e) F) (hs : P s) (ht : t < 28) (tb : rn_cy q + nb ≤ 39000 + cs_fr c / 2)
    (h : rn_E F nb Post (cs_fr (cs_fsl c s t e)) (rn_cyc (rn_cy q + (cs_fr (cs_fsl c s t e) / 2 - cs_fr c / 2)) (rn_mv t e (st s) (rn_cyc (rn_cy q + (cs_k c (cs_ss c s) t / 2 - cs_fr c / 2)) q)))) : rn_E F nb Post (cs_fr c) q := by
  have X' : cs_E (cs_pl c (cs_ss c s) (cs_sv c s) t e) F := X
  rw [cs_frfsl] at h
  refine rn_place hn hF I.1 X' ht tb ?_ ?_
  · intro z
    obtain ⟨h5, o⟩ := I.2.2.1.1 s hs
    have kc := cs_kcon c (cs_ss c s) t
    have c2 := cs_con2 (c := c) (f := cs_ss c s) (t := t) z
    have kf := cs_kfr c (cs_ss c s) t
    rcases o with o | o | o | ⟨u, hu, o1, o2⟩
    · omega
    · omega
    · omega
    · have tm := S.2 u hu (by omega)
      have e16 : cs_ss c s - 16 = u := by omega
      rw [e16] at c2 ⊢
      omega
  · rw [S.1 s hs]
    exact h
theorem sm_hd (H : cs_hd (cs_fsl c s t e) u ≠ 0) : cs_hd c u ≠ 0 := by
  intro z
  apply H
  show (if 16 ≤ cs_ss c s then cs_fu (cs_hd c) (cs_ss c s - 16) 0 else cs_hd c) u = 0
  split
  · by_cases y : u = cs_ss c s - 16
    · rw [y, cs_us]
    · rw [cs_un y]; exact z
  · exact z
theorem sm_vl {f : Nat} {v : Int32} {q q' : rn_Q} (hS : cs_S f) (h1 : f < 11 → rn_rg q' f = rn_rg q f) (h2 : 16 ≤ f → rn_re q' (f - 16) = rn_re q (f - 16)) : rn_vl f v q' = rn_vl f v q := by
  unfold cs_S at hS
  unfold rn_vl
  by_cases z : f = 15
  · rw [if_pos z, if_pos z]
  · rw [if_neg z, if_neg z]
    by_cases y : f < 16
    · rw [if_pos y, if_pos y]; exact h1 (by omega)
    · rw [if_neg y, if_neg y]; exact h2 (by omega)
/-- time goes by -/
theorem sm_tm (S : sm_S c P q st) (hk : cs_fr c ≤ cs_fr (cs_fsl c s t e)) : ∀ w, w < 3 → cs_hd (cs_fsl c s t e) w ≠ 0 → rn_at q w + cs_fr (cs_fsl c s t e) / 2 ≤ cs_rd c w + (rn_cy q + (cs_fr (cs_fsl c s t e) / 2 - cs_fr c / 2)) := by
  intro w hw hz
  have := S.2 w hw (sm_hd hz)
  omega
theorem sm_op (hn : nb ≤ 399) (hF : cs_fr F = 2 * nb) (I : cs_I c P m) (S : sm_S c P q st) (X : cs_E (cs_fsl c s (20 + u) e) F) (hs : P s) (hu : u < 4) (tb : rn_cy q + nb ≤ 39000 + cs_fr c / 2) :
    ∃ q', sm_F c (cs_fsl c s (20 + u) e) q q' ∧ sm_S (cs_fsl c s (20 + u) e) (fun j => P j ∧ j ≠ s) q' st ∧ rn_op q' u = st s ∧ rn_op q' = upd (rn_op q) u (st s) ∧ (∀ Post : rn_Q → Prop, rn_E F nb Post (cs_fr (cs_fsl c s (20 + u) e)) q' → rn_E F nb Post (cs_fr c) q) := by
  have kf := (cs_EXfsl c s (20 + u) e).1.1
  have A := fun Post : rn_Q → Prop => sm_fsl (Post := Post) (e := e) hn hF I S X hs (by omega) tb
  rw [rn_m3 (by omega) (by omega), Nat.add_sub_cancel_left] at A
  refine ⟨(rn_cy q + (cs_fr (cs_fsl c s (20 + u) e) / 2 - cs_fr c / 2), rn_dp q, rn_ef q, rn_rg q, rn_ce q, upd (rn_op q) u (st s), rn_re q, rn_at q, rn_lp q, rn_st q, rn_pt q), ⟨?_, rfl, rfl, fun _ _ => rfl, rfl, rfl, rfl, rfl⟩, ⟨fun j hj => ?_, ?_⟩, pk_us, rfl, A⟩
  · show rn_cy q + (cs_fr (cs_fsl c s (20 + u) e) / 2 - cs_fr c / 2) + cs_fr c / 2 = _
    omega
  · exact S.1 j hj.1
  · exact sm_tm S kf
theorem sm_sp (hn : nb ≤ 399) (hF : cs_fr F = 2 * nb) (I : cs_I c P m) (S : sm_S c P q st) (X : cs_E (cs_sp c u) F) (hu : u < 3) (tb : rn_cy q + nb ≤ 39000 + cs_fr c / 2) :
    ∃ q', sm_F c (cs_sp c u) q q' ∧ sm_S (cs_sp c u) P q' st ∧ (∀ Post : rn_Q → Prop, rn_E F nb Post (cs_fr (cs_sp c u)) q' → rn_E F nb Post (cs_fr c) q) := by
  unfold cs_sp at X ⊢
  by_cases z : cs_hd c u = 0
  · rw [if_pos z] at X ⊢
    exact ⟨q, sm_Fr c q, S, fun _ => id⟩
  · rw [if_neg z] at X ⊢
    have p := I.2.2.1.2 u hu z
    generalize cs_hd c u - 1 = s at *
    have h5 := (I.2.2.1.1 s p.1).1
    have kf := (cs_EXfsl c s (6 + s) 0).1.1
    have X' : cs_E (cs_fsl c s (6 + s) 0) F := cs_Et (cs_EXss _ _).1 X
    have A := fun Post : rn_Q → Prop => sm_fsl (Post := Post) (e := 0) hn hF I S X' p.1 (by omega) tb
    rw [rn_m2 (by omega) (by omega)] at A
    have T := sm_tm S kf
    rw [cs_frss]
    generalize hc1 : cs_fsl c s (6 + s) 0 = c1 at *
    have e1 : cs_sv c1 = cs_sv c := by rw [← hc1]; rfl
    have e2 : cs_rd c1 = cs_rd c := by rw [← hc1]; rfl
    refine ⟨(rn_cy q + (cs_fr c1 / 2 - cs_fr c / 2), rn_dp q, rn_ef q, upd (rn_rg q) (6 + s) (st s), rn_ce q, rn_op q, rn_re q, rn_at q, rn_lp q, rn_st q, rn_pt q), ⟨?_, rfl, rfl, fun v hv => ?_, rfl, rfl, rfl, rfl⟩, ⟨fun j hj => ?_, ?_⟩, A⟩
    · rw [cs_frss]
      show rn_cy q + (cs_fr c1 / 2 - cs_fr c / 2) + cs_fr c / 2 = _
      omega
    · exact pk_un (by omega)
    · show rn_vl (cs_fu (cs_ss c) s (6 + s) j) (cs_sv c1 j) _ = st j
      rw [e1]
      by_cases y : j = s
      · subst y
        rw [cs_us]
        unfold rn_vl
        rw [if_neg (by omega), if_pos (by omega)]
        exact pk_us
      · rw [cs_un y, ← S.1 j hj]
        refine sm_vl (cs_Sof I.2.2.1 hj) (fun l => ?_) (fun l => rfl)
        refine pk_un ?_
        rcases (I.2.2.1.1 j hj).2 with o | o | o | ⟨w, _, o, _⟩ <;> omega
    · intro w hw hz
      show rn_at q w + cs_fr c1 / 2 ≤ cs_rd c1 w + (rn_cy q + (cs_fr c1 / 2 - cs_fr c / 2))
      rw [e2]
      exact T w hw hz
/-- a unit is started: its value stands for slot x -/
theorem sm_tr {val : Int32} {dl : Nat} (hn : nb ≤ 399) (hF : cs_fr F = 2 * nb) (I : cs_I c P m) (S : sm_S c P q st) (X : cs_E (cs_fsl c s (24 + u) e) F) (hs : P s) (hu : u < 3) (tb : rn_cy q + nb ≤ 39000 + cs_fr c / 2) (hz : cs_hd (cs_fsl c s (24 + u) e) u = 0) (hx : ¬ (P x ∧ x ≠ s))
    (ev : ∀ n, rn_mv (24 + u) e (st s) (rn_cyc n q) = (n, rn_dp q, rn_ef q, rn_rg q, rn_ce q, rn_op q, upd (rn_re q) u val, cs_fu (rn_at q) u (n + dl), rn_lp q, rn_st q, rn_pt q)) :
    ∃ q', sm_F c (cs_ip (cs_fsl c s (24 + u) e) x u dl) q q' ∧ sm_S (cs_ip (cs_fsl c s (24 + u) e) x u dl) (fun j => (P j ∧ j ≠ s) ∨ j = x) q' (upd st x val) ∧ (∀ Post : rn_Q → Prop, rn_E F nb Post (cs_fr (cs_ip (cs_fsl c s (24 + u) e) x u dl)) q' → rn_E F nb Post (cs_fr c) q) := by
  have kf := (cs_EXfsl c s (24 + u) e).1.1
  have A := fun Post : rn_Q → Prop => sm_fsl (Post := Post) (e := e) hn hF I S X hs (by omega) tb
  rw [ev] at A
  have T := sm_tm S kf
  have L := cs_CLfsl (t := 24 + u) (e := e) I.2.2.1 hs
  have lt := cs_ltfsl (c := c) (s := s) (u := u) (e := e) hu
  have frk := cs_frfsl c s (24 + u) e
  have kfr := cs_kfr c (cs_ss c s) (24 + u)
  generalize cs_k c (cs_ss c s) (24 + u) = k at *
  generalize hc1 : cs_fsl c s (24 + u) e = c1 at *
  have e0 : cs_ss c1 = cs_ss c := by rw [← hc1]; rfl
  have e1 : cs_sv c1 = cs_sv c := by rw [← hc1]; rfl
  have e2 : cs_rd c1 = cs_rd c := by rw [← hc1]; rfl
  have fi : cs_fr (cs_ip c1 x u dl) = cs_fr c1 := rfl
  rw [fi]
  refine ⟨(rn_cy q + (cs_fr c1 / 2 - cs_fr c / 2), rn_dp q, rn_ef q, rn_rg q, rn_ce q, rn_op q, upd (rn_re q) u val, cs_fu (rn_at q) u (rn_cy q + (k / 2 - cs_fr c / 2) + dl), rn_lp q, rn_st q, rn_pt q), ⟨?_, rfl, rfl, fun _ _ => rfl, rfl, rfl, rfl, rfl⟩, ⟨fun j hj => ?_, ?_⟩, A⟩
  · rw [fi]
    show rn_cy q + (cs_fr c1 / 2 - cs_fr c / 2) + cs_fr c / 2 = _
    omega
  · show rn_vl (cs_fu (cs_ss c1) x (16 + u) j) (cs_sv c1 j) _ = upd st x val j
    by_cases y : j = x
    · rw [y, cs_us, pk_us]
      unfold rn_vl
      rw [if_neg (by omega), if_neg (by omega), Nat.add_sub_cancel_left]
      exact pk_us
    · have pj := hj.resolve_right y
      rw [cs_un y, pk_un y, e0, e1, ← S.1 j pj.1]
      refine sm_vl (cs_Sof I.2.2.1 pj.1) (fun l => rfl) (fun l => ?_)
      refine pk_un ?_
      intro w
      rcases (L.1 j pj).2 with o | o | o | ⟨w', hw', o, o2⟩
      · rw [e0] at o; omega
      · rw [e0] at o
        have := (L.1 j pj).1
        omega
      · rw [e0] at o; omega
      · rw [e0] at o
        have : w' = u := by omega
        subst this
        omega
  · intro w hw hnz
    have hnz' : cs_fu (cs_hd c1) u (x + 1) w ≠ 0 := hnz
    show cs_fu (rn_at q) u (rn_cy q + (k / 2 - cs_fr c / 2) + dl) w + cs_fr c1 / 2 ≤ cs_fu (cs_rd c1) u (cs_lt c1 u - 1 + dl) w + (rn_cy q + (cs_fr c1 / 2 - cs_fr c / 2))
    by_cases y : w = u
    · rw [y, cs_us, cs_us, lt]
      omega
    · rw [cs_un y] at hnz'
      rw [cs_un y, cs_un y, e2]
      exact T w hw hnz'
end
end
section
/-! the reference's words -/
theorem yr_15 {h : Nat} (hh : h ≤ 9) : nI h &&& 15 = nI h := by
  rw [pk_andN (by omega) 4 (by decide), Nat.mod_eq_of_lt (by omega)]
theorem yr_3 {h : Nat} (hh : h ≤ 3) : nI h &&& 3 = nI h := by
  rw [pk_andN (by omega) 2 (by decide), Nat.mod_eq_of_lt (by omega)]
section
variable {g_count : Int32} {g_top : Int32} {g_open : Int32} {b_variable : Nat → Int32} {b_memory : Nat → Int32} {b_kind : Nat → Int32} {b_argument : Nat → Int32} {b_sets : Nat → Int32} {b_puts : Nat → Int32} {b_stack : Nat → Int32} {b_begin : Nat → Int32} {b_left : Nat → Int32} {h i a c m n x : Nat} {v dn : Int32}
theorem yr_push {post : SY → Prop} (hh : h ≤ 5) (hp : post (g_count, nI (h + 1), g_open, b_variable, b_memory, b_kind, b_argument, b_sets, b_puts, upd b_stack h v, b_begin, b_left)) : wpY_push post (g_count, nI h, g_open, b_variable, b_memory, b_kind, b_argument, b_sets, b_puts, b_stack, b_begin, b_left) v := by
  unfold wpY_push
  dsimp only
  rw [yr_15 (by omega), nI_clamp (n := h) (by omega)]
  exact ⟨vp_in_nI (by omega) (by omega), nm_e (nm_r (e' := nI (h + 1)) (nI_1 h) hp)⟩
theorem yr_pop {post : Int32 → SY → Prop} (h1 : 1 ≤ h) (hh : h ≤ 5) (hp : post (b_stack (h - 1)) (g_count, nI (h - 1), g_open, b_variable, b_memory, b_kind, b_argument, b_sets, b_puts, b_stack, b_begin, b_left)) : wpY_pop post (g_count, nI h, g_open, b_variable, b_memory, b_kind, b_argument, b_sets, b_puts, b_stack, b_begin, b_left) := by
  unfold wpY_pop
  dsimp only
  refine nm_r (e' := nI (h - 1)) (wd_s1 h1) ?_
  rw [yr_15 (by omega), nI_clamp (n := h - 1) (by omega)]
  exact ⟨vp_in_nI (by omega) (by omega), hp⟩
theorem yr_166a {post : Int32 → SY → Prop} (hc : c ≤ 8) (hp : post 0 (g_count, g_top, g_open, b_variable, b_memory, b_kind, b_argument, b_sets, b_puts, b_stack, b_begin, b_left)) : wY_simple_166 post (nI c) g_count g_top g_open b_variable b_memory b_kind b_argument b_sets b_puts b_stack b_begin b_left := by
  unfold wY_simple_166
  exact pk_eq c 9 (fun z => absurd z (by omega)) (fun _ => pk_eq c 10 (fun z => absurd z (by omega)) (fun _ => hp))
theorem yr_103 {post : Int32 → SY → Prop} (hc : c ≤ 8) (hp : post 0 (g_count, g_top, g_open, b_variable, b_memory, b_kind, b_argument, b_sets, b_puts, b_stack, b_begin, b_left)) : wY_simple_103 post (nI c) v g_count g_top g_open b_variable b_memory b_kind b_argument b_sets b_puts b_stack b_begin b_left := by
  unfold wY_simple_103
  refine pk_eq c 9 (fun z => absurd z (by omega)) (fun _ => ?_)
  unfold wY_simple_129
  exact pk_eq c 10 (fun z => absurd z (by omega)) (fun _ => yr_166a hc hp)
theorem yr_63 {post : Int32 → SY → Prop} (hc : c < 3) (hp : post 0 (g_count, g_top, g_open, b_variable, b_memory, b_kind, b_argument, b_sets, b_puts, b_stack, b_begin, b_left)) : wY_simple_63 post (nI c) v g_count g_top g_open b_variable b_memory b_kind b_argument b_sets b_puts b_stack b_begin b_left := by
  unfold wY_simple_63
  exact br_t (nI_lt (b := 3) hc (by omega)) (yr_103 (by omega) hp)
theorem yr_s {post : Int32 → SY → Prop} (hi : i < 40) (ek : b_kind i = nI c) (ea : b_argument i = v) (hc : c ≤ 12)
    (h0 : c = 0 → vp_in v 6 ∧ wpY_push (fun u => match u with | (g_count, g_top, g_open, b_variable, b_memory, b_kind, b_argument, b_sets, b_puts, b_stack, b_begin, b_left) => wY_simple_28 post (nI c) v g_count g_top g_open b_variable b_memory b_kind b_argument b_sets b_puts b_stack b_begin b_left) (g_count, g_top, g_open, b_variable, b_memory, b_kind, b_argument, b_sets, b_puts, b_stack, b_begin, b_left) (b_variable v.toNatClampNeg)) (h1 : c ≠ 0 → wY_simple_28 post (nI c) v g_count g_top g_open b_variable b_memory b_kind b_argument b_sets b_puts b_stack b_begin b_left) : wpY_simple post (g_count, g_top, g_open, b_variable, b_memory, b_kind, b_argument, b_sets, b_puts, b_stack, b_begin, b_left) (nI i) := by
  have ec : (nI i).toNatClampNeg = i := nI_clamp (by omega)
  have ii : vp_in (nI i) 40 := vp_in_nI (by omega) (by omega)
  unfold wpY_simple
  dsimp only
  rw [ec, ek, ea]
  exact ⟨ii, nm_e ⟨ii, nm_e (pk_eq c 0 h0 h1)⟩⟩
theorem yr_28 {post : Int32 → SY → Prop} (h1 : c ≠ 1) (hc : c ≤ 12) (hp : wY_simple_38 post (nI c) v g_count g_top g_open b_variable b_memory b_kind b_argument b_sets b_puts b_stack b_begin b_left) : wY_simple_28 post (nI c) v g_count g_top g_open b_variable b_memory b_kind b_argument b_sets b_puts b_stack b_begin b_left := by
  unfold wY_simple_28
  exact pk_eq c 1 (fun z => absurd z h1) (fun _ => hp)
theorem yr_38 {post : Int32 → SY → Prop} (h1 : c ≠ 2) (hc : c ≤ 12) (hp : wY_simple_63 post (nI c) v g_count g_top g_open b_variable b_memory b_kind b_argument b_sets b_puts b_stack b_begin b_left) : wY_simple_38 post (nI c) v g_count g_top g_open b_variable b_memory b_kind b_argument b_sets b_puts b_stack b_begin b_left := by
  unfold wY_simple_38
  exact pk_eq c 2 (fun z => absurd z h1) (fun _ => hp)
theorem yr_s0 {post : Int32 → SY → Prop} (hi : i < 40) (ek : b_kind i = nI 0) (ea : b_argument i = nI a) (ha : a < 6) (hh : h ≤ 5) (hp : post 0 (g_count, nI (h + 1), g_open, b_variable, b_memory, b_kind, b_argument, b_sets, b_puts, upd b_stack h (b_variable a), b_begin, b_left)) : wpY_simple post (g_count, nI h, g_open, b_variable, b_memory, b_kind, b_argument, b_sets, b_puts, b_stack, b_begin, b_left) (nI i) := by
  refine yr_s hi ek ea (by omega) (fun _ => ⟨vp_in_nI ha (by omega), ?_⟩) (fun z => absurd rfl z)
  rw [nI_clamp (n := a) (by omega)]
  exact yr_push hh (yr_28 (by omega) (by omega) (yr_38 (by omega) (by omega) (yr_63 (by omega) hp)))
theorem yr_s1 {post : Int32 → SY → Prop} (hi : i < 40) (ek : b_kind i = nI 1) (ea : b_argument i = v) (hh : h ≤ 5) (hp : post 0 (g_count, nI (h + 1), g_open, b_variable, b_memory, b_kind, b_argument, b_sets, b_puts, upd b_stack h v, b_begin, b_left)) : wpY_simple post (g_count, nI h, g_open, b_variable, b_memory, b_kind, b_argument, b_sets, b_puts, b_stack, b_begin, b_left) (nI i) := by
  refine yr_s hi ek ea (by omega) (fun z => by omega) (fun z => ?_)
  unfold wY_simple_28
  refine br_t rfl ?_
  exact yr_push hh (yr_38 (by omega) (by omega) (yr_63 (by omega) hp))
theorem yr_s2 {post : Int32 → SY → Prop} (hi : i < 40) (ek : b_kind i = nI 2) (h1 : 1 ≤ h) (hh : h ≤ 5) (hp : post 0 (g_count, nI h, g_open, b_variable, b_memory, b_kind, b_argument, b_sets, b_puts, upd b_stack (h - 1) (b_memory (rn_ad (b_stack (h - 1)))), b_begin, b_left)) : wpY_simple post (g_count, nI h, g_open, b_variable, b_memory, b_kind, b_argument, b_sets, b_puts, b_stack, b_begin, b_left) (nI i) := by
  refine yr_s hi ek rfl (by omega) (fun z => by omega) (fun z => yr_28 (by omega) (by omega) ?_)
  unfold wY_simple_38
  refine br_t rfl ?_
  refine yr_pop h1 hh ?_
  have i16 : vp_in (b_stack (h - 1) &&& 15) 16 := pk_andIn _ 4 (by decide) (by omega)
  refine nm_e ⟨i16, ?_⟩
  refine yr_push (by omega) ?_
  rw [show h - 1 + 1 = h by omega]
  exact yr_63 (by omega) hp
def yr_j (k x y : Int32) : Int32 := if k = 5 then x * y else rn_cm k x y
theorem yr_joined {post : Int32 → Prop} {k x y : Int32} (hp : post (yr_j k x y)) : wpY_joined post (g_count, g_top, g_open, b_variable, b_memory, b_kind, b_argument, b_sets, b_puts, b_stack, b_begin, b_left) k x y := by
  unfold yr_j rn_cm at hp
  unfold wpY_joined
  have n35 : ¬ (3 : Int32) = 5 := by decide
  have n45 : ¬ (4 : Int32) = 5 := by decide
  refine br_c (fun z => ?_) (fun z => br_c (fun z1 => ?_) (fun z1 => br_c (fun z5 => ?_) (fun z5 => br_c (fun z2 => ?_) (fun z2 => br_c (fun z3 => ?_) (fun z3 => br_c (fun z4 => ?_) (fun z4 => ?_))))))
  · subst z
    rw [if_neg n35, if_pos rfl] at hp; exact hp
  · subst z1
    rw [if_neg n45, if_neg z, if_pos rfl] at hp; exact hp
  · rw [if_pos z5] at hp; exact hp
  · rw [if_neg z5, if_neg z, if_neg z1, if_pos z2] at hp; exact hp
  · rw [if_neg z5, if_neg z, if_neg z1, if_neg z2, if_pos z3] at hp; exact hp
  · rw [if_neg z5, if_neg z, if_neg z1, if_neg z2, if_neg z3, if_pos z4] at hp; exact hp
  · rw [if_neg z5, if_neg z, if_neg z1, if_neg z2, if_neg z3, if_neg z4] at hp; exact hp
theorem yr_s3 {post : Int32 → SY → Prop} (hi : i < 40) (ek : b_kind i = nI c) (h3 : 3 ≤ c) (h8 : c ≤ 8) (h1 : 2 ≤ h) (hh : h ≤ 5) (hp : post 0 (g_count, nI (h - 1), g_open, b_variable, b_memory, b_kind, b_argument, b_sets, b_puts, upd b_stack (h - 2) (yr_j (nI c) (b_stack (h - 2)) (b_stack (h - 1))), b_begin, b_left)) : wpY_simple post (g_count, nI h, g_open, b_variable, b_memory, b_kind, b_argument, b_sets, b_puts, b_stack, b_begin, b_left) (nI i) := by
  refine yr_s hi ek rfl (by omega) (fun z => by omega) (fun z => yr_28 (by omega) (by omega) (yr_38 (by omega) (by omega) ?_))
  unfold wY_simple_63
  refine pk_lt c 3 (fun z => absurd z (by omega)) (fun _ => pk_lt 8 c (fun z => absurd z (by omega)) (fun _ => ?_))
  refine yr_pop (by omega) hh ?_
  refine yr_pop (by omega) (by omega) ?_
  rw [show h - 1 - 1 = h - 2 by omega]
  refine yr_joined ?_
  refine yr_push (by omega) ?_
  rw [show h - 2 + 1 = h - 1 by omega]
  exact yr_103 (by omega) hp
theorem yr_s9 {post : Int32 → SY → Prop} (hi : i < 40) (ek : b_kind i = nI 9) (ea : b_argument i = nI a) (ha : a < 6) (h1 : h = 1) (hp : post 1 (g_count, nI 0, g_open, upd b_variable a (b_stack 0), b_memory, b_kind, b_argument, upd b_sets a (b_sets a + 1), b_puts, b_stack, b_begin, b_left)) : wpY_simple post (g_count, nI h, g_open, b_variable, b_memory, b_kind, b_argument, b_sets, b_puts, b_stack, b_begin, b_left) (nI i) := by
  subst h1
  have ia : vp_in (nI a) 6 := vp_in_nI (by omega) (by omega)
  refine yr_s hi ek ea (by omega) (fun z => by omega) (fun z => yr_28 (by omega) (by omega) (yr_38 (by omega) (by omega) ?_))
  unfold wY_simple_63
  refine pk_lt 9 3 (fun z => absurd z (by omega)) (fun _ => pk_lt 8 9 (fun _ => ?_) (fun z => absurd z (by omega)))
  unfold wY_simple_103
  refine br_t rfl ?_
  refine yr_pop (by omega) (by omega) ?_
  rw [nI_clamp (n := a) (by omega)]
  refine ⟨ia, nm_e ⟨ia, ia, nm_e ?_⟩⟩
  unfold wY_simple_129
  refine pk_eq 9 10 (fun z => absurd z (by omega)) (fun _ => ?_)
  unfold wY_simple_166
  exact br_t rfl hp
theorem yr_s10 {post : Int32 → SY → Prop} (hi : i < 40) (ek : b_kind i = nI 10) (h1 : h = 2) (hp : post 1 (g_count, nI 0, g_open, b_variable, upd b_memory (rn_ad (b_stack 1)) (b_stack 0), b_kind, b_argument, b_sets, upd b_puts (rn_ad (b_stack 1)) (b_puts (rn_ad (b_stack 1)) + 1), b_stack, b_begin, b_left)) : wpY_simple post (g_count, nI h, g_open, b_variable, b_memory, b_kind, b_argument, b_sets, b_puts, b_stack, b_begin, b_left) (nI i) := by
  subst h1
  refine yr_s hi ek rfl (by omega) (fun z => by omega) (fun z => yr_28 (by omega) (by omega) (yr_38 (by omega) (by omega) ?_))
  unfold wY_simple_63
  refine pk_lt 10 3 (fun z => absurd z (by omega)) (fun _ => pk_lt 8 10 (fun _ => ?_) (fun z => absurd z (by omega)))
  unfold wY_simple_103
  refine pk_eq 10 9 (fun z => absurd z (by omega)) (fun _ => ?_)
  unfold wY_simple_129
  refine br_t rfl ?_
  have i16 : vp_in (b_stack 1 &&& 15) 16 := pk_andIn _ 4 (by decide) (by omega)
  refine yr_pop (by omega) (by omega) ?_
  refine nm_e ?_
  refine yr_pop (h := 1) (by omega) (by omega) ?_
  refine ⟨i16, nm_e ⟨i16, i16, nm_e ?_⟩⟩
  unfold wY_simple_166
  exact pk_eq 10 9 (fun z => absurd z (by omega)) (fun _ => br_t rfl hp)
/-! one word of the run -/
theorem yr_run {post : Int32 → SY → Prop} (hi : i < n) (hn : n ≤ 40) (hx : x < 20000) (ek : b_kind i = nI c) (hc : c ≤ 12)
    (hE : c = 11 → wpY_enter (fun r u => match u with | (g_count, g_top, g_open, b_variable, b_memory, b_kind, b_argument, b_sets, b_puts, b_stack, b_begin, b_left) => ∀ y, y = nI x + 1 → wY_run_67 post m dn r y g_count g_top g_open b_variable b_memory b_kind b_argument b_sets b_puts b_stack b_begin b_left) (nI n, g_top, g_open, b_variable, b_memory, b_kind, b_argument, b_sets, b_puts, b_stack, b_begin, b_left) (nI i))
    (hL : c = 12 → wpY_leave (fun r u => match u with | (g_count, g_top, g_open, b_variable, b_memory, b_kind, b_argument, b_sets, b_puts, b_stack, b_begin, b_left) => ∀ y, y = nI x + 1 → wY_run_67 post m dn r y g_count g_top g_open b_variable b_memory b_kind b_argument b_sets b_puts b_stack b_begin b_left) (nI n, g_top, g_open, b_variable, b_memory, b_kind, b_argument, b_sets, b_puts, b_stack, b_begin, b_left) (nI i))
    (hS : c ≠ 11 → c ≠ 12 → wpY_simple (fun r u => match u with | (g_count, g_top, g_open, b_variable, b_memory, b_kind, b_argument, b_sets, b_puts, b_stack, b_begin, b_left) => ∀ w, w = dn + r → ∀ y, y = nI i + 1 → ∀ z, z = nI x + 1 → wY_run_67 post m w y z g_count g_top g_open b_variable b_memory b_kind b_argument b_sets b_puts b_stack b_begin b_left) (nI n, g_top, g_open, b_variable, b_memory, b_kind, b_argument, b_sets, b_puts, b_stack, b_begin, b_left) (nI i)) :
    wY_run_67 post (m + 1) dn (nI i) (nI x) (nI n) g_top g_open b_variable b_memory b_kind b_argument b_sets b_puts b_stack b_begin b_left := by
  have ec : b_kind (nI i).toNatClampNeg = nI c := by rw [nI_clamp (by omega)]; exact ek
  have ii : vp_in (nI i) 40 := vp_in_nI (by omega) (by omega)
  refine br_f (nI_ge (b := 20000) (by omega) (by omega)) (br_f (nI_ge (by omega) (by omega)) (br_f (nI_pos (by omega)) (br_f (nI_ge (b := 40) (by omega) (by omega)) ⟨ii, ?_⟩)))
  rw [ec]
  exact pk_eq c 11 hE (fun z => ⟨ii, pk_eq c 12 hL (fun y => hS z y)⟩)
theorem yr_stop {post : Int32 → SY → Prop} (hp : post dn (nI n, g_top, g_open, b_variable, b_memory, b_kind, b_argument, b_sets, b_puts, b_stack, b_begin, b_left)) (hn : n ≤ 40) : wY_run_67 post (m + 1) dn (nI n) (nI x) (nI n) g_top g_open b_variable b_memory b_kind b_argument b_sets b_puts b_stack b_begin b_left :=
  br_c (fun _ => hp) (fun _ => br_t (nI_le (Nat.le_refl _) (by omega)) hp)
theorem yr_0 {post : Int32 → SY → Prop} (hi : i < n) (hn : n ≤ 40) (hx : x < 20000) (ek : b_kind i = nI 0) (ea : b_argument i = nI a) (ha : a < 6) (hh : h ≤ 5) (H : wY_run_67 post m dn (nI (i + 1)) (nI (x + 1)) (nI n) (nI (h + 1)) g_open b_variable b_memory b_kind b_argument b_sets b_puts (upd b_stack h (b_variable a)) b_begin b_left) : wY_run_67 post (m + 1) dn (nI i) (nI x) (nI n) (nI h) g_open b_variable b_memory b_kind b_argument b_sets b_puts b_stack b_begin b_left := by
  refine yr_run hi hn hx ek (by omega) (fun z => by omega) (fun z => by omega) (fun _ _ => ?_)
  refine yr_s0 (by omega) ek ea ha hh ?_
  exact nm_r (e' := dn) (Int32.add_zero _) (nm_r (e' := nI (i + 1)) (nI_1 i) (nm_r (e' := nI (x + 1)) (nI_1 x) H))
theorem yr_1 {post : Int32 → SY → Prop} (hi : i < n) (hn : n ≤ 40) (hx : x < 20000) (ek : b_kind i = nI 1) (hh : h ≤ 5) (H : wY_run_67 post m dn (nI (i + 1)) (nI (x + 1)) (nI n) (nI (h + 1)) g_open b_variable b_memory b_kind b_argument b_sets b_puts (upd b_stack h (b_argument i)) b_begin b_left) : wY_run_67 post (m + 1) dn (nI i) (nI x) (nI n) (nI h) g_open b_variable b_memory b_kind b_argument b_sets b_puts b_stack b_begin b_left := by
  refine yr_run hi hn hx ek (by omega) (fun z => by omega) (fun z => by omega) (fun _ _ => ?_)
  refine yr_s1 (by omega) ek rfl hh ?_
  exact nm_r (e' := dn) (Int32.add_zero _) (nm_r (e' := nI (i + 1)) (nI_1 i) (nm_r (e' := nI (x + 1)) (nI_1 x) H))
theorem yr_2 {post : Int32 → SY → Prop} (hi : i < n) (hn : n ≤ 40) (hx : x < 20000) (ek : b_kind i = nI 2) (h1 : 1 ≤ h) (hh : h ≤ 5) (H : wY_run_67 post m dn (nI (i + 1)) (nI (x + 1)) (nI n) (nI h) g_open b_variable b_memory b_kind b_argument b_sets b_puts (upd b_stack (h - 1) (b_memory (rn_ad (b_stack (h - 1))))) b_begin b_left) : wY_run_67 post (m + 1) dn (nI i) (nI x) (nI n) (nI h) g_open b_variable b_memory b_kind b_argument b_sets b_puts b_stack b_begin b_left := by
  refine yr_run hi hn hx ek (by omega) (fun z => by omega) (fun z => by omega) (fun _ _ => ?_)
  refine yr_s2 (by omega) ek h1 hh ?_
  exact nm_r (e' := dn) (Int32.add_zero _) (nm_r (e' := nI (i + 1)) (nI_1 i) (nm_r (e' := nI (x + 1)) (nI_1 x) H))
theorem yr_3_8 {post : Int32 → SY → Prop} (hi : i < n) (hn : n ≤ 40) (hx : x < 20000) (ek : b_kind i = nI c) (h3 : 3 ≤ c) (h8 : c ≤ 8) (h1 : 2 ≤ h) (hh : h ≤ 5) (H : wY_run_67 post m dn (nI (i + 1)) (nI (x + 1)) (nI n) (nI (h - 1)) g_open b_variable b_memory b_kind b_argument b_sets b_puts (upd b_stack (h - 2) (yr_j (nI c) (b_stack (h - 2)) (b_stack (h - 1)))) b_begin b_left) : wY_run_67 post (m + 1) dn (nI i) (nI x) (nI n) (nI h) g_open b_variable b_memory b_kind b_argument b_sets b_puts b_stack b_begin b_left := by
  refine yr_run hi hn hx ek (by omega) (fun z => by omega) (fun z => by omega) (fun _ _ => ?_)
  refine yr_s3 (by omega) ek h3 h8 h1 hh ?_
  exact nm_r (e' := dn) (Int32.add_zero _) (nm_r (e' := nI (i + 1)) (nI_1 i) (nm_r (e' := nI (x + 1)) (nI_1 x) H))
theorem yr_9 {post : Int32 → SY → Prop} (hi : i < n) (hn : n ≤ 40) (hx : x < 20000) (ek : b_kind i = nI 9) (ea : b_argument i = nI a) (ha : a < 6) (h1 : h = 1) (H : wY_run_67 post m (dn + 1) (nI (i + 1)) (nI (x + 1)) (nI n) (nI 0) g_open (upd b_variable a (b_stack 0)) b_memory b_kind b_argument (upd b_sets a (b_sets a + 1)) b_puts b_stack b_begin b_left) : wY_run_67 post (m + 1) dn (nI i) (nI x) (nI n) (nI h) g_open b_variable b_memory b_kind b_argument b_sets b_puts b_stack b_begin b_left := by
  refine yr_run hi hn hx ek (by omega) (fun z => by omega) (fun z => by omega) (fun _ _ => ?_)
  refine yr_s9 (by omega) ek ea ha h1 ?_
  exact nm_e (nm_r (e' := nI (i + 1)) (nI_1 i) (nm_r (e' := nI (x + 1)) (nI_1 x) H))
theorem yr_10 {post : Int32 → SY → Prop} (hi : i < n) (hn : n ≤ 40) (hx : x < 20000) (ek : b_kind i = nI 10) (h1 : h = 2) (H : wY_run_67 post m (dn + 1) (nI (i + 1)) (nI (x + 1)) (nI n) (nI 0) g_open b_variable (upd b_memory (rn_ad (b_stack 1)) (b_stack 0)) b_kind b_argument b_sets (upd b_puts (rn_ad (b_stack 1)) (b_puts (rn_ad (b_stack 1)) + 1)) b_stack b_begin b_left) : wY_run_67 post (m + 1) dn (nI i) (nI x) (nI n) (nI h) g_open b_variable b_memory b_kind b_argument b_sets b_puts b_stack b_begin b_left := by
  refine yr_run hi hn hx ek (by omega) (fun z => by omega) (fun z => by omega) (fun _ _ => ?_)
  refine yr_s10 (by omega) ek h1 ?_
  exact nm_e (nm_r (e' := nI (i + 1)) (nI_1 i) (nm_r (e' := nI (x + 1)) (nI_1 x) H))
end
end
section
/-! the reference's repeats -/
section
variable {g_count : Int32} {g_top : Int32} {g_open : Int32} {b_variable : Nat → Int32} {b_memory : Nat → Int32} {b_kind : Nat → Int32} {b_argument : Nat → Int32} {b_sets : Nat → Int32} {b_puts : Nat → Int32} {b_stack : Nat → Int32} {b_begin : Nat → Int32} {b_left : Nat → Int32} {h i a c d e l m n x : Nat} {v dn : Int32}
theorem yr_end4 {post : Int32 → Prop} (V : wd_V b_kind b_argument n) (hk : wd_k b_kind i = 11) (hd : wd_N b_kind i = d) (hE : wd_E b_kind n (i + 1) d e) (hp : post (nI e)) : ∀ dd j m, j + dd = e → i ≤ j → dd < m → wY_endOf_4 post (nI n) g_top g_open b_variable b_memory b_kind b_argument b_sets b_puts b_stack b_begin b_left m (nI (wd_N b_kind j - d)) (nI j) := by
  have hn := V.1
  obtain ⟨E1, E2, E3, E4, E5⟩ := hE
  intro dd
  induction dd with
  | zero =>
    intro j m hj hij hm
    obtain ⟨m, rfl⟩ : ∃ m', m = m' + 1 := ⟨m - 1, by omega⟩
    have : j = e := by omega
    subst this
    have st := wd_Nst V (i := j) (by omega)
    have g := E5 j (by omega) (by omega)
    have hb := wd_bnd V j (by omega)
    have ek : b_kind (nI j).toNatClampNeg = nI 12 := by rw [nI_clamp (by omega), (V.2 j (by omega)).1, E3]
    have ij : vp_in (nI j) 40 := vp_in_nI (by omega) (by omega)
    refine br_f (nI_ge (by omega) (by omega)) (br_f (nI_ge (b := 40) (by omega) (by omega)) ⟨ij, ?_⟩)
    unfold wY_endOf_32 wY_endOf_46
    rw [ek]
    refine pk_eq 12 11 (fun z => by omega) (fun _ => ⟨ij, pk_eq 12 12 (fun _ => nm_r (e' := nI 0) ?_ (br_t rfl hp)) (fun z => absurd rfl z)⟩)
    rw [show wd_N b_kind j - d = 0 + 1 by omega]
    exact pk_m1 0
  | succ dd ih =>
    intro j m hj hij hm
    obtain ⟨m, rfl⟩ : ∃ m', m = m' + 1 := ⟨m - 1, by omega⟩
    have IH := ih (j + 1) m (by omega) (by omega) (by omega)
    have st := wd_Nst V (i := j) (by omega)
    have g := E5 (j + 1) (by omega) (by omega)
    have hb := wd_bnd V (j + 1) (by omega)
    have hb0 := wd_bnd V j (by omega)
    have hv := V.2 j (by omega)
    have h12 := hv.2.1
    have gj : j = i ∨ d < wd_N b_kind j := by
      rcases Nat.lt_or_ge i j with z | z
      · exact Or.inr (E5 j (by omega) (by omega))
      · exact Or.inl (by omega)
    have ek : b_kind (nI j).toNatClampNeg = nI (wd_k b_kind j) := by rw [nI_clamp (by omega)]; exact hv.1
    have ij : vp_in (nI j) 40 := vp_in_nI (by omega) (by omega)
    refine br_f (nI_ge (by omega) (by omega)) (br_f (nI_ge (b := 40) (by omega) (by omega)) ⟨ij, ?_⟩)
    have K46 : wY_endOf_46 post (wY_endOf_4 post (nI n) g_top g_open b_variable b_memory b_kind b_argument b_sets b_puts b_stack b_begin b_left m) (nI (wd_N b_kind (j + 1) - d)) (nI j) (nI n) g_top g_open b_variable b_memory b_kind b_argument b_sets b_puts b_stack b_begin b_left := by
      unfold wY_endOf_46
      exact pk_eq (wd_N b_kind (j + 1) - d) 0 (fun z => by omega) (fun _ => nm_r (e' := nI (j + 1)) (nI_1 j) IH)
    rw [ek]
    unfold wY_endOf_32
    rw [ek]
    by_cases z1 : wd_k b_kind j = 11
    · have e1 : wd_N b_kind (j + 1) - d = wd_N b_kind j - d + 1 := by
        rcases gj with q | q
        · subst q; omega
        · omega
      rw [e1] at K46
      exact pk_eq (wd_k b_kind j) 11 (fun _ => nm_r (e' := nI (wd_N b_kind j - d + 1)) (nI_1 _) ⟨ij, pk_eq (wd_k b_kind j) 12 (fun z => by omega) (fun _ => K46)⟩) (fun z => absurd z1 z)
    · refine pk_eq (wd_k b_kind j) 11 (fun z => absurd z z1) (fun _ => ⟨ij, pk_eq (wd_k b_kind j) 12 (fun z2 => ?_) (fun z2 => ?_)⟩)
      · have ne : j ≠ i := by
          intro q
          subst q
          omega
        have gj2 := gj.resolve_left ne
        have e1 : wd_N b_kind j - d = (wd_N b_kind (j + 1) - d) + 1 := by omega
        rw [e1]
        exact nm_r (e' := nI (wd_N b_kind (j + 1) - d)) (pk_m1 _) K46
      · have e1 : wd_N b_kind (j + 1) = wd_N b_kind j := by omega
        rw [e1] at K46
        exact K46
theorem yr_enter {post : Int32 → SY → Prop} (V : wd_V b_kind b_argument n) (hi : i < n) (hk : wd_k b_kind i = 11) (hd : wd_N b_kind i = d) (hd2 : d < 2) (hE : wd_E b_kind n (i + 1) d e) (hh : h = 1)
    (h1 : 0 < b_stack 0 → post (nI (i + 1)) (nI n, nI 0, nI (d + 1), b_variable, b_memory, b_kind, b_argument, b_sets, b_puts, b_stack, upd b_begin d (nI (i + 1)), upd b_left d (if b_stack 0 ≤ 9 then b_stack 0 else 9)))
    (h2 : ¬ 0 < b_stack 0 → post (nI (e + 1)) (nI n, nI 0, nI d, b_variable, b_memory, b_kind, b_argument, b_sets, b_puts, b_stack, b_begin, b_left)) : wpY_enter post (nI n, nI h, nI d, b_variable, b_memory, b_kind, b_argument, b_sets, b_puts, b_stack, b_begin, b_left) (nI i) := by
  subst hh
  have hn := V.1
  have ec : (nI d).toNatClampNeg = d := nI_clamp (by omega)
  have i4 : vp_in (nI d) 4 := vp_in_nI (by omega) (by omega)
  unfold wpY_enter
  refine yr_pop (by omega) (by omega) ?_
  refine br_c (fun z => ?_) (fun z => ?_)
  · have P := h1 z
    have M : ∀ y, y = (if b_stack 0 ≤ 9 then b_stack 0 else 9) → wY_enter_53 post (nI i) y (nI d) (nI n) (nI 0) (nI d) b_variable b_memory b_kind b_argument b_sets b_puts b_stack (upd b_begin d (nI (i + 1))) b_left := by
      intro y ey
      unfold wY_enter_53
      rw [ec, nI_1 i]
      refine ⟨i4, nm_e (nm_r (e' := nI (d + 1)) (nI_1 d) ?_)⟩
      rw [ey]
      exact P
    rw [yr_3 (h := d) (by omega), ec, nI_1 i]
    exact ⟨i4, nm_e (br_c (fun w => M _ (if_pos w).symm) (fun w => M _ (if_neg w).symm))⟩
  · unfold wpY_endOf
    refine ⟨e - i + 1, ?_⟩
    have E1 := hE.1
    have q := yr_end4 (post := fun r => post (r + 1) (nI n, nI 0, nI d, b_variable, b_memory, b_kind, b_argument, b_sets, b_puts, b_stack, b_begin, b_left)) (g_top := nI 0) (g_open := nI d) (b_variable := b_variable) (b_memory := b_memory) (b_sets := b_sets) (b_puts := b_puts) (b_stack := b_stack) (b_begin := b_begin) (b_left := b_left) V hk hd hE (by rw [nI_1]; exact h2 z) (e - i) i (e - i + 1) (by omega) (by omega) (by omega)
    rw [hd, Nat.sub_self] at q
    exact q
theorem yr_leave {post : Int32 → SY → Prop} (h0 : 0 < d) (h2 : d ≤ 2) (el : b_left (d - 1) = nI (l + 1)) (hl : l ≤ 8)
    (ha : l = 0 → post (nI (i + 1)) (g_count, g_top, nI (d - 1), b_variable, b_memory, b_kind, b_argument, b_sets, b_puts, b_stack, b_begin, upd b_left (d - 1) (nI l)))
    (hb : 0 < l → post (b_begin (d - 1)) (g_count, g_top, nI d, b_variable, b_memory, b_kind, b_argument, b_sets, b_puts, b_stack, b_begin, upd b_left (d - 1) (nI l))) : wpY_leave post (g_count, g_top, nI d, b_variable, b_memory, b_kind, b_argument, b_sets, b_puts, b_stack, b_begin, b_left) (nI i) := by
  have ec : (nI (d - 1)).toNatClampNeg = d - 1 := nI_clamp (by omega)
  have i4 : vp_in (nI (d - 1)) 4 := vp_in_nI (by omega) (by omega)
  have ed : nI d - 1 = nI (d - 1) := wd_s1 h0
  unfold wpY_leave
  dsimp only
  rw [ed, yr_3 (h := d - 1) (by omega), nI_1 i]
  refine nm_e ?_
  rw [ec, el, nI_pred]
  refine ⟨i4, i4, nm_e ⟨i4, ?_⟩⟩
  rw [pk_us]
  exact pk_le l 0 (fun z => nm_e (ha (by omega))) (fun z => ⟨i4, hb z⟩)
theorem yr_11 {post : Int32 → SY → Prop} (V : wd_V b_kind b_argument n) (hi : i < n) (hx : x < 20000) (hk : wd_k b_kind i = 11) (hd : wd_N b_kind i = d) (hd2 : d < 2) (hE : wd_E b_kind n (i + 1) d e) (hh : h = 1)
    (h1 : 0 < b_stack 0 → wY_run_67 post m dn (nI (i + 1)) (nI (x + 1)) (nI n) (nI 0) (nI (d + 1)) b_variable b_memory b_kind b_argument b_sets b_puts b_stack (upd b_begin d (nI (i + 1))) (upd b_left d (if b_stack 0 ≤ 9 then b_stack 0 else 9)))
    (h2 : ¬ 0 < b_stack 0 → wY_run_67 post m dn (nI (e + 1)) (nI (x + 1)) (nI n) (nI 0) (nI d) b_variable b_memory b_kind b_argument b_sets b_puts b_stack b_begin b_left) : wY_run_67 post (m + 1) dn (nI i) (nI x) (nI n) (nI h) (nI d) b_variable b_memory b_kind b_argument b_sets b_puts b_stack b_begin b_left := by
  have ek := (V.2 i hi).1
  rw [hk] at ek
  refine yr_run hi V.1 hx ek (by omega) (fun _ => ?_) (fun z => by omega) (fun z => absurd rfl z)
  exact yr_enter V hi hk hd hd2 hE hh (fun z => nm_r (e' := nI (x + 1)) (nI_1 x) (h1 z)) (fun z => nm_r (e' := nI (x + 1)) (nI_1 x) (h2 z))
theorem yr_12 {post : Int32 → SY → Prop} (V : wd_V b_kind b_argument n) (hi : i < n) (hx : x < 20000) (hk : wd_k b_kind i = 12) (h0 : 0 < d) (h2 : d ≤ 2) (el : b_left (d - 1) = nI (l + 1)) (hl : l ≤ 8)
    (ha : l = 0 → wY_run_67 post m dn (nI (i + 1)) (nI (x + 1)) (nI n) g_top (nI (d - 1)) b_variable b_memory b_kind b_argument b_sets b_puts b_stack b_begin (upd b_left (d - 1) (nI l)))
    (hb : 0 < l → wY_run_67 post m dn (b_begin (d - 1)) (nI (x + 1)) (nI n) g_top (nI d) b_variable b_memory b_kind b_argument b_sets b_puts b_stack b_begin (upd b_left (d - 1) (nI l))) : wY_run_67 post (m + 1) dn (nI i) (nI x) (nI n) g_top (nI d) b_variable b_memory b_kind b_argument b_sets b_puts b_stack b_begin b_left := by
  have ek := (V.2 i hi).1
  rw [hk] at ek
  refine yr_run hi V.1 hx ek (by omega) (fun z => by omega) (fun _ => ?_) (fun _ z => absurd rfl z)
  exact yr_leave h0 h2 el hl (fun z => nm_r (e' := nI (x + 1)) (nI_1 x) (ha z)) (fun z => nm_r (e' := nI (x + 1)) (nI_1 x) (hb z))
end
theorem yr_nine {r : Int32} (h : 0 < r) : ∃ l, l ≤ 8 ∧ (if r ≤ 9 then r else 9) = nI (l + 1) := by
  by_cases z : r ≤ 9
  · rw [if_pos z]
    obtain ⟨j, hj, e⟩ := nI_of2 (x := r) (M := 9) (n := 9) (by decide) (fun q => absurd (Int32.lt_trans h q) (by decide)) z
    have j0 : j ≠ 0 := by
      intro q
      subst q
      rw [e] at h
      exact absurd h (by decide)
    exact ⟨j - 1, by omega, by rw [e]; exact congrArg nI (by omega)⟩
  · rw [if_neg z]
    exact ⟨8, by omega, rfl⟩
/-! the machine's jumps -/
section
variable {F : cs_T} {nb : Nat} {Post : rn_Q → Prop} {q q1 : rn_Q} {k b' : Nat}
theorem sm_jump (hk : k / 2 < nb) (hc : rn_cy q < 40000) (sf : rn_sf F k q) (e : rn_h F k (nI (k / 2 + 1), q) = (nI b', q1)) (hv : k % 2 = 0 → cs_vd F (k + 1) = false) (hb' : b' ≤ 400) (h : rn_E F nb Post (2 * b') (rn_cyc (rn_cy q + 1) q1)) : rn_E F nb Post k q := by
  obtain ⟨b, z⟩ : ∃ b, k = 2 * b ∨ k = 2 * b + 1 := ⟨k / 2, by omega⟩
  rcases z with z | z
  · subst z
    have eb : 2 * b / 2 = b := by omega
    rw [eb] at e hk
    exact rn_E3 hk hc sf e (hv (by omega)) hb' h
  · subst z
    have eb : (2 * b + 1) / 2 = b := by omega
    rw [eb] at e
    exact rn_E4 hc sf e hb' h
theorem sm_loop {K A : Nat → Int32} {n i d e : Nat} {st : Nat → Int32} (V : wd_V K A n) (hi : i < n) (hn : nb ≤ 399) (hF : cs_fr F = 2 * nb) (hk : wd_k K i = 11) (XF : cs_E (cs_C K A (i + 1)) F) (hE : wd_E K n (i + 1) (wd_N K i) e) (hex : cs_ex F (cs_lp K A i) = nI (cs_fr (cs_C K A (e + 1)) / 2)) (he : cs_fr (cs_C K A (e + 1)) ≤ 2 * nb)
    (hh : wd_H K i = 1) (S : sm_S (cs_C K A i) (fun j => j < 1) q st) (hd : rn_dp q < 2) (tb : rn_cy q + nb ≤ 39000 + cs_fr (cs_C K A i) / 2)
    (h1 : 0 < st 0 → rn_E F nb Post (cs_fr (cs_C K A (i + 1))) (rn_cyc (rn_cy q + (cs_fr (cs_C K A (i + 1)) / 2 - cs_fr (cs_C K A i) / 2)) (rn_lo (st 0) q)))
    (h2 : ¬ 0 < st 0 → rn_E F nb Post (2 * (cs_fr (cs_C K A (e + 1)) / 2)) (rn_cyc (rn_cy q + (cs_fr (cs_C K A (i + 1)) / 2 - cs_fr (cs_C K A i) / 2)) q)) :
    rn_E F nb Post (cs_fr (cs_C K A i)) q := by
  have I := cs_IC V i (by omega)
  rw [hh] at I
  have lf := cs_lpfr (A := A) hk
  have lv := cs_lpv (A := A) hk
  have kf : cs_fr (cs_C K A i) ≤ cs_lp K A i := cs_kfr _ _ _
  have X1 := XF.1
  have XP : cs_E (cs_pl (cs_C K A i) (cs_ss (cs_C K A i) 0) (cs_sv (cs_C K A i) 0) 28 0) F := by
    have a : cs_E (cs_fsl (cs_C K A i) 0 28 0) F := by
      refine cs_Et ?_ XF
      rw [cs_C11 hk, hh]
      unfold cs_rp
      exact (cs_EXt (cs_EXop _ _) (cs_EXnb _)).1
    exact a
  have elp : cs_lp K A i = cs_k (cs_C K A i) (cs_ss (cs_C K A i) 0) 28 := by
    unfold cs_lp
    rw [hh]
  obtain ⟨v1, v2, v3, v4, _⟩ := cs_val XP
  have inv := fun j a b => cs_inv (j := j) I.1 XP a b
  have ob := I.2.2.1.1 0 (by omega)
  have tm : 16 ≤ cs_ss (cs_C K A i) 0 → rn_at q (cs_ss (cs_C K A i) 0 - 16) ≤ rn_cy q + (cs_lp K A i / 2 - cs_fr (cs_C K A i) / 2) := by
    intro z
    have kc := cs_kcon (cs_C K A i) (cs_ss (cs_C K A i) 0) 28
    have c2 := cs_con2 (c := cs_C K A i) (f := cs_ss (cs_C K A i) 0) (t := 28) z
    rw [← elp] at kc
    rcases ob.2 with o | o | o | ⟨u, hu, o1, o2⟩
    · omega
    · omega
    · omega
    · have tm := S.2 u hu (by omega)
      have e16 : cs_ss (cs_C K A i) 0 - 16 = u := by omega
      rw [e16] at c2 ⊢
      omega
  have val := S.1 0 (by omega)
  have nx : cs_lp K A i % 2 = 0 → cs_vd F (cs_lp K A i + 1) = false := by
    intro z
    have a := (XF.2 (cs_lp K A i + 1) (by omega)).1
    have b : cs_vd (cs_C K A (i + 1)) (cs_lp K A i + 1) = cs_vd (cs_C K A i) (cs_lp K A i + 1) := by
      rw [cs_C11 hk]
      unfold cs_rp
      show cs_fu (cs_vd (cs_C K A i)) (cs_lp K A i) true (cs_lp K A i + 1) = _
      exact cs_un (by omega)
    rw [a, b]
    cases y : cs_vd (cs_C K A i) (cs_lp K A i + 1)
    · rfl
    · have := I.1.1 _ y
      omega
  rw [← elp] at v1 v2 v3 v4 inv
  generalize cs_lp K A i = k at *
  have e1 : cs_fr (cs_C K A (i + 1)) / 2 = k / 2 + 1 := by omega
  rw [e1] at h1 h2
  refine rn_skip' hn kf inv (by omega) tb ?_
  have tme : rn_cy q + (k / 2 + 1 - cs_fr (cs_C K A i) / 2) = rn_cy q + (k / 2 - cs_fr (cs_C K A i) / 2) + 1 := by omega
  rw [tme] at h1 h2
  have rdv : rn_rd F k (rn_cyc (rn_cy q + (k / 2 - cs_fr (cs_C K A i) / 2)) q) = st 0 := by
    rw [← val]
    unfold rn_rd rn_vl
    rw [v2, v3]
    rfl
  have cyl : rn_cy (rn_cyc (rn_cy q + (k / 2 - cs_fr (cs_C K A i) / 2)) q) < 40000 := by
    show rn_cy q + (k / 2 - cs_fr (cs_C K A i) / 2) < 40000
    omega
  have sf : rn_sf F k (rn_cyc (rn_cy q + (k / 2 - cs_fr (cs_C K A i) / 2)) q) := by
    intro _
    rw [v2, v4]
    exact ⟨tm, fun _ => hd, fun z => by omega⟩
  by_cases z : 0 < st 0
  · have nz : ¬ st 0 ≤ 0 := Int32.not_le.mpr z
    have H1 := h1 z
    rw [lf, show 2 * (k / 2) + 2 = 2 * (k / 2 + 1) by omega] at H1
    refine sm_jump (b' := k / 2 + 1) (q1 := rn_lo (st 0) (rn_cyc (rn_cy q + (k / 2 - cs_fr (cs_C K A i) / 2)) q)) (by omega) cyl sf ?_ nx (by omega) H1
    unfold rn_h
    rw [if_pos v1, rdv, v4, rn_g28, if_neg nz]
  · have nz : st 0 ≤ 0 := Int32.not_lt.mp z
    refine sm_jump (b' := cs_fr (cs_C K A (e + 1)) / 2) (q1 := rn_cyc (rn_cy q + (k / 2 - cs_fr (cs_C K A i) / 2)) q) (by omega) cyl sf ?_ nx (by omega) (h2 z)
    unfold rn_h
    rw [if_pos v1, rdv, v4, hex, rn_g28, if_pos nz]
theorem sm_back {K A : Nat → Int32} {n i l : Nat} (V : wd_V K A n) (hi : i < n) (hn : nb ≤ 399) (hF : cs_fr F = 2 * nb) (hk : wd_k K i = 12) (XF : cs_E (cs_C K A (i + 1)) F) (hd : 1 ≤ rn_dp q ∧ rn_dp q ≤ 2) (hl : l ≤ 8) (el : rn_lp q (rn_dp q - 1) = nI (l + 1)) (tb : rn_cy q + nb ≤ 39000 + cs_fr (cs_C K A i) / 2) (ho : cs_fr (cs_C K A (wd_o K i (wd_N K i - 1) + 1)) ≤ 2 * nb)
    (h1 : l = 0 → rn_E F nb Post (cs_fr (cs_C K A (i + 1))) (rn_cyc (rn_cy q + (cs_fr (cs_C K A (i + 1)) / 2 - cs_fr (cs_C K A i) / 2)) (rn_ba (rn_dp q - 1) q)))
    (h2 : 0 < l → rn_E F nb Post (2 * (cs_fr (cs_C K A (wd_o K i (wd_N K i - 1) + 1)) / 2)) (rn_cyc (rn_cy q + (cs_fr (cs_C K A (i + 1)) / 2 - cs_fr (cs_C K A i) / 2)) (rn_ba (rn_dp q) q))) :
    rn_E F nb Post (cs_fr (cs_C K A i)) q := by
  have I := cs_IC V i (by omega)
  obtain ⟨b1, b2, b3, b4⟩ := cs_bk (A := A) V hi hk
  have fc : cs_fr (cs_C K A (i + 1)) = 2 * ((cs_fr (cs_C K A i) + 1) / 2) + 2 := by rw [cs_C12 hk, cs_frcl]
  have X1 := XF.1
  have vdn : ∀ j, cs_fr (cs_C K A i) ≤ j → j < cs_fr (cs_C K A (i + 1)) → j ≠ 2 * ((cs_fr (cs_C K A i) + 1) / 2) → cs_vd F j = false := by
    intro j h1 h2 h3
    have a := (XF.2 j h2).1
    have b : cs_vd (cs_C K A (i + 1)) j = cs_vd (cs_C K A i) j := by
      rw [cs_C12 hk]
      unfold cs_cl
      show cs_fu (cs_vd (cs_C K A i)) (cs_k (cs_nb (cs_C K A i)) 15 29) true j = _
      rw [cs_k29]
      exact cs_un h3
    rw [a, b]
    cases y : cs_vd (cs_C K A i) j
    · rfl
    · have := I.1.1 _ y
      omega
  generalize hbk : 2 * ((cs_fr (cs_C K A i) + 1) / 2) = k at *
  have w := XF.2 k (by omega)
  have w2 := w.2 b1
  have v1 := w.1.trans b1
  have v2 := w2.1.trans b2
  have v4 := w2.2.2.1.trans b3
  have v5 := (w2.2.2.2 (by omega)).trans b4
  refine rn_skip' hn (k' := k) (by omega) (fun j h1 h2 => vdn j h1 (by omega) (by omega)) (by omega) tb ?_
  have e1 : cs_fr (cs_C K A (i + 1)) / 2 = k / 2 + 1 := by omega
  rw [e1] at h1 h2
  have tme : rn_cy q + (k / 2 + 1 - cs_fr (cs_C K A i) / 2) = rn_cy q + (k / 2 - cs_fr (cs_C K A i) / 2) + 1 := by omega
  rw [tme] at h1 h2
  have cyl : rn_cy (rn_cyc (rn_cy q + (k / 2 - cs_fr (cs_C K A i) / 2)) q) < 40000 := by
    show rn_cy q + (k / 2 - cs_fr (cs_C K A i) / 2) < 40000
    omega
  have sf : rn_sf F k (rn_cyc (rn_cy q + (k / 2 - cs_fr (cs_C K A i) / 2)) q) := by
    intro _
    rw [v2, v4]
    exact ⟨fun z => by omega, fun z => by omega, fun _ => hd⟩
  have nx : k % 2 = 0 → cs_vd F (k + 1) = false := fun _ => vdn (k + 1) (by omega) (by omega) (by omega)
  have el2 : rn_lp (rn_cyc (rn_cy q + (k / 2 - cs_fr (cs_C K A i) / 2)) q) (rn_dp (rn_cyc (rn_cy q + (k / 2 - cs_fr (cs_C K A i) / 2)) q) - 1) - 1 = nI l := by
    show rn_lp q (rn_dp q - 1) - 1 = nI l
    rw [el, nI_pred]
  by_cases z : l = 0
  · have H1 := h1 z
    rw [fc, show k + 2 = 2 * (k / 2 + 1) by omega] at H1
    refine sm_jump (b' := k / 2 + 1) (q1 := rn_ba (rn_dp q - 1) (rn_cyc (rn_cy q + (k / 2 - cs_fr (cs_C K A i) / 2)) q)) (by omega) cyl sf ?_ nx (by omega) H1
    unfold rn_h
    rw [if_pos v1, v4, rn_g29, el2, if_pos (by subst z; decide)]
    rfl
  · refine sm_jump (b' := cs_fr (cs_C K A (wd_o K i (wd_N K i - 1) + 1)) / 2) (q1 := rn_ba (rn_dp q) (rn_cyc (rn_cy q + (k / 2 - cs_fr (cs_C K A i) / 2)) q)) (by omega) cyl sf ?_ nx (by omega) (h2 (by omega))
    unfold rn_h
    rw [if_pos v1, v4, v5, rn_g29, el2, if_neg (nI_nle (by omega) (by omega))]
    rfl
end
end
section
/-! the component's side of the words -/
section
variable {F : cs_T} {nb : Nat} {Post : rn_Q → Prop} {q : rn_Q} {c : cs_T} {st : Nat → Int32} {h m a kd u dl : Nat}
theorem sm_ld (hn : nb ≤ 399) (hF : cs_fr F = 2 * nb) (I : cs_I c (fun j => j < h) m) (S : sm_S c (fun j => j < h) q st) (X : cs_E (cs_ld c (h - 1)) F) (h1 : 1 ≤ h) (h5 : h ≤ 5) (tb : rn_cy q + nb ≤ 39000 + cs_fr c / 2) :
    ∃ q', sm_F c (cs_ld c (h - 1)) q q' ∧ sm_S (cs_ld c (h - 1)) (fun j => j < h) q' (upd st (h - 1) (rn_ce q (rn_ad (st (h - 1))))) ∧ (∀ Post : rn_Q → Prop, rn_E F nb Post (cs_fr (cs_ld c (h - 1))) q' → rn_E F nb Post (cs_fr c) q) := by
  have X1 : cs_E (if cs_hd c 2 = h - 1 + 1 then c else cs_sp c 2) F := by
    unfold cs_ld at X
    exact cs_Et (cs_EXt (cs_EXfsl _ _ _ _) (cs_EXip _ _ _ _)).1 X
  have A : ∃ q1, sm_F c (if cs_hd c 2 = h - 1 + 1 then c else cs_sp c 2) q q1 ∧ sm_S (if cs_hd c 2 = h - 1 + 1 then c else cs_sp c 2) (fun j => j < h) q1 st ∧ (∀ Post : rn_Q → Prop, rn_E F nb Post (cs_fr (if cs_hd c 2 = h - 1 + 1 then c else cs_sp c 2)) q1 → rn_E F nb Post (cs_fr c) q) ∧ cs_I (if cs_hd c 2 = h - 1 + 1 then c else cs_sp c 2) (fun j => j < h) (m + 3) ∧ (cs_hd (if cs_hd c 2 = h - 1 + 1 then c else cs_sp c 2) 2 = 0 ∨ cs_hd (if cs_hd c 2 = h - 1 + 1 then c else cs_sp c 2) 2 = h - 1 + 1) := by
    by_cases z : cs_hd c 2 = h - 1 + 1
    · rw [if_pos z]
      exact ⟨q, sm_Fr c q, S, fun _ => id, cs_Ile I (by omega), Or.inr z⟩
    · rw [if_neg z] at X1 ⊢
      obtain ⟨q1, a1, a2, a3⟩ := sm_sp hn hF I S X1 (by omega) tb
      have i := cs_Isp I (u := 2) (by omega)
      exact ⟨q1, a1, a2, a3, i.1, Or.inl i.2⟩
  unfold cs_ld at X ⊢
  generalize (if cs_hd c 2 = h - 1 + 1 then c else cs_sp c 2) = c1 at *
  obtain ⟨q1, a1, a2, a3, a4, a5⟩ := A
  have X2 : cs_E (cs_fsl c1 (h - 1) (24 + 2) 0) F := cs_Et (cs_EXip _ _ _ _).1 X
  have z := cs_hdfsl (s := h - 1) (t := 24 + 2) (e := 0) a4.2.2.1 (u := 2) (by omega) a5
  have tb1 : rn_cy q1 + nb ≤ 39000 + cs_fr c1 / 2 := by
    have := a1.1
    omega
  obtain ⟨q2, b1, b2, b3⟩ := sm_tr (x := h - 1) (val := rn_ce q1 (rn_ad (st (h - 1)))) (dl := 2) hn hF a4 a2 X2 (by omega) (by omega) tb1 z (by omega) (fun n => by rw [rn_m26]; rfl)
  rw [a1.2.2.2.2.1] at b2
  exact ⟨q2, sm_Ft a1 b1, sm_Scg b2 (fun j hj => by omega) (fun j _ => rfl), fun Post w => a3 Post (b3 Post w)⟩
theorem sm_cb {val : Int32} (hn : nb ≤ 399) (hF : cs_fr F = 2 * nb) (I : cs_I c (fun j => j < h) m) (S : sm_S c (fun j => j < h) q st) (X : cs_E (cs_cb c kd (h - 2) (h - 1) u dl) F) (h1 : 2 ≤ h) (h5 : h ≤ 5) (hu : u < 2) (tb : rn_cy q + nb ≤ 39000 + cs_fr c / 2)
    (ev : ∀ n (q : rn_Q), rn_op q u = st (h - 2) → rn_mv (24 + u) (nI kd) (st (h - 1)) (rn_cyc n q) = (n, rn_dp q, rn_ef q, rn_rg q, rn_ce q, rn_op q, upd (rn_re q) u val, cs_fu (rn_at q) u (n + dl), rn_lp q, rn_st q, rn_pt q)) :
    ∃ q', sm_F c (cs_cb c kd (h - 2) (h - 1) u dl) q q' ∧ sm_S (cs_cb c kd (h - 2) (h - 1) u dl) (fun j => j < h - 1) q' (upd st (h - 2) val) ∧ (∀ Post : rn_Q → Prop, rn_E F nb Post (cs_fr (cs_cb c kd (h - 2) (h - 1) u dl)) q' → rn_E F nb Post (cs_fr c) q) := by
  have X1 : cs_E (cs_c1 c (h - 2) (h - 1) u) F := by
    unfold cs_cb at X
    exact cs_Et (cs_EXt (cs_EXfsl _ _ _ _) (cs_EXt (cs_EXfsl _ _ _ _) (cs_EXip _ _ _ _))).1 X
  have A : ∃ q1, sm_F c (cs_c1 c (h - 2) (h - 1) u) q q1 ∧ sm_S (cs_c1 c (h - 2) (h - 1) u) (fun j => j < h) q1 st ∧ (∀ Post : rn_Q → Prop, rn_E F nb Post (cs_fr (cs_c1 c (h - 2) (h - 1) u)) q1 → rn_E F nb Post (cs_fr c) q) ∧ cs_I (cs_c1 c (h - 2) (h - 1) u) (fun j => j < h) (m + 3) ∧ (cs_hd (cs_c1 c (h - 2) (h - 1) u) u = 0 ∨ cs_hd (cs_c1 c (h - 2) (h - 1) u) u = h - 2 + 1 ∨ cs_hd (cs_c1 c (h - 2) (h - 1) u) u = h - 1 + 1) := by
    unfold cs_c1 at X1 ⊢
    by_cases z : cs_hd c u = h - 2 + 1 ∨ cs_hd c u = h - 1 + 1
    · rw [if_pos z]
      exact ⟨q, sm_Fr c q, S, fun _ => id, cs_Ile I (by omega), Or.inr z⟩
    · rw [if_neg z] at X1 ⊢
      obtain ⟨q1, a1, a2, a3⟩ := sm_sp hn hF I S X1 (by omega) tb
      have i := cs_Isp I (u := u) (by omega)
      exact ⟨q1, a1, a2, a3, i.1, Or.inl i.2⟩
  unfold cs_cb at X ⊢
  generalize cs_c1 c (h - 2) (h - 1) u = c1 at *
  obtain ⟨q1, a1, a2, a3, a4, a5⟩ := A
  have X2 : cs_E (cs_fsl c1 (h - 2) (20 + u) 0) F := cs_Et (cs_EXt (cs_EXfsl _ _ _ _) (cs_EXip _ _ _ _)).1 X
  have tb1 : rn_cy q1 + nb ≤ 39000 + cs_fr c1 / 2 := by
    have := a1.1
    omega
  obtain ⟨q2, b1, b2, b3, b4, b5⟩ := sm_op (u := u) (s := h - 2) (e := 0) hn hF a4 a2 X2 (by omega) (by omega) tb1
  have I2 := cs_Ifsl (s := h - 2) (t := 20 + u) (e := 0) a4 (by omega) (by omega) (fun _ _ => by decide)
  have D : cs_hd (cs_fsl c1 (h - 2) (20 + u) 0) u = 0 ∨ cs_hd (cs_fsl c1 (h - 2) (20 + u) 0) u = h - 1 + 1 := by
    rcases a5 with a | a | a
    · exact Or.inl (cs_hdfsl a4.2.2.1 (by omega) (Or.inl a))
    · exact Or.inl (cs_hdfsl a4.2.2.1 (by omega) (Or.inr a))
    · show (if 16 ≤ cs_ss c1 (h - 2) then cs_fu (cs_hd c1) (cs_ss c1 (h - 2) - 16) 0 else cs_hd c1) u = 0 ∨ (if 16 ≤ cs_ss c1 (h - 2) then cs_fu (cs_hd c1) (cs_ss c1 (h - 2) - 16) 0 else cs_hd c1) u = h - 1 + 1
      split
      · by_cases z : u = cs_ss c1 (h - 2) - 16
        · rw [z, cs_us]; exact Or.inl rfl
        · rw [cs_un z]; exact Or.inr a
      · exact Or.inr a
  generalize cs_fsl c1 (h - 2) (20 + u) 0 = c2 at *
  have X3 : cs_E (cs_fsl c2 (h - 1) (24 + u) (nI kd)) F := cs_Et (cs_EXip _ _ _ _).1 X
  have z := cs_hdfsl (s := h - 1) (t := 24 + u) (e := nI kd) I2.2.2.1 (u := u) (by omega) D
  have tb2 : rn_cy q2 + nb ≤ 39000 + cs_fr c2 / 2 := by
    have := b1.1
    omega
  obtain ⟨q3, d1, d2, d3⟩ := sm_tr (x := h - 2) (val := val) (dl := dl) (e := nI kd) hn hF I2 b2 X3 ⟨by omega, by omega⟩ (by omega) tb2 z (by omega) (fun n => ev n q2 b3)
  exact ⟨q3, sm_Ft a1 (sm_Ft b1 d1), sm_Scg d2 (fun j hj => by omega) (fun j _ => rfl), fun Post w => a3 Post (b5 Post (d3 Post w))⟩
theorem sm_set (hn : nb ≤ 399) (hF : cs_fr F = 2 * nb) (I : cs_I c (fun j => j < 1) m) (S : sm_S c (fun j => j < 1) q st) (X : cs_E (cs_fsl c 0 a 0) F) (ha : a < 6) (tb : rn_cy q + nb ≤ 39000 + cs_fr c / 2)
    (h : rn_E F nb Post (cs_fr (cs_fsl c 0 a 0)) (rn_cy q + (cs_fr (cs_fsl c 0 a 0) / 2 - cs_fr c / 2), rn_dp q, rn_ef q + 1, upd (rn_rg q) a (st 0), rn_ce q, rn_op q, rn_re q, rn_at q, rn_lp q, upd (rn_st q) a (rn_st q a + 1), rn_pt q)) : rn_E F nb Post (cs_fr c) q := by
  have A := sm_fsl (Post := Post) (s := 0) (e := 0) hn hF I S X (by omega) (by omega) tb
  rw [rn_m1 ha] at A
  exact A h
theorem sm_put (hn : nb ≤ 399) (hF : cs_fr F = 2 * nb) (I : cs_I c (fun j => j < 2) m) (S : sm_S c (fun j => j < 2) q st) (X : cs_E (cs_fsl (cs_fsl c 0 23 0) 1 27 0) F) (tb : rn_cy q + nb ≤ 39000 + cs_fr c / 2) :
    ∃ op : Nat → Int32, (∀ Post : rn_Q → Prop, rn_E F nb Post (cs_fr (cs_fsl (cs_fsl c 0 23 0) 1 27 0)) (rn_cy q + (cs_fr (cs_fsl (cs_fsl c 0 23 0) 1 27 0) / 2 - cs_fr c / 2), rn_dp q, rn_ef q + 1, rn_rg q, upd (rn_ce q) (rn_ad (st 1)) (st 0), op, rn_re q, rn_at q, rn_lp q, rn_st q, upd (rn_pt q) (rn_ad (st 1)) (rn_pt q (rn_ad (st 1)) + 1)) → rn_E F nb Post (cs_fr c) q) := by
  have X1 : cs_E (cs_fsl c 0 (20 + 3) 0) F := cs_Et (cs_EXfsl _ _ _ _).1 X
  have kf1 := (cs_EXfsl c 0 (20 + 3) 0).1.1
  have kf2 := (cs_EXfsl (cs_fsl c 0 (20 + 3) 0) 1 27 0).1.1
  have A := fun Post : rn_Q → Prop => sm_fsl (Post := Post) (s := 0) (t := 20 + 3) (e := 0) hn hF I S X1 (by omega) (by omega) tb
  rw [rn_m3 (t := 20 + 3) (by omega) (by omega)] at A
  have I2 := cs_Ifsl (s := 0) (t := 20 + 3) (e := 0) I (by omega) (by omega) (fun _ _ => by decide)
  have S2 : sm_S (cs_fsl c 0 (20 + 3) 0) (fun j => j < 2 ∧ j ≠ 0) (rn_cy q + (cs_fr (cs_fsl c 0 (20 + 3) 0) / 2 - cs_fr c / 2), rn_dp q, rn_ef q, rn_rg q, rn_ce q, upd (rn_op q) 3 (st 0), rn_re q, rn_at q, rn_lp q, rn_st q, rn_pt q) st := by
    refine ⟨fun j hj => S.1 j hj.1, ?_⟩
    exact sm_tm S kf1
  have X2 : cs_E (cs_fsl (cs_fsl c 0 (20 + 3) 0) 1 27 0) F := X
  show ∃ op : Nat → Int32, (∀ Post : rn_Q → Prop, rn_E F nb Post (cs_fr (cs_fsl (cs_fsl c 0 (20 + 3) 0) 1 27 0)) (rn_cy q + (cs_fr (cs_fsl (cs_fsl c 0 (20 + 3) 0) 1 27 0) / 2 - cs_fr c / 2), rn_dp q, rn_ef q + 1, rn_rg q, upd (rn_ce q) (rn_ad (st 1)) (st 0), op, rn_re q, rn_at q, rn_lp q, rn_st q, upd (rn_pt q) (rn_ad (st 1)) (rn_pt q (rn_ad (st 1)) + 1)) → rn_E F nb Post (cs_fr c) q)
  generalize cs_fsl c 0 (20 + 3) 0 = c2 at *
  have B := fun Post : rn_Q → Prop => sm_fsl (Post := Post) (s := 1) (t := 27) (e := 0) hn hF I2 S2 X2 ⟨by omega, by omega⟩ (by omega) (by
    show rn_cy q + (cs_fr c2 / 2 - cs_fr c / 2) + nb ≤ 39000 + cs_fr c2 / 2
    omega)
  rw [rn_m27] at B
  refine ⟨upd (rn_op q) 3 (st 0), fun Post w => A Post (B Post ?_)⟩
  have e1 : rn_cy q + (cs_fr (cs_fsl c2 1 27 0) / 2 - cs_fr c / 2) = rn_cy q + (cs_fr c2 / 2 - cs_fr c / 2) + (cs_fr (cs_fsl c2 1 27 0) / 2 - cs_fr c2 / 2) := by omega
  rw [e1] at w
  exact w
end
/-! how much there is still to do -/
def sm_p (n i d : Nat) (s e l : Nat → Nat) : Nat :=
  if d = 0 then 81 * (n - i) else if d = 1 then 9 * (e 0 - i) + l 0 * (9 * (e 0 - s 0)) + 81 * (n - e 0) else (e 1 - i) + l 1 * (e 1 - s 1) + 9 * (e 0 - e 1) + l 0 * (9 * (e 0 - s 0)) + 81 * (n - e 0)
theorem sm_pe0 (n i : Nat) (s e l : Nat → Nat) : sm_p n i 0 s e l = 81 * (n - i) := rfl
theorem sm_pe1 (n i : Nat) (s e l : Nat → Nat) : sm_p n i 1 s e l = 9 * (e 0 - i) + l 0 * (9 * (e 0 - s 0)) + 81 * (n - e 0) := rfl
theorem sm_pe2 (n i : Nat) (s e l : Nat → Nat) : sm_p n i 2 s e l = (e 1 - i) + l 1 * (e 1 - s 1) + 9 * (e 0 - e 1) + l 0 * (9 * (e 0 - s 0)) + 81 * (n - e 0) := rfl
theorem sm_p1 {n i i' d : Nat} {s e l : Nat → Nat} (hd : d ≤ 2) (h : i ≤ i') (h0 : d = 0 → i' ≤ n) (h1 : 0 < d → i' ≤ e (d - 1)) : sm_p n i' d s e l + (i' - i) ≤ sm_p n i d s e l := by
  have c : d = 0 ∨ d = 1 ∨ d = 2 := by omega
  rcases c with c | c | c <;> subst c
  · rw [sm_pe0, sm_pe0]
    have := h0 rfl
    omega
  · rw [sm_pe1, sm_pe1]
    have h1' : i' ≤ e 0 := h1 (by omega)
    omega
  · rw [sm_pe2, sm_pe2]
    have h1' : i' ≤ e 1 := h1 (by omega)
    omega
theorem sm_p2 {n i d : Nat} {s e l s' e' l' : Nat → Nat} (hd : d < 2) (hl : l' d ≤ 8) (hi : i < s' d) (hse : s' d ≤ e' d) (h0 : d = 0 → e' 0 ≤ n) (h1 : d = 1 → e' 1 ≤ e 0 ∧ s' 0 = s 0 ∧ e' 0 = e 0 ∧ l' 0 = l 0) : sm_p n (s' d) (d + 1) s' e' l' + (s' d - i) ≤ sm_p n i d s e l := by
  have c : d = 0 ∨ d = 1 := by omega
  rcases c with c | c <;> subst c
  · rw [sm_pe0, show 0 + 1 = 1 from rfl, sm_pe1]
    have := h0 rfl
    have : l' 0 * (9 * (e' 0 - s' 0)) ≤ 8 * (9 * (e' 0 - s' 0)) := Nat.mul_le_mul_right _ hl
    omega
  · rw [sm_pe1, show 1 + 1 = 2 from rfl, sm_pe2]
    obtain ⟨a, b, c, f⟩ := h1 rfl
    rw [b, c, f]
    have : l' 1 * (e' 1 - s' 1) ≤ 8 * (e' 1 - s' 1) := Nat.mul_le_mul_right _ hl
    omega
theorem sm_p4 {n i d m : Nat} {s e l l' : Nat → Nat} (h0 : 0 < d) (hd : d ≤ 2) (hl : l (d - 1) = m + 1) (hl' : l' (d - 1) = m) (hl2 : d = 2 → l' 0 = l 0) : sm_p n (s (d - 1)) d s e l' + (e (d - 1) - i) ≤ sm_p n i d s e l := by
  have c : d = 1 ∨ d = 2 := by omega
  rcases c with c | c <;> subst c
  · rw [sm_pe1, sm_pe1]
    have a : l 0 = m + 1 := hl
    have b : l' 0 = m := hl'
    have e2 : (m + 1) * (9 * (e 0 - s 0)) = m * (9 * (e 0 - s 0)) + 9 * (e 0 - s 0) := Nat.succ_mul _ _
    rw [a, b, e2]
    show 9 * (e 0 - s 0) + _ + _ + (e 0 - i) ≤ _
    omega
  · rw [sm_pe2, sm_pe2]
    have a : l 1 = m + 1 := hl
    have b : l' 1 = m := hl'
    have e2 : (m + 1) * (e 1 - s 1) = m * (e 1 - s 1) + (e 1 - s 1) := Nat.succ_mul _ _
    rw [a, b, e2, hl2 rfl]
    show (e 1 - s 1) + _ + _ + _ + _ + (e 1 - i) ≤ _
    omega
theorem sm_p5 {n i d : Nat} {s e l : Nat → Nat} (h0 : 0 < d) (hd : d ≤ 2) (hl : l (d - 1) = 0) : sm_p n (e (d - 1)) (d - 1) s e l + (e (d - 1) - i) ≤ sm_p n i d s e l := by
  have c : d = 1 ∨ d = 2 := by omega
  rcases c with c | c <;> subst c
  · rw [sm_pe1]
    show 81 * (n - e 0) + (e 0 - i) ≤ _
    omega
  · rw [sm_pe2, show 2 - 1 = 1 from rfl, sm_pe1]
    omega
theorem sm_pc {n i d : Nat} {s e l s' e' l' : Nat → Nat} (hd : d ≤ 2) (h : ∀ j, j < d → s' j = s j ∧ e' j = e j ∧ l' j = l j) : sm_p n i d s' e' l' = sm_p n i d s e l := by
  have c : d = 0 ∨ d = 1 ∨ d = 2 := by omega
  rcases c with c | c | c <;> subst c
  · rfl
  · have a := h 0 (by omega)
    rw [sm_pe1, sm_pe1, a.1, a.2.1, a.2.2]
  · have a := h 0 (by omega)
    have b := h 1 (by omega)
    rw [sm_pe2, sm_pe2, a.1, a.2.1, a.2.2, b.1, b.2.1, b.2.2]
theorem sm_pge {n i d : Nat} {s e l : Nat → Nat} (hd : d ≤ 2) : n - i ≤ sm_p n i d s e l := by
  have c : d = 0 ∨ d = 1 ∨ d = 2 := by omega
  rcases c with c | c | c <;> subst c
  · rw [sm_pe0]; omega
  · rw [sm_pe1]; omega
  · rw [sm_pe2]; omega
end
section
/-! the open repeats while both run -/
def sm_L (K A : Nat → Int32) (n nb i : Nat) (q : rn_Q) (beg lft : Nat → Int32) (l e : Nat → Nat) : Prop :=
  rn_dp q = wd_N K i ∧
  (∀ d, d < wd_N K i → rn_lp q d = nI (l d + 1) ∧ lft d = nI (l d + 1) ∧ l d ≤ 8 ∧ beg d = nI (wd_o K i d + 1) ∧ wd_E K n i d (e d)) ∧
  rn_cy q + sm_p nb (cs_fr (cs_C K A i) / 2) (wd_N K i) (fun d => cs_fr (cs_C K A (wd_o K i d + 1)) / 2) (fun d => cs_fr (cs_C K A (e d + 1)) / 2) l ≤ 81 * nb
def sm_y (K : Nat → Int32) (n i : Nat) (l e : Nat → Nat) : Nat := sm_p n i (wd_N K i) (fun d => wd_o K i d + 1) (fun d => e d + 1) l
theorem sm_oN {K : Nat → Int32} {i j : Nat} (h : ¬ (wd_k K i = 11 ∧ j = wd_N K i)) : wd_o K (i + 1) j = wd_o K i j := if_neg h
theorem sm_oS {K : Nat → Int32} {i j : Nat} : ∀ m, (∀ x, i ≤ x → x < i + m → j < wd_N K x) → wd_o K (i + m) j = wd_o K i j := by
  intro m
  induction m with
  | zero => intro _; rfl
  | succ m ih =>
    intro h
    have := h (i + m) (by omega) (by omega)
    rw [show i + (m + 1) = i + m + 1 by omega, sm_oN (by omega)]
    exact ih (fun x h1 h2 => h x h1 (by omega))
section
variable {K A : Nat → Int32} {n nb i e0 l0 : Nat} {q q' : rn_Q} {beg lft : Nat → Int32} {l e : Nat → Nat}
theorem sm_fm (V : wd_V K A n) {i j : Nat} (h : i ≤ j) (hj : j ≤ n) : cs_fr (cs_C K A i) ≤ cs_fr (cs_C K A j) := (cs_EC V h hj).1
/-- a word that is no jump -/
theorem sm_Ls (V : wd_V K A n) (hN : cs_fr (cs_C K A n) ≤ 2 * nb) (hi : i < n) (h1 : wd_k K i ≠ 11) (h2 : wd_k K i ≠ 12) (L : sm_L K A n nb i q beg lft l e) (hc : rn_cy q' + cs_fr (cs_C K A i) / 2 = rn_cy q + cs_fr (cs_C K A (i + 1)) / 2) (hd : rn_dp q' = rn_dp q) (hl : rn_lp q' = rn_lp q) :
    sm_L K A n nb (i + 1) q' beg lft l e ∧ sm_y K n (i + 1) l e + 1 ≤ sm_y K n i l e := by
  obtain ⟨L1, L2, L3⟩ := L
  have st := wd_Nst V hi
  have eN : wd_N K (i + 1) = wd_N K i := by omega
  have hb := wd_bnd V i (by omega)
  have eo : wd_o K (i + 1) = wd_o K i := by
    funext j
    exact sm_oN (fun z => h1 z.1)
  have mo := sm_fm V (i := i) (j := i + 1) (by omega) (by omega)
  have mn := sm_fm V (i := i + 1) (j := n) (by omega) (by omega)
  unfold sm_L sm_y
  rw [eN, eo, hd, hl]
  refine ⟨⟨L1, fun d hd => ?_, ?_⟩, ?_⟩
  · obtain ⟨a, b, c, f, g⟩ := L2 d hd
    exact ⟨a, b, c, f, wd_Es g (by omega)⟩
  · have P := sm_p1 (n := nb) (i := cs_fr (cs_C K A i) / 2) (i' := cs_fr (cs_C K A (i + 1)) / 2) (d := wd_N K i) (s := fun d => cs_fr (cs_C K A (wd_o K i d + 1)) / 2) (e := fun d => cs_fr (cs_C K A (e d + 1)) / 2) (l := l) hb.2 (by omega) (fun _ => by omega) (fun z => by
      have g := (L2 (wd_N K i - 1) (by omega)).2.2.2.2
      have g1 := (wd_Es g (by omega)).1
      have m := sm_fm V (i := i + 1) (j := e (wd_N K i - 1) + 1) (by omega) (by have := g.2.1; omega)
      show _ ≤ cs_fr (cs_C K A (e (wd_N K i - 1) + 1)) / 2
      omega)
    omega
  · have P := sm_p1 (n := n) (i := i) (i' := i + 1) (d := wd_N K i) (s := fun d => wd_o K i d + 1) (e := fun d => e d + 1) (l := l) hb.2 (by omega) (fun _ => by omega) (fun z => by
      have g := (L2 (wd_N K i - 1) (by omega)).2.2.2.2
      have g1 := (wd_Es g (by omega)).1
      show i + 1 ≤ e (wd_N K i - 1) + 1
      omega)
    omega
/-- a repeat is entered -/
theorem sm_Le (V : wd_V K A n) (hN : cs_fr (cs_C K A n) ≤ 2 * nb) (hi : i < n) (h1 : wd_k K i = 11) (h2 : wd_N K i < 2) (hl0 : l0 ≤ 8) (hE : wd_E K n (i + 1) (wd_N K i) e0) (L : sm_L K A n nb i q beg lft l e) (hc : rn_cy q' + cs_fr (cs_C K A i) / 2 = rn_cy q + cs_fr (cs_C K A (i + 1)) / 2) (hd : rn_dp q' = rn_dp q + 1) (hl : rn_lp q' = upd (rn_lp q) (rn_dp q) (nI (l0 + 1))) :
    sm_L K A n nb (i + 1) q' (upd beg (wd_N K i) (nI (i + 1))) (upd lft (wd_N K i) (nI (l0 + 1))) (cs_fu l (wd_N K i) l0) (cs_fu e (wd_N K i) e0) ∧ sm_y K n (i + 1) (cs_fu l (wd_N K i) l0) (cs_fu e (wd_N K i) e0) + 1 ≤ sm_y K n i l e := by
  obtain ⟨L1, L2, L3⟩ := L
  have st := wd_Nst V hi
  have eN : wd_N K (i + 1) = wd_N K i + 1 := by omega
  have mo := sm_fm V (i := i) (j := i + 1) (by omega) (by omega)
  have mn := sm_fm V (i := i + 1) (j := n) (by omega) (by omega)
  have on : wd_o K (i + 1) (wd_N K i) = i := if_pos ⟨h1, rfl⟩
  have oo : ∀ j, j < wd_N K i → wd_o K (i + 1) j = wd_o K i j := fun j hj => sm_oN (by omega)
  have lf := cs_lpfr (A := A) h1
  have kf : cs_fr (cs_C K A i) ≤ cs_lp K A i := cs_kfr _ _ _
  have E1 := hE.1
  have E2 := hE.2.1
  have me := sm_fm V (i := i + 1) (j := e0 + 1) (by omega) (by omega)
  have men := sm_fm V (i := e0 + 1) (j := n) (by omega) (by omega)
  have nest : wd_N K i = 1 → e0 < e 0 := by
    intro z
    have g := (L2 0 (by omega)).2.2.2.2
    have g4 := g.2.2.2.1
    have g1 := (wd_Es g (by omega)).1
    rcases Nat.lt_trichotomy e0 (e 0) with w | w | w
    · exact w
    · have := hE.2.2.2.1
      rw [w] at this
      omega
    · have := hE.2.2.2.2 (e 0 + 1) (by omega) (by omega)
      omega
  have gen : ∀ (N : Nat) (f g : Nat → Nat) (b : Nat), (∀ j, j < wd_N K i → g (wd_o K (i + 1) j) = g (wd_o K i j)) → b < g i → g i ≤ f e0 → f e0 ≤ N → (wd_N K i = 1 → f e0 ≤ f (e 0)) → sm_p N (g i) (wd_N K i + 1) (fun d => g (wd_o K (i + 1) d)) (fun d => f (cs_fu e (wd_N K i) e0 d)) (cs_fu l (wd_N K i) l0) + (g i - b) ≤ sm_p N b (wd_N K i) (fun d => g (wd_o K i d)) (fun d => f (e d)) l := by
    intro N f g b q1 q2 q3 q4 q5
    have P := sm_p2 (n := N) (i := b) (d := wd_N K i) (s := fun d => g (wd_o K i d)) (e := fun d => f (e d)) (l := l) (s' := fun d => g (wd_o K (i + 1) d)) (e' := fun d => f (cs_fu e (wd_N K i) e0 d)) (l' := cs_fu l (wd_N K i) l0) h2 (by rw [cs_us]; exact hl0)
    rw [on, cs_us] at P
    refine P q2 q3 (fun z => ?_) (fun z => ?_)
    · rw [z, cs_us]; exact q4
    · have n0 : 0 ≠ wd_N K i := by omega
      refine ⟨?_, q1 0 (by omega), ?_, cs_un n0⟩
      · rw [z, cs_us]; exact q5 z
      · rw [cs_un n0]
  unfold sm_L sm_y
  rw [eN, hd, hl, L1]
  refine ⟨⟨rfl, fun d hd => ?_, ?_⟩, ?_⟩
  · by_cases z : d = wd_N K i
    · subst z
      rw [pk_us, pk_us, pk_us, cs_us, cs_us, on]
      exact ⟨rfl, rfl, hl0, rfl, hE⟩
    · obtain ⟨a, b, c, f, g⟩ := L2 d (by omega)
      rw [pk_un z, pk_un z, pk_un z, cs_un z, cs_un z, oo d (by omega)]
      exact ⟨a, b, c, f, wd_Es g (by omega)⟩
  · have P := gen nb (fun x => cs_fr (cs_C K A (x + 1)) / 2) (fun x => cs_fr (cs_C K A (x + 1)) / 2) (cs_fr (cs_C K A i) / 2) (fun j hj => by rw [oo j hj]) (by
      show _ < cs_fr (cs_C K A (i + 1)) / 2
      omega) (by
      show cs_fr (cs_C K A (i + 1)) / 2 ≤ cs_fr (cs_C K A (e0 + 1)) / 2
      omega) (by
      show cs_fr (cs_C K A (e0 + 1)) / 2 ≤ nb
      omega) (fun z => by
      have w := nest z
      have g := (L2 0 (by omega)).2.2.2.2
      have := sm_fm V (i := e0 + 1) (j := e 0 + 1) (by omega) (by have := g.2.1; omega)
      show cs_fr (cs_C K A (e0 + 1)) / 2 ≤ cs_fr (cs_C K A (e 0 + 1)) / 2
      omega)
    omega
  · have P := gen n (fun x => x + 1) (fun x => x + 1) i (fun j hj => by rw [oo j hj]) (by omega) (by omega) (by omega) (fun z => by have := nest z; omega)
    omega
/-- a repeat is passed over -/
theorem sm_Lk (V : wd_V K A n) (hN : cs_fr (cs_C K A n) ≤ 2 * nb) (hi : i < n) (h1 : wd_k K i = 11) (hE : wd_E K n (i + 1) (wd_N K i) e0) (L : sm_L K A n nb i q beg lft l e) (hc : rn_cy q' + cs_fr (cs_C K A i) / 2 = rn_cy q + cs_fr (cs_C K A (i + 1)) / 2) (hd : rn_dp q' = rn_dp q) (hl : rn_lp q' = rn_lp q) :
    sm_L K A n nb (e0 + 1) q' beg lft l e ∧ sm_y K n (e0 + 1) l e + 1 ≤ sm_y K n i l e := by
  obtain ⟨L1, L2, L3⟩ := L
  obtain ⟨E1, E2, E3, E4, E5⟩ := hE
  have hb := wd_bnd V i (by omega)
  have ge : ∀ x, i ≤ x → x ≤ e0 + 1 → wd_N K i ≤ wd_N K x := by
    intro x h1 h2
    rcases Nat.lt_or_ge i x with z | z
    · rcases Nat.lt_or_ge x (e0 + 1) with y | y
      · have := E5 x (by omega) (by omega)
        omega
      · have : x = e0 + 1 := by omega
        subst this
        omega
    · have : x = i := by omega
      subst this
      omega
  have oo : ∀ j, j < wd_N K i → wd_o K (e0 + 1) j = wd_o K i j := by
    intro j hj
    have := sm_oS (K := K) (i := i) (j := j) (e0 + 1 - i) (fun x h1 h2 => by have := ge x h1 (by omega); omega)
    rw [show i + (e0 + 1 - i) = e0 + 1 by omega] at this
    exact this
  have ee : ∀ j, j < wd_N K i → e0 < e j ∧ wd_E K n (e0 + 1) j (e j) := by
    intro j hj
    obtain ⟨g1, g2, g3, g4, g5⟩ := (L2 j hj).2.2.2.2
    have lt : e0 < e j := by
      rcases Nat.lt_or_ge e0 (e j) with w | w
      · exact w
      · have := ge (e j + 1) (by omega) (by omega)
        omega
    exact ⟨lt, by omega, g2, g3, g4, fun m h1 h2 => g5 m (by omega) h2⟩
  have m1 := sm_fm V (i := i) (j := i + 1) (by omega) (by omega)
  have m2 := sm_fm V (i := i + 1) (j := e0 + 1) (by omega) (by omega)
  have m3 := sm_fm V (i := e0 + 1) (j := n) (by omega) (by omega)
  unfold sm_L sm_y
  rw [E4, hd, hl]
  refine ⟨⟨L1, fun d hd => ?_, ?_⟩, ?_⟩
  · obtain ⟨a, b, c, f, g⟩ := L2 d hd
    rw [oo d hd]
    exact ⟨a, b, c, f, (ee d hd).2⟩
  · have C := sm_pc (n := nb) (i := cs_fr (cs_C K A (e0 + 1)) / 2) (d := wd_N K i) (s := fun d => cs_fr (cs_C K A (wd_o K i d + 1)) / 2) (e := fun d => cs_fr (cs_C K A (e d + 1)) / 2) (l := l) (s' := fun d => cs_fr (cs_C K A (wd_o K (e0 + 1) d + 1)) / 2) (e' := fun d => cs_fr (cs_C K A (e d + 1)) / 2) (l' := l) hb.2 (fun j hj => ⟨by rw [oo j hj], rfl, rfl⟩)
    have P := sm_p1 (n := nb) (i := cs_fr (cs_C K A i) / 2) (i' := cs_fr (cs_C K A (e0 + 1)) / 2) (d := wd_N K i) (s := fun d => cs_fr (cs_C K A (wd_o K i d + 1)) / 2) (e := fun d => cs_fr (cs_C K A (e d + 1)) / 2) (l := l) hb.2 (by omega) (fun _ => by omega) (fun z => by
      have g := ee (wd_N K i - 1) (by omega)
      have g2 := g.2.2.1
      have m := sm_fm V (i := e0 + 1) (j := e (wd_N K i - 1) + 1) (by omega) (by omega)
      show _ ≤ cs_fr (cs_C K A (e (wd_N K i - 1) + 1)) / 2
      omega)
    rw [C]
    omega
  · have C := sm_pc (n := n) (i := e0 + 1) (d := wd_N K i) (s := fun d => wd_o K i d + 1) (e := fun d => e d + 1) (l := l) (s' := fun d => wd_o K (e0 + 1) d + 1) (e' := fun d => e d + 1) (l' := l) hb.2 (fun j hj => ⟨by rw [oo j hj], rfl, rfl⟩)
    have P := sm_p1 (n := n) (i := i) (i' := e0 + 1) (d := wd_N K i) (s := fun d => wd_o K i d + 1) (e := fun d => e d + 1) (l := l) hb.2 (by omega) (fun _ => by omega) (fun z => by
      have g := ee (wd_N K i - 1) (by omega)
      show e0 + 1 ≤ e (wd_N K i - 1) + 1
      omega)
    rw [C]
    omega
theorem sm_Ee (hk : wd_k K i = 12) (hN : wd_N K (i + 1) + 1 = wd_N K i) (g : wd_E K n i (wd_N K i - 1) e0) : e0 = i := by
  obtain ⟨g1, g2, g3, g4, g5⟩ := g
  rcases Nat.lt_or_ge i e0 with z | z
  · have := g5 (i + 1) (by omega) (by omega)
    omega
  · omega
/-- the end goes back -/
theorem sm_Lb {m : Nat} (V : wd_V K A n) (hN : cs_fr (cs_C K A n) ≤ 2 * nb) (hi : i < n) (h1 : wd_k K i = 12) (L : sm_L K A n nb i q beg lft l e) (hm : l (wd_N K i - 1) = m + 1) (hc : rn_cy q' + cs_fr (cs_C K A i) / 2 = rn_cy q + cs_fr (cs_C K A (i + 1)) / 2) (hd : rn_dp q' = rn_dp q) (hl : rn_lp q' = upd (rn_lp q) (wd_N K i - 1) (nI (m + 1))) :
    sm_L K A n nb (wd_o K i (wd_N K i - 1) + 1) q' beg (upd lft (wd_N K i - 1) (nI (m + 1))) (cs_fu l (wd_N K i - 1) m) e ∧ sm_y K n (wd_o K i (wd_N K i - 1) + 1) (cs_fu l (wd_N K i - 1) m) e + 1 ≤ sm_y K n i l e := by
  obtain ⟨L1, L2, L3⟩ := L
  have st := wd_Nst V hi
  have hb := wd_bnd V i (by omega)
  have st2 : 0 < wd_N K i ∧ wd_N K (i + 1) + 1 = wd_N K i := by omega
  have g := L2 (wd_N K i - 1) (by omega)
  have ei := sm_Ee h1 st2.2 g.2.2.2.2
  have lm := g.2.2.1
  obtain ⟨o1, o2, o3, o4⟩ := wd_oS V i (by omega) (wd_N K i - 1) (by omega)
  have oe : ∀ j, j < wd_N K i - 1 → wd_o K i j = wd_o K (wd_o K i (wd_N K i - 1)) j := by
    intro j hj
    have := sm_oS (K := K) (i := wd_o K i (wd_N K i - 1)) (j := j) (i - wd_o K i (wd_N K i - 1)) (fun x h1 h2 => by
      rcases Nat.lt_or_ge (wd_o K i (wd_N K i - 1)) x with z | z
      · have := o4 x z (by omega)
        omega
      · have : x = wd_o K i (wd_N K i - 1) := by omega
        rw [this, o3]
        exact hj)
    rw [show wd_o K i (wd_N K i - 1) + (i - wd_o K i (wd_N K i - 1)) = i by omega] at this
    exact this
  have m1 := sm_fm V (i := i) (j := i + 1) (by omega) (by omega)
  generalize ho : wd_o K i (wd_N K i - 1) = o at *
  have oN : wd_N K (o + 1) = wd_N K i := by
    have := wd_Nst V (i := o) (by omega)
    omega
  have oo : ∀ j, j < wd_N K i → wd_o K (o + 1) j = wd_o K i j := by
    intro j hj
    by_cases z : j = wd_N K i - 1
    · rw [z, ho]
      exact if_pos ⟨o2, o3.symm⟩
    · rw [oe j (by omega)]
      exact sm_oN (by omega)
  have ee : ∀ j, j < wd_N K i → wd_E K n (o + 1) j (e j) := by
    intro j hj
    obtain ⟨g1, g2, g3, g4, g5⟩ := (L2 j hj).2.2.2.2
    refine ⟨by omega, g2, g3, g4, fun x h1 h2 => ?_⟩
    rcases Nat.lt_or_ge x i with z | z
    · have := o4 x (by omega) (by omega)
      omega
    · exact g5 x z h2
  generalize hD : wd_N K i - 1 = D at *
  unfold sm_L sm_y
  rw [oN, hd, hl]
  refine ⟨⟨L1, fun d hd => ?_, ?_⟩, ?_⟩
  · obtain ⟨a, b, c, f, _⟩ := L2 d hd
    rw [oo d hd]
    by_cases z : d = D
    · subst z
      rw [pk_us, pk_us, cs_us]
      exact ⟨rfl, rfl, by omega, f, ee _ hd⟩
    · rw [pk_un z, pk_un z, cs_un z]
      exact ⟨a, b, c, f, ee _ hd⟩
  · have C := sm_pc (n := nb) (i := cs_fr (cs_C K A (o + 1)) / 2) (d := wd_N K i) (s := fun d => cs_fr (cs_C K A (wd_o K i d + 1)) / 2) (e := fun d => cs_fr (cs_C K A (e d + 1)) / 2) (l := cs_fu l D m) (s' := fun d => cs_fr (cs_C K A (wd_o K (o + 1) d + 1)) / 2) (e' := fun d => cs_fr (cs_C K A (e d + 1)) / 2) (l' := cs_fu l D m) hb.2 (fun j hj => ⟨by rw [oo j hj], rfl, rfl⟩)
    have P := sm_p4 (n := nb) (i := cs_fr (cs_C K A i) / 2) (d := wd_N K i) (m := m) (s := fun d => cs_fr (cs_C K A (wd_o K i d + 1)) / 2) (e := fun d => cs_fr (cs_C K A (e d + 1)) / 2) (l := l) (l' := cs_fu l D m) (by omega) hb.2 (by rw [hD]; exact hm) (by rw [hD]; exact cs_us) (fun z => cs_un (by omega))
    rw [hD, ho, ei] at P
    rw [C]
    omega
  · have C := sm_pc (n := n) (i := o + 1) (d := wd_N K i) (s := fun d => wd_o K i d + 1) (e := fun d => e d + 1) (l := cs_fu l D m) (s' := fun d => wd_o K (o + 1) d + 1) (e' := fun d => e d + 1) (l' := cs_fu l D m) hb.2 (fun j hj => ⟨by rw [oo j hj], rfl, rfl⟩)
    have P := sm_p4 (n := n) (i := i) (d := wd_N K i) (m := m) (s := fun d => wd_o K i d + 1) (e := fun d => e d + 1) (l := l) (l' := cs_fu l D m) (by omega) hb.2 (by rw [hD]; exact hm) (by rw [hD]; exact cs_us) (fun z => cs_un (by omega))
    rw [hD, ho, ei] at P
    rw [C]
    omega
/-- the end goes on -/
theorem sm_Lg {x y : Int32} (V : wd_V K A n) (hN : cs_fr (cs_C K A n) ≤ 2 * nb) (hi : i < n) (h1 : wd_k K i = 12) (L : sm_L K A n nb i q beg lft l e) (hm : l (wd_N K i - 1) = 0) (hc : rn_cy q' + cs_fr (cs_C K A i) / 2 = rn_cy q + cs_fr (cs_C K A (i + 1)) / 2) (hd : rn_dp q' = rn_dp q - 1) (hl : rn_lp q' = upd (rn_lp q) (wd_N K i - 1) x) :
    sm_L K A n nb (i + 1) q' beg (upd lft (wd_N K i - 1) y) l e ∧ sm_y K n (i + 1) l e + 1 ≤ sm_y K n i l e := by
  obtain ⟨L1, L2, L3⟩ := L
  have st := wd_Nst V hi
  have hb := wd_bnd V i (by omega)
  have st2 : 0 < wd_N K i ∧ wd_N K (i + 1) + 1 = wd_N K i := by omega
  have g := L2 (wd_N K i - 1) (by omega)
  have ei := sm_Ee h1 st2.2 g.2.2.2.2
  have eN : wd_N K (i + 1) = wd_N K i - 1 := by omega
  have eo : wd_o K (i + 1) = wd_o K i := by
    funext j
    exact sm_oN (by omega)
  have m1 := sm_fm V (i := i) (j := i + 1) (by omega) (by omega)
  unfold sm_L sm_y
  rw [eN, hd, hl, eo, L1]
  refine ⟨⟨rfl, fun d hd => ?_, ?_⟩, ?_⟩
  · obtain ⟨a, b, c, f, g⟩ := L2 d (by omega)
    rw [pk_un (by omega), pk_un (by omega)]
    exact ⟨a, b, c, f, wd_Es g (by omega)⟩
  · have P := sm_p5 (n := nb) (i := cs_fr (cs_C K A i) / 2) (d := wd_N K i) (s := fun d => cs_fr (cs_C K A (wd_o K i d + 1)) / 2) (e := fun d => cs_fr (cs_C K A (e d + 1)) / 2) (l := l) (by omega) hb.2 hm
    rw [ei] at P
    omega
  · have P := sm_p5 (n := n) (i := i) (d := wd_N K i) (s := fun d => wd_o K i d + 1) (e := fun d => e d + 1) (l := l) (by omega) hb.2 hm
    rw [ei] at P
    omega
end
end
section
/-! both run the words in step -/
def sm_D (var mem sets puts : Nat → Int32) (dn : Int32) (q : rn_Q) : Prop := (∀ v, v < 6 → rn_rg q v = var v) ∧ rn_ce q = mem ∧ rn_st q = sets ∧ rn_pt q = puts ∧ rn_ef q = dn
def sm_YR (K A : Nat → Int32) (n : Nat) (v' m' s' p' : Nat → Int32) (dn' : Int32) (M x i : Nat) (dn : Int32) (h d : Nat) (var mem sets puts stk beg lft : Nat → Int32) : Prop :=
  ∀ post : Int32 → SY → Prop, (∀ (tp op : Int32) (stk beg lft : Nat → Int32), post dn' (nI n, tp, op, v', m', K, A, s', p', stk, beg, lft)) → ∀ m, M < m → wY_run_67 post m dn (nI i) (nI x) (nI n) (nI h) (nI d) var mem K A sets puts stk beg lft
def sm_G (K A : Nat → Int32) (n nb : Nat) (F : cs_T) (M i : Nat) (q : rn_Q) (var mem sets puts stk beg lft : Nat → Int32) (dn : Int32) (x : Nat) : Prop :=
  ∃ (v' m' s' p' : Nat → Int32) (dn' : Int32), rn_E F nb (sm_D v' m' s' p' dn') (cs_fr (cs_C K A i)) q ∧ sm_YR K A n v' m' s' p' dn' M x i dn (wd_H K i) (wd_N K i) var mem sets puts stk beg lft
def sm_H (K A : Nat → Int32) (n nb : Nat) (F : cs_T) (M : Nat) : Prop :=
  ∀ (i : Nat) (q : rn_Q) (var mem sets puts stk beg lft : Nat → Int32) (dn : Int32) (l e : Nat → Nat) (x : Nat), i ≤ n → sm_y K n i l e ≤ M → x + M ≤ 19999 → sm_D var mem sets puts dn q → sm_S (cs_C K A i) (fun j => j < wd_H K i) q stk → sm_L K A n nb i q beg lft l e → sm_G K A n nb F M i q var mem sets puts stk beg lft dn x
theorem sm_DF {c c' : cs_T} {q q' : rn_Q} {var mem sets puts : Nat → Int32} {dn : Int32} (D : sm_D var mem sets puts dn q) (f : sm_F c c' q q') : sm_D var mem sets puts dn q' := by
  obtain ⟨d1, d2, d3, d4, d5⟩ := D
  obtain ⟨f1, f2, f3, f4, f5, f6, f7, f8⟩ := f
  exact ⟨fun v hv => (f4 v hv).trans (d1 v hv), f5.trans d2, f7.trans d3, f8.trans d4, f3.trans d5⟩
theorem sm_pu {c : cs_T} {h s : Nat} {v x : Int32} {q : rn_Q} {st : Nat → Int32} (S : sm_S c (fun j => j < h) q st) (hx : rn_vl s v q = x) : sm_S (cs_pu c h s v) (fun j => j < h + 1) q (upd st h x) := by
  refine ⟨fun j hj => ?_, S.2⟩
  show rn_vl (cs_fu (cs_ss c) h s j) (cs_fu (cs_sv c) h v j) q = upd st h x j
  by_cases z : j = h
  · rw [z, cs_us, cs_us, pk_us]; exact hx
  · rw [cs_un z, cs_un z, pk_un z]; exact S.1 j (by omega)
section
variable {K A : Nat → Int32} {n nb M i x : Nat} {F : cs_T} {q : rn_Q} {var mem sets puts stk beg lft : Nat → Int32} {dn : Int32} {l e : Nat → Nat}
theorem sm_tb (V : wd_V K A n) (hn : nb ≤ 399) (hN : cs_fr (cs_C K A n) ≤ 2 * nb) (hi : i ≤ n) (L : sm_L K A n nb i q beg lft l e) : rn_cy q + nb ≤ 39000 + cs_fr (cs_C K A i) / 2 := by
  have hb := wd_bnd V i hi
  have P := sm_pge (n := nb) (i := cs_fr (cs_C K A i) / 2) (d := wd_N K i) (s := fun d => cs_fr (cs_C K A (wd_o K i d + 1)) / 2) (e := fun d => cs_fr (cs_C K A (e d + 1)) / 2) (l := l) hb.2
  have := L.2.2
  omega
theorem sm_k0 (V : wd_V K A n) (hn : nb ≤ 399) (hN : cs_fr (cs_C K A n) ≤ 2 * nb) (IH : sm_H K A n nb F M) (hi : i < n) (hk : wd_k K i = 0) (hM : sm_y K n i l e ≤ M + 1) (hx : x + (M + 1) ≤ 19999) (D : sm_D var mem sets puts dn q) (S : sm_S (cs_C K A i) (fun j => j < wd_H K i) q stk) (L : sm_L K A n nb i q beg lft l e) : sm_G K A n nb F (M + 1) i q var mem sets puts stk beg lft dn x := by
  have hb := wd_bnd V i (by omega)
  obtain ⟨ek, _, ha, _⟩ := V.2 i hi
  rw [hk] at ek ha
  obtain ⟨a, ha6, ea⟩ := ha (Or.inl rfl)
  have eH : wd_H K (i + 1) = wd_H K i + 1 := by show wd_h (wd_k K i) _ = _; rw [hk]; rfl
  have eN : wd_N K (i + 1) = wd_N K i := by show wd_n (wd_k K i) _ = _; rw [hk]; rfl
  have eC : cs_C K A (i + 1) = cs_pu (cs_C K A i) (wd_H K i) a (A i) := by
    show cs_w (cs_C K A i) (wd_k K i) (A i) (wd_H K i) (wd_N K i) = _
    rw [hk, cs_w0, ea, nI_clamp (by omega)]
  have ef : cs_fr (cs_C K A (i + 1)) = cs_fr (cs_C K A i) := by rw [eC]; rfl
  have Q := sm_Ls (q' := q) V hN hi (by omega) (by omega) L (by rw [ef]) rfl rfl
  have S' : sm_S (cs_C K A (i + 1)) (fun j => j < wd_H K (i + 1)) q (upd stk (wd_H K i) (var a)) := by
    rw [eC, eH]
    refine sm_pu S ?_
    unfold rn_vl
    rw [if_neg (by omega), if_pos (by omega)]
    exact D.1 a ha6
  obtain ⟨v', m', s', p', dn', hE, hY⟩ := IH (i + 1) q var mem sets puts (upd stk (wd_H K i) (var a)) beg lft dn l e (x + 1) (by omega) (by omega) (by omega) D S' Q.1
  rw [ef] at hE
  rw [eH, eN] at hY
  refine ⟨v', m', s', p', dn', hE, fun post hp m hm => ?_⟩
  obtain ⟨m, rfl⟩ : ∃ m', m = m' + 1 := ⟨m - 1, by omega⟩
  exact yr_0 hi V.1 (by omega) ek ea ha6 hb.1 (hY post hp m (by omega))
theorem sm_k1 (V : wd_V K A n) (hn : nb ≤ 399) (hN : cs_fr (cs_C K A n) ≤ 2 * nb) (IH : sm_H K A n nb F M) (hi : i < n) (hk : wd_k K i = 1) (hM : sm_y K n i l e ≤ M + 1) (hx : x + (M + 1) ≤ 19999) (D : sm_D var mem sets puts dn q) (S : sm_S (cs_C K A i) (fun j => j < wd_H K i) q stk) (L : sm_L K A n nb i q beg lft l e) : sm_G K A n nb F (M + 1) i q var mem sets puts stk beg lft dn x := by
  have hb := wd_bnd V i (by omega)
  obtain ⟨ek, _, ha, _⟩ := V.2 i hi
  rw [hk] at ek ha
  have eH : wd_H K (i + 1) = wd_H K i + 1 := by show wd_h (wd_k K i) _ = _; rw [hk]; rfl
  have eN : wd_N K (i + 1) = wd_N K i := by show wd_n (wd_k K i) _ = _; rw [hk]; rfl
  have eC : cs_C K A (i + 1) = cs_pu (cs_C K A i) (wd_H K i) 15 (A i) := by
    show cs_w (cs_C K A i) (wd_k K i) (A i) (wd_H K i) (wd_N K i) = _
    rw [hk, cs_w1]
  have ef : cs_fr (cs_C K A (i + 1)) = cs_fr (cs_C K A i) := by rw [eC]; rfl
  have Q := sm_Ls (q' := q) V hN hi (by omega) (by omega) L (by rw [ef]) rfl rfl
  have S' : sm_S (cs_C K A (i + 1)) (fun j => j < wd_H K (i + 1)) q (upd stk (wd_H K i) (A i)) := by
    rw [eC, eH]
    exact sm_pu S (if_pos rfl)
  obtain ⟨v', m', s', p', dn', hE, hY⟩ := IH (i + 1) q var mem sets puts (upd stk (wd_H K i) (A i)) beg lft dn l e (x + 1) (by omega) (by omega) (by omega) D S' Q.1
  rw [ef] at hE
  rw [eH, eN] at hY
  refine ⟨v', m', s', p', dn', hE, fun post hp m hm => ?_⟩
  obtain ⟨m, rfl⟩ : ∃ m', m = m' + 1 := ⟨m - 1, by omega⟩
  exact yr_1 hi V.1 (by omega) ek hb.1 (hY post hp m (by omega))
theorem sm_k2 (V : wd_V K A n) (hn : nb ≤ 399) (hF : cs_fr F = 2 * nb) (XF : cs_E (cs_C K A (i + 1)) F) (hN : cs_fr (cs_C K A n) ≤ 2 * nb) (IH : sm_H K A n nb F M) (hi : i < n) (hk : wd_k K i = 2) (hM : sm_y K n i l e ≤ M + 1) (hx : x + (M + 1) ≤ 19999) (D : sm_D var mem sets puts dn q) (S : sm_S (cs_C K A i) (fun j => j < wd_H K i) q stk) (L : sm_L K A n nb i q beg lft l e) : sm_G K A n nb F (M + 1) i q var mem sets puts stk beg lft dn x := by
  have hb := wd_bnd V i (by omega)
  have tb := sm_tb V hn hN (by omega) L
  obtain ⟨ek, _, _, _, hf, _⟩ := V.2 i hi
  rw [hk] at ek hf
  unfold wd_fit at hf
  have eH : wd_H K (i + 1) = wd_H K i := by show wd_h (wd_k K i) _ = _; rw [hk]; rfl
  have eN : wd_N K (i + 1) = wd_N K i := by show wd_n (wd_k K i) _ = _; rw [hk]; rfl
  have eC : cs_C K A (i + 1) = cs_ld (cs_C K A i) (wd_H K i - 1) := by
    show cs_w (cs_C K A i) (wd_k K i) (A i) (wd_H K i) (wd_N K i) = _
    rw [hk, cs_w2]
  have XF' := XF
  rw [eC] at XF'
  have W := sm_ld hn hF (cs_IC V i (by omega)) S XF' (by omega) hb.1 tb
  rw [← eC, D.2.1] at W
  obtain ⟨q', f1, f2, f3⟩ := W
  have Q := sm_Ls (q' := q') V hN hi (by omega) (by omega) L f1.1 f1.2.1 f1.2.2.2.2.2.1
  obtain ⟨v', m', s', p', dn', hE, hY⟩ := IH (i + 1) q' var mem sets puts _ beg lft dn l e (x + 1) (by omega) (by omega) (by omega) (sm_DF D f1) (by rw [eH]; exact f2) Q.1
  rw [eH, eN] at hY
  refine ⟨v', m', s', p', dn', f3 _ hE, fun post hp m hm => ?_⟩
  obtain ⟨m, rfl⟩ : ∃ m', m = m' + 1 := ⟨m - 1, by omega⟩
  exact yr_2 hi V.1 (by omega) ek (by omega) hb.1 (hY post hp m (by omega))
theorem sm_k3 (V : wd_V K A n) (hn : nb ≤ 399) (hF : cs_fr F = 2 * nb) (XF : cs_E (cs_C K A (i + 1)) F) (hN : cs_fr (cs_C K A n) ≤ 2 * nb) (IH : sm_H K A n nb F M) (hi : i < n) (h3 : 3 ≤ wd_k K i) (h8 : wd_k K i ≤ 8) (hM : sm_y K n i l e ≤ M + 1) (hx : x + (M + 1) ≤ 19999) (D : sm_D var mem sets puts dn q) (S : sm_S (cs_C K A i) (fun j => j < wd_H K i) q stk) (L : sm_L K A n nb i q beg lft l e) : sm_G K A n nb F (M + 1) i q var mem sets puts stk beg lft dn x := by
  have hb := wd_bnd V i (by omega)
  have tb := sm_tb V hn hN (by omega) L
  obtain ⟨ek, _, _, _, hf, _⟩ := V.2 i hi
  unfold wd_fit at hf
  have eH : wd_H K (i + 1) = wd_H K i - 1 := by
    show wd_h (wd_k K i) _ = _
    unfold wd_h
    rw [if_neg (by omega), if_neg (by omega), if_neg (by omega), if_neg (by omega)]
  have eN : wd_N K (i + 1) = wd_N K i := by
    show wd_n (wd_k K i) _ = _
    unfold wd_n
    rw [if_neg (by omega), if_neg (by omega)]
  have eC : cs_C K A (i + 1) = if wd_k K i = 5 then cs_cb (cs_C K A i) (wd_k K i) (wd_H K i - 2) (wd_H K i - 1) 1 3 else cs_cb (cs_C K A i) (wd_k K i) (wd_H K i - 2) (wd_H K i - 1) 0 1 := by
    show cs_w (cs_C K A i) (wd_k K i) (A i) (wd_H K i) (wd_N K i) = _
    rw [cs_w38 h3 h8]
  have W : ∃ q', sm_F (cs_C K A i) (cs_C K A (i + 1)) q q' ∧ sm_S (cs_C K A (i + 1)) (fun j => j < wd_H K i - 1) q' (upd stk (wd_H K i - 2) (yr_j (nI (wd_k K i)) (stk (wd_H K i - 2)) (stk (wd_H K i - 1)))) ∧ (∀ Post : rn_Q → Prop, rn_E F nb Post (cs_fr (cs_C K A (i + 1))) q' → rn_E F nb Post (cs_fr (cs_C K A i)) q) := by
    by_cases z : wd_k K i = 5
    · rw [if_pos z] at eC
      rw [eC] at XF ⊢
      refine sm_cb hn hF (cs_IC V i (by omega)) S XF (by omega) hb.1 (by omega) tb (fun n q hq => ?_)
      have ev : yr_j (nI (wd_k K i)) (stk (wd_H K i - 2)) (stk (wd_H K i - 1)) = stk (wd_H K i - 2) * stk (wd_H K i - 1) := by
        rw [z]
        exact if_pos rfl
      rw [rn_m25, ev, ← hq]
      rfl
    · rw [if_neg z] at eC
      rw [eC] at XF ⊢
      refine sm_cb hn hF (cs_IC V i (by omega)) S XF (by omega) hb.1 (by omega) tb (fun n q hq => ?_)
      have ev : yr_j (nI (wd_k K i)) (stk (wd_H K i - 2)) (stk (wd_H K i - 1)) = rn_cm (nI (wd_k K i)) (stk (wd_H K i - 2)) (stk (wd_H K i - 1)) := by
        refine if_neg (fun w => z ?_)
        exact (nI_eq (b := 5) (by omega) (by omega)).mp w
      rw [rn_m24, ev, ← hq]
      rfl
  obtain ⟨q', f1, f2, f3⟩ := W
  have Q := sm_Ls (q' := q') V hN hi (by omega) (by omega) L f1.1 f1.2.1 f1.2.2.2.2.2.1
  obtain ⟨v', m', s', p', dn', hE, hY⟩ := IH (i + 1) q' var mem sets puts _ beg lft dn l e (x + 1) (by omega) (by omega) (by omega) (sm_DF D f1) (by rw [eH]; exact f2) Q.1
  rw [eH, eN] at hY
  refine ⟨v', m', s', p', dn', f3 _ hE, fun post hp m hm => ?_⟩
  obtain ⟨m, rfl⟩ : ∃ m', m = m' + 1 := ⟨m - 1, by omega⟩
  exact yr_3_8 hi V.1 (by omega) ek h3 h8 (by omega) hb.1 (hY post hp m (by omega))
theorem sm_k9 (V : wd_V K A n) (hn : nb ≤ 399) (hF : cs_fr F = 2 * nb) (XF : cs_E (cs_C K A (i + 1)) F) (hN : cs_fr (cs_C K A n) ≤ 2 * nb) (IH : sm_H K A n nb F M) (hi : i < n) (hk : wd_k K i = 9) (hM : sm_y K n i l e ≤ M + 1) (hx : x + (M + 1) ≤ 19999) (D : sm_D var mem sets puts dn q) (S : sm_S (cs_C K A i) (fun j => j < wd_H K i) q stk) (L : sm_L K A n nb i q beg lft l e) : sm_G K A n nb F (M + 1) i q var mem sets puts stk beg lft dn x := by
  have tb := sm_tb V hn hN (by omega) L
  obtain ⟨ek, _, ha, _, hf, _⟩ := V.2 i hi
  rw [hk] at ek hf ha
  unfold wd_fit at hf
  have h1 : wd_H K i = 1 := by omega
  obtain ⟨a, ha6, ea⟩ := ha (Or.inr rfl)
  have eH : wd_H K (i + 1) = 0 := by show wd_h (wd_k K i) _ = _; rw [hk, h1]; rfl
  have eN : wd_N K (i + 1) = wd_N K i := by show wd_n (wd_k K i) _ = _; rw [hk]; rfl
  have eC : cs_C K A (i + 1) = cs_fsl (cs_C K A i) 0 a 0 := by
    show cs_w (cs_C K A i) (wd_k K i) (A i) (wd_H K i) (wd_N K i) = _
    rw [hk, cs_w9, ea, nI_clamp (by omega), h1]
  have I := cs_IC V i (by omega)
  rw [h1] at I S
  have mo := sm_fm V (i := i) (j := i + 1) (by omega) (by omega)
  have W := fun Post : rn_Q → Prop => sm_set (Post := Post) hn hF I S (by rw [← eC]; exact XF) ha6 tb
  rw [← eC] at W
  have Q := sm_Ls (q' := (rn_cy q + (cs_fr (cs_C K A (i + 1)) / 2 - cs_fr (cs_C K A i) / 2), rn_dp q, rn_ef q + 1, upd (rn_rg q) a (stk 0), rn_ce q, rn_op q, rn_re q, rn_at q, rn_lp q, upd (rn_st q) a (rn_st q a + 1), rn_pt q)) V hN hi (by omega) (by omega) L (by
    show rn_cy q + (cs_fr (cs_C K A (i + 1)) / 2 - cs_fr (cs_C K A i) / 2) + cs_fr (cs_C K A i) / 2 = _
    omega) rfl rfl
  obtain ⟨D1, D2, D3, D4, D5⟩ := D
  have D' : sm_D (upd var a (stk 0)) mem (upd sets a (sets a + 1)) puts (dn + 1) (rn_cy q + (cs_fr (cs_C K A (i + 1)) / 2 - cs_fr (cs_C K A i) / 2), rn_dp q, rn_ef q + 1, upd (rn_rg q) a (stk 0), rn_ce q, rn_op q, rn_re q, rn_at q, rn_lp q, upd (rn_st q) a (rn_st q a + 1), rn_pt q) := by
    refine ⟨fun v hv => ?_, D2, ?_, D4, ?_⟩
    · show upd (rn_rg q) a (stk 0) v = upd var a (stk 0) v
      by_cases z : v = a
      · rw [z, pk_us, pk_us]
      · rw [pk_un z, pk_un z]; exact D1 v hv
    · show upd (rn_st q) a (rn_st q a + 1) = upd sets a (sets a + 1)
      rw [D3]
    · show rn_ef q + 1 = dn + 1
      rw [D5]
  obtain ⟨v', m', s', p', dn', hE, hY⟩ := IH (i + 1) _ (upd var a (stk 0)) mem (upd sets a (sets a + 1)) puts stk beg lft (dn + 1) l e (x + 1) (by omega) (by omega) (by omega) D' (sm_S0 (cs_IC V (i + 1) (by omega)).2.2.1 (fun j => by omega)) Q.1
  rw [eH, eN] at hY
  refine ⟨v', m', s', p', dn', W _ hE, fun post hp m hm => ?_⟩
  obtain ⟨m, rfl⟩ : ∃ m', m = m' + 1 := ⟨m - 1, by omega⟩
  exact yr_9 hi V.1 (by omega) ek ea ha6 h1 (hY post hp m (by omega))
theorem sm_k10 (V : wd_V K A n) (hn : nb ≤ 399) (hF : cs_fr F = 2 * nb) (XF : cs_E (cs_C K A (i + 1)) F) (hN : cs_fr (cs_C K A n) ≤ 2 * nb) (IH : sm_H K A n nb F M) (hi : i < n) (hk : wd_k K i = 10) (hM : sm_y K n i l e ≤ M + 1) (hx : x + (M + 1) ≤ 19999) (D : sm_D var mem sets puts dn q) (S : sm_S (cs_C K A i) (fun j => j < wd_H K i) q stk) (L : sm_L K A n nb i q beg lft l e) : sm_G K A n nb F (M + 1) i q var mem sets puts stk beg lft dn x := by
  have tb := sm_tb V hn hN (by omega) L
  obtain ⟨ek, _, _, _, hf, _⟩ := V.2 i hi
  rw [hk] at ek hf
  unfold wd_fit at hf
  have h1 : wd_H K i = 2 := by omega
  have eH : wd_H K (i + 1) = 0 := by show wd_h (wd_k K i) _ = _; rw [hk, h1]; rfl
  have eN : wd_N K (i + 1) = wd_N K i := by show wd_n (wd_k K i) _ = _; rw [hk]; rfl
  have eC : cs_C K A (i + 1) = cs_fsl (cs_fsl (cs_C K A i) 0 23 0) 1 27 0 := by
    show cs_w (cs_C K A i) (wd_k K i) (A i) (wd_H K i) (wd_N K i) = _
    rw [hk, cs_w10, h1]
  have I := cs_IC V i (by omega)
  rw [h1] at I S
  have mo := sm_fm V (i := i) (j := i + 1) (by omega) (by omega)
  have W := sm_put hn hF I S (by rw [← eC]; exact XF) tb
  rw [← eC] at W
  obtain ⟨op, W⟩ := W
  have Q := sm_Ls (q' := (rn_cy q + (cs_fr (cs_C K A (i + 1)) / 2 - cs_fr (cs_C K A i) / 2), rn_dp q, rn_ef q + 1, rn_rg q, upd (rn_ce q) (rn_ad (stk 1)) (stk 0), op, rn_re q, rn_at q, rn_lp q, rn_st q, upd (rn_pt q) (rn_ad (stk 1)) (rn_pt q (rn_ad (stk 1)) + 1))) V hN hi (by omega) (by omega) L (by
    show rn_cy q + (cs_fr (cs_C K A (i + 1)) / 2 - cs_fr (cs_C K A i) / 2) + cs_fr (cs_C K A i) / 2 = _
    omega) rfl rfl
  obtain ⟨D1, D2, D3, D4, D5⟩ := D
  have D' : sm_D var (upd mem (rn_ad (stk 1)) (stk 0)) sets (upd puts (rn_ad (stk 1)) (puts (rn_ad (stk 1)) + 1)) (dn + 1) (rn_cy q + (cs_fr (cs_C K A (i + 1)) / 2 - cs_fr (cs_C K A i) / 2), rn_dp q, rn_ef q + 1, rn_rg q, upd (rn_ce q) (rn_ad (stk 1)) (stk 0), op, rn_re q, rn_at q, rn_lp q, rn_st q, upd (rn_pt q) (rn_ad (stk 1)) (rn_pt q (rn_ad (stk 1)) + 1)) := by
    refine ⟨D1, ?_, D3, ?_, ?_⟩
    · show upd (rn_ce q) (rn_ad (stk 1)) (stk 0) = upd mem (rn_ad (stk 1)) (stk 0)
      rw [D2]
    · show upd (rn_pt q) (rn_ad (stk 1)) (rn_pt q (rn_ad (stk 1)) + 1) = upd puts (rn_ad (stk 1)) (puts (rn_ad (stk 1)) + 1)
      rw [D4]
    · show rn_ef q + 1 = dn + 1
      rw [D5]
  obtain ⟨v', m', s', p', dn', hE, hY⟩ := IH (i + 1) _ var (upd mem (rn_ad (stk 1)) (stk 0)) sets (upd puts (rn_ad (stk 1)) (puts (rn_ad (stk 1)) + 1)) stk beg lft (dn + 1) l e (x + 1) (by omega) (by omega) (by omega) D' (sm_S0 (cs_IC V (i + 1) (by omega)).2.2.1 (fun j => by omega)) Q.1
  rw [eH, eN] at hY
  refine ⟨v', m', s', p', dn', W _ hE, fun post hp m hm => ?_⟩
  obtain ⟨m, rfl⟩ : ∃ m', m = m' + 1 := ⟨m - 1, by omega⟩
  exact yr_10 hi V.1 (by omega) ek h1 (hY post hp m (by omega))
end
end
section
section
variable {K A : Nat → Int32} {n nb M i x : Nat} {F : cs_T} {q : rn_Q} {var mem sets puts stk beg lft : Nat → Int32} {dn : Int32} {l e : Nat → Nat}
theorem sm_k11 (V : wd_V K A n) (h0 : wd_N K n = 0) (hn : nb ≤ 399) (hF : cs_fr F = 2 * nb) (eF : F = cs_nb (cs_C K A n)) (XF : cs_E (cs_C K A (i + 1)) F) (hN : cs_fr (cs_C K A n) ≤ 2 * nb) (IH : sm_H K A n nb F M) (hi : i < n) (hk : wd_k K i = 11) (hM : sm_y K n i l e ≤ M + 1) (hx : x + (M + 1) ≤ 19999) (D : sm_D var mem sets puts dn q) (S : sm_S (cs_C K A i) (fun j => j < wd_H K i) q stk) (L : sm_L K A n nb i q beg lft l e) : sm_G K A n nb F (M + 1) i q var mem sets puts stk beg lft dn x := by
  have tb := sm_tb V hn hN (by omega) L
  obtain ⟨ek, _, _, _, hf, h11, _⟩ := V.2 i hi
  have hd2 := h11 hk
  rw [hk] at ek hf
  unfold wd_fit at hf
  have h1 : wd_H K i = 1 := by omega
  have eH : wd_H K (i + 1) = 0 := by show wd_h (wd_k K i) _ = _; rw [hk, h1]; rfl
  have eN : wd_N K (i + 1) = wd_N K i + 1 := by show wd_n (wd_k K i) _ = _; rw [hk]; rfl
  obtain ⟨e0, hE0⟩ := wd_Ex V h0 (n - (i + 1)) (i + 1) (wd_N K i) (by omega) (by omega)
  have g1 := hE0.1
  have g2 := hE0.2.1
  have g3 := hE0.2.2.1
  have g4 := hE0.2.2.2.1
  have hex : cs_ex F (cs_lp K A i) = nI (cs_fr (cs_C K A (e0 + 1)) / 2) := by
    rw [eF]
    exact cs_lex V n (Nat.le_refl _) i e0 hi g2 hk hE0
  have he := sm_fm V (i := e0 + 1) (j := n) (by omega) (by omega)
  have mo := sm_fm V (i := i) (j := i + 1) (by omega) (by omega)
  have ev : cs_fr (cs_C K A (e0 + 1)) = 2 * ((cs_fr (cs_C K A e0) + 1) / 2) + 2 := by rw [cs_C12 g3, cs_frcl]
  have eH0 : wd_H K (e0 + 1) = 0 := by
    have hf0 := (V.2 e0 g2).2.2.2.2.1
    unfold wd_fit at hf0
    rw [g3] at hf0
    show wd_h (wd_k K e0) _ = _
    rw [g3]
    show wd_H K e0 = 0
    omega
  have Ld := L.1
  have S1 := S
  rw [h1] at S1
  by_cases z : 0 < stk 0
  · obtain ⟨l0, hl0, e9⟩ := yr_nine z
    have Q := sm_Le (q' := rn_cyc (rn_cy q + (cs_fr (cs_C K A (i + 1)) / 2 - cs_fr (cs_C K A i) / 2)) (rn_lo (stk 0) q)) V hN hi hk hd2 hl0 hE0 L (by
      show rn_cy q + (cs_fr (cs_C K A (i + 1)) / 2 - cs_fr (cs_C K A i) / 2) + cs_fr (cs_C K A i) / 2 = _
      omega) rfl (by
      show upd (rn_lp q) (rn_dp q) (if stk 0 ≤ 9 then stk 0 else 9) = _
      rw [e9])
    have D' : sm_D var mem sets puts dn (rn_cyc (rn_cy q + (cs_fr (cs_C K A (i + 1)) / 2 - cs_fr (cs_C K A i) / 2)) (rn_lo (stk 0) q)) := D
    obtain ⟨v', m', s', p', dn', hE, hY⟩ := IH (i + 1) _ var mem sets puts stk (upd beg (wd_N K i) (nI (i + 1))) (upd lft (wd_N K i) (nI (l0 + 1))) dn (cs_fu l (wd_N K i) l0) (cs_fu e (wd_N K i) e0) (x + 1) (by omega) (by omega) (by omega) D' (sm_S0 (cs_IC V (i + 1) (by omega)).2.2.1 (fun j => by omega)) Q.1
    rw [eH, eN] at hY
    refine ⟨v', m', s', p', dn', ?_, fun post hp m hm => ?_⟩
    · exact sm_loop (d := 0) V hi hn hF hk XF hE0 hex (by omega) h1 S1 (by omega) tb (fun _ => hE) (fun y => absurd z y)
    · obtain ⟨m, rfl⟩ : ∃ m', m = m' + 1 := ⟨m - 1, by omega⟩
      refine yr_11 V hi (by omega) hk rfl hd2 hE0 h1 (fun _ => ?_) (fun y => absurd z y)
      rw [e9]
      exact hY post hp m (by omega)
  · have Q := sm_Lk (q' := rn_cyc (rn_cy q + (cs_fr (cs_C K A (i + 1)) / 2 - cs_fr (cs_C K A i) / 2)) q) V hN hi hk hE0 L (by
      show rn_cy q + (cs_fr (cs_C K A (i + 1)) / 2 - cs_fr (cs_C K A i) / 2) + cs_fr (cs_C K A i) / 2 = _
      omega) rfl rfl
    have D' : sm_D var mem sets puts dn (rn_cyc (rn_cy q + (cs_fr (cs_C K A (i + 1)) / 2 - cs_fr (cs_C K A i) / 2)) q) := D
    obtain ⟨v', m', s', p', dn', hE, hY⟩ := IH (e0 + 1) _ var mem sets puts stk beg lft dn l e (x + 1) (by omega) (by omega) (by omega) D' (sm_S0 (cs_IC V (e0 + 1) (by omega)).2.2.1 (fun j => by omega)) Q.1
    rw [eH0, g4] at hY
    refine ⟨v', m', s', p', dn', ?_, fun post hp m hm => ?_⟩
    · refine sm_loop (d := 0) V hi hn hF hk XF hE0 hex (by omega) h1 S1 (by omega) tb (fun y => absurd y z) (fun _ => ?_)
      rw [show 2 * (cs_fr (cs_C K A (e0 + 1)) / 2) = cs_fr (cs_C K A (e0 + 1)) by omega]
      exact hE
    · obtain ⟨m, rfl⟩ : ∃ m', m = m' + 1 := ⟨m - 1, by omega⟩
      exact yr_11 V hi (by omega) hk rfl hd2 hE0 h1 (fun y => absurd y z) (fun _ => hY post hp m (by omega))
theorem sm_k12 (V : wd_V K A n) (hn : nb ≤ 399) (hF : cs_fr F = 2 * nb) (XF : cs_E (cs_C K A (i + 1)) F) (hN : cs_fr (cs_C K A n) ≤ 2 * nb) (IH : sm_H K A n nb F M) (hi : i < n) (hk : wd_k K i = 12) (hM : sm_y K n i l e ≤ M + 1) (hx : x + (M + 1) ≤ 19999) (D : sm_D var mem sets puts dn q) (S : sm_S (cs_C K A i) (fun j => j < wd_H K i) q stk) (L : sm_L K A n nb i q beg lft l e) : sm_G K A n nb F (M + 1) i q var mem sets puts stk beg lft dn x := by
  have tb := sm_tb V hn hN (by omega) L
  have hb := wd_bnd V i (by omega)
  have st := wd_Nst V hi
  have st2 : 0 < wd_N K i ∧ wd_N K (i + 1) + 1 = wd_N K i := by omega
  obtain ⟨ek, _, _, _, hf, _, _⟩ := V.2 i hi
  rw [hk] at ek hf
  unfold wd_fit at hf
  have h1 : wd_H K i = 0 := by omega
  have eH : wd_H K (i + 1) = 0 := by show wd_h (wd_k K i) _ = _; rw [hk, h1]; rfl
  have eN : wd_N K (i + 1) = wd_N K i - 1 := by omega
  have mo := sm_fm V (i := i) (j := i + 1) (by omega) (by omega)
  have Ld := L.1
  obtain ⟨a1, a2, a3, a4, a5⟩ := L.2.1 (wd_N K i - 1) (by omega)
  obtain ⟨o1, o2, o3, o4⟩ := wd_oS V i (by omega) (wd_N K i - 1) (by omega)
  have mo2 := sm_fm V (i := wd_o K i (wd_N K i - 1) + 1) (j := n) (by omega) (by omega)
  have a1' : rn_lp q (rn_dp q - 1) = nI (l (wd_N K i - 1) + 1) := by rw [Ld]; exact a1
  by_cases z : l (wd_N K i - 1) = 0
  · have Q := sm_Lg (q' := rn_cyc (rn_cy q + (cs_fr (cs_C K A (i + 1)) / 2 - cs_fr (cs_C K A i) / 2)) (rn_ba (rn_dp q - 1) q)) (y := nI (l (wd_N K i - 1))) (x := rn_lp q (rn_dp q - 1) - 1) V hN hi hk L z (by
      show rn_cy q + (cs_fr (cs_C K A (i + 1)) / 2 - cs_fr (cs_C K A i) / 2) + cs_fr (cs_C K A i) / 2 = _
      omega) rfl (by
      show upd (rn_lp q) (rn_dp q - 1) (rn_lp q (rn_dp q - 1) - 1) = _
      rw [Ld])
    have D' : sm_D var mem sets puts dn (rn_cyc (rn_cy q + (cs_fr (cs_C K A (i + 1)) / 2 - cs_fr (cs_C K A i) / 2)) (rn_ba (rn_dp q - 1) q)) := D
    obtain ⟨v', m', s', p', dn', hE, hY⟩ := IH (i + 1) _ var mem sets puts stk beg (upd lft (wd_N K i - 1) (nI (l (wd_N K i - 1)))) dn l e (x + 1) (by omega) (by omega) (by omega) D' (sm_S0 (cs_IC V (i + 1) (by omega)).2.2.1 (fun j => by omega)) Q.1
    rw [eH, eN] at hY
    refine ⟨v', m', s', p', dn', ?_, fun post hp m hm => ?_⟩
    · exact sm_back V hi hn hF hk XF (by omega) a3 a1' tb (by omega) (fun _ => hE) (fun y => absurd z (by omega))
    · obtain ⟨m, rfl⟩ : ∃ m', m = m' + 1 := ⟨m - 1, by omega⟩
      rw [h1]
      exact yr_12 V hi (by omega) hk st2.1 hb.2 a2 a3 (fun _ => hY post hp m (by omega)) (fun y => absurd z (by omega))
  · obtain ⟨m0, hm0⟩ : ∃ m0, l (wd_N K i - 1) = m0 + 1 := ⟨l (wd_N K i - 1) - 1, by omega⟩
    have Q := sm_Lb (q' := rn_cyc (rn_cy q + (cs_fr (cs_C K A (i + 1)) / 2 - cs_fr (cs_C K A i) / 2)) (rn_ba (rn_dp q) q)) (m := m0) V hN hi hk L hm0 (by
      show rn_cy q + (cs_fr (cs_C K A (i + 1)) / 2 - cs_fr (cs_C K A i) / 2) + cs_fr (cs_C K A i) / 2 = _
      omega) rfl (by
      show upd (rn_lp q) (rn_dp q - 1) (rn_lp q (rn_dp q - 1) - 1) = _
      rw [a1', hm0, Ld, nI_pred])
    have D' : sm_D var mem sets puts dn (rn_cyc (rn_cy q + (cs_fr (cs_C K A (i + 1)) / 2 - cs_fr (cs_C K A i) / 2)) (rn_ba (rn_dp q) q)) := D
    have ev := cs_lpfr (A := A) o2
    have oH : wd_H K (wd_o K i (wd_N K i - 1) + 1) = 0 := by
      have hf0 := (V.2 (wd_o K i (wd_N K i - 1)) (by omega)).2.2.2.2.1
      unfold wd_fit at hf0
      rw [o2] at hf0
      show wd_h (wd_k K (wd_o K i (wd_N K i - 1))) _ = _
      rw [o2]
      show wd_H K (wd_o K i (wd_N K i - 1)) - 1 = 0
      omega
    have oN : wd_N K (wd_o K i (wd_N K i - 1) + 1) = wd_N K i := by
      have := wd_Nst V (i := wd_o K i (wd_N K i - 1)) (by omega)
      omega
    obtain ⟨v', m', s', p', dn', hE, hY⟩ := IH (wd_o K i (wd_N K i - 1) + 1) _ var mem sets puts stk beg (upd lft (wd_N K i - 1) (nI (m0 + 1))) dn (cs_fu l (wd_N K i - 1) m0) e (x + 1) (by omega) (by omega) (by omega) D' (sm_S0 (cs_IC V (wd_o K i (wd_N K i - 1) + 1) (by omega)).2.2.1 (fun j => by omega)) Q.1
    rw [oH, oN] at hY
    refine ⟨v', m', s', p', dn', ?_, fun post hp m hm => ?_⟩
    · refine sm_back V hi hn hF hk XF (by omega) a3 a1' tb (by omega) (fun y => absurd y z) (fun _ => ?_)
      rw [show 2 * (cs_fr (cs_C K A (wd_o K i (wd_N K i - 1) + 1)) / 2) = cs_fr (cs_C K A (wd_o K i (wd_N K i - 1) + 1)) by omega]
      exact hE
    · obtain ⟨m, rfl⟩ : ∃ m', m = m' + 1 := ⟨m - 1, by omega⟩
      rw [h1]
      refine yr_12 V hi (by omega) hk st2.1 hb.2 a2 a3 (fun y => absurd y z) (fun _ => ?_)
      rw [a4, hm0]
      exact hY post hp m (by omega)
theorem sm_end (V : wd_V K A n) (hn : nb ≤ 399) (hF : cs_fr F = 2 * nb) (eF : F = cs_nb (cs_C K A n)) (hN : cs_fr (cs_C K A n) ≤ 2 * nb) (D : sm_D var mem sets puts dn q) (L : sm_L K A n nb n q beg lft l e) : sm_G K A n nb F M n q var mem sets puts stk beg lft dn x := by
  have tb := sm_tb V hn hN (Nat.le_refl _) L
  have I := cs_IC V n (Nat.le_refl _)
  refine ⟨var, mem, sets, puts, dn, ?_, fun post hp m hm => ?_⟩
  · refine rn_skip' hn hN (fun j h1 h2 => ?_) (Nat.le_refl _) tb (rn_E0 (Nat.le_refl _) D)
    have : cs_vd F j = cs_vd (cs_C K A n) j := by rw [eF]; rfl
    rw [this]
    cases z : cs_vd (cs_C K A n) j
    · rfl
    · have := I.1.1 j z
      omega
  · obtain ⟨m, rfl⟩ : ∃ m', m = m' + 1 := ⟨m - 1, by omega⟩
    exact yr_stop (hp _ _ _ _ _) V.1
theorem sm_main (V : wd_V K A n) (h0 : wd_N K n = 0) (hn : nb ≤ 399) (hF : cs_fr F = 2 * nb) (eF : F = cs_nb (cs_C K A n)) (hN : cs_fr (cs_C K A n) ≤ 2 * nb) : ∀ M, sm_H K A n nb F M := by
  intro M
  induction M with
  | zero =>
    intro i q var mem sets puts stk beg lft dn l e x hi hM hx D S L
    have hb := wd_bnd V i hi
    have P := sm_pge (n := n) (i := i) (d := wd_N K i) (s := fun d => wd_o K i d + 1) (e := fun d => e d + 1) (l := l) hb.2
    unfold sm_y at hM
    have : i = n := by omega
    subst this
    exact sm_end V hn hF eF hN D L
  | succ M IH =>
    intro i q var mem sets puts stk beg lft dn l e x hi hM hx D S L
    rcases Nat.lt_or_ge i n with z | z
    · have XF : cs_E (cs_C K A (i + 1)) F := by
        rw [eF]
        exact cs_Et (cs_EC V (by omega) (Nat.le_refl _)) (cs_EXnb _).1
      have h12 := (V.2 i z).2.1
      by_cases k0 : wd_k K i = 0
      · exact sm_k0 V hn hN IH z k0 hM hx D S L
      by_cases k1 : wd_k K i = 1
      · exact sm_k1 V hn hN IH z k1 hM hx D S L
      by_cases k2 : wd_k K i = 2
      · exact sm_k2 V hn hF XF hN IH z k2 hM hx D S L
      by_cases k8 : wd_k K i ≤ 8
      · exact sm_k3 V hn hF XF hN IH z (by omega) k8 hM hx D S L
      by_cases k9 : wd_k K i = 9
      · exact sm_k9 V hn hF XF hN IH z k9 hM hx D S L
      by_cases k10 : wd_k K i = 10
      · exact sm_k10 V hn hF XF hN IH z k10 hM hx D S L
      by_cases k11 : wd_k K i = 11
      · exact sm_k11 V h0 hn hF eF XF hN IH z k11 hM hx D S L
      · exact sm_k12 V hn hF XF hN IH z (by omega) hM hx D S L
    · have : i = n := by omega
      subst this
      exact sm_end V hn hF eF hN D L
end
end
section
/-! the relation, and what is owed -/
def wr_R (f_count f_tall f_open f_bundle f_compiled : Int32) (a_kinds a_arguments a_filled a_source a_constant a_target a_extra a_registers a_cells a_setCounts a_putCounts : Nat → Int32) (g_count : Int32) (b_variable b_memory b_kind b_argument b_sets b_puts : Nat → Int32) : Prop :=
  ∃ n, f_count = nI n ∧ g_count = nI n ∧ a_kinds = b_kind ∧ a_arguments = b_argument ∧ wd_V a_kinds a_arguments n ∧ f_tall = nI (wd_H a_kinds n) ∧ f_open = nI (wd_N a_kinds n) ∧ (∀ v, v < 6 → a_registers v = b_variable v) ∧ a_cells = b_memory ∧ a_setCounts = b_sets ∧ a_putCounts = b_puts ∧
    (f_compiled = 0 ∨ (cs_RK (cs_nb (cs_C a_kinds a_arguments n)) a_filled a_source a_constant a_target a_extra ∧ f_bundle = nI ((cs_fr (cs_C a_kinds a_arguments n) + 1) / 2)))
def i_Rel (_ : Nat) (u : SX) (v : SY) : Prop := match u with
  | (f_count, f_tall, f_open, f_bundle, f_compiled, f_cycle, f_place, f_loopDepth, f_effects, a_kinds, a_arguments, a_slotSource, a_slotValue, a_holder, a_ready, a_lastWrite, a_lastTrigger, a_filled, a_source, a_constant, a_target, a_extra, a_opened, a_registers, a_cells, a_operands, a_triggers, a_starts, a_oldResult, a_newResult, a_resultAt, a_loops, a_setCounts, a_putCounts) => match v with
    | (g_count, g_top, g_open, b_variable, b_memory, b_kind, b_argument, b_sets, b_puts, b_stack, b_begin, b_left) => wr_R f_count f_tall f_open f_bundle f_compiled a_kinds a_arguments a_filled a_source a_constant a_target a_extra a_registers a_cells a_setCounts a_putCounts g_count b_variable b_memory b_kind b_argument b_sets b_puts
theorem wr_in {k : Nat} {f_count : Int32} {f_tall : Int32} {f_open : Int32} {f_bundle : Int32} {f_compiled : Int32} {f_cycle : Int32} {f_place : Int32} {f_loopDepth : Int32} {f_effects : Int32} {a_kinds : Nat → Int32} {a_arguments : Nat → Int32} {a_slotSource : Nat → Int32} {a_slotValue : Nat → Int32} {a_holder : Nat → Int32} {a_ready : Nat → Int32} {a_lastWrite : Nat → Int32} {a_lastTrigger : Nat → Int32} {a_filled : Nat → Int32} {a_source : Nat → Int32} {a_constant : Nat → Int32} {a_target : Nat → Int32} {a_extra : Nat → Int32} {a_opened : Nat → Int32} {a_registers : Nat → Int32} {a_cells : Nat → Int32} {a_operands : Nat → Int32} {a_triggers : Nat → Int32} {a_starts : Nat → Int32} {a_oldResult : Nat → Int32} {a_newResult : Nat → Int32} {a_resultAt : Nat → Int32} {a_loops : Nat → Int32} {a_setCounts : Nat → Int32} {a_putCounts : Nat → Int32} {g_count : Int32} {g_top : Int32} {g_open : Int32} {b_variable : Nat → Int32} {b_memory : Nat → Int32} {b_kind : Nat → Int32} {b_argument : Nat → Int32} {b_sets : Nat → Int32} {b_puts : Nat → Int32} {b_stack : Nat → Int32} {b_begin : Nat → Int32} {b_left : Nat → Int32} (h : wr_R f_count f_tall f_open f_bundle f_compiled a_kinds a_arguments a_filled a_source a_constant a_target a_extra a_registers a_cells a_setCounts a_putCounts g_count b_variable b_memory b_kind b_argument b_sets b_puts) : i_Rel k (f_count, f_tall, f_open, f_bundle, f_compiled, f_cycle, f_place, f_loopDepth, f_effects, a_kinds, a_arguments, a_slotSource, a_slotValue, a_holder, a_ready, a_lastWrite, a_lastTrigger, a_filled, a_source, a_constant, a_target, a_extra, a_opened, a_registers, a_cells, a_operands, a_triggers, a_starts, a_oldResult, a_newResult, a_resultAt, a_loops, a_setCounts, a_putCounts) (g_count, g_top, g_open, b_variable, b_memory, b_kind, b_argument, b_sets, b_puts, b_stack, b_begin, b_left) := h
theorem wr_el {k : Nat} {u : SX} {v : SY} {P : SX → SY → Prop} (I : i_Rel k u v) (h : ∀ (f_count : Int32) (f_tall : Int32) (f_open : Int32) (f_bundle : Int32) (f_compiled : Int32) (f_cycle : Int32) (f_place : Int32) (f_loopDepth : Int32) (f_effects : Int32) (a_kinds : Nat → Int32) (a_arguments : Nat → Int32) (a_slotSource : Nat → Int32) (a_slotValue : Nat → Int32) (a_holder : Nat → Int32) (a_ready : Nat → Int32) (a_lastWrite : Nat → Int32) (a_lastTrigger : Nat → Int32) (a_filled : Nat → Int32) (a_source : Nat → Int32) (a_constant : Nat → Int32) (a_target : Nat → Int32) (a_extra : Nat → Int32) (a_opened : Nat → Int32) (a_registers : Nat → Int32) (a_cells : Nat → Int32) (a_operands : Nat → Int32) (a_triggers : Nat → Int32) (a_starts : Nat → Int32) (a_oldResult : Nat → Int32) (a_newResult : Nat → Int32) (a_resultAt : Nat → Int32) (a_loops : Nat → Int32) (a_setCounts : Nat → Int32) (a_putCounts : Nat → Int32) (g_count : Int32) (g_top : Int32) (g_open : Int32) (b_variable : Nat → Int32) (b_memory : Nat → Int32) (b_kind : Nat → Int32) (b_argument : Nat → Int32) (b_sets : Nat → Int32) (b_puts : Nat → Int32) (b_stack : Nat → Int32) (b_begin : Nat → Int32) (b_left : Nat → Int32), wr_R f_count f_tall f_open f_bundle f_compiled a_kinds a_arguments a_filled a_source a_constant a_target a_extra a_registers a_cells a_setCounts a_putCounts g_count b_variable b_memory b_kind b_argument b_sets b_puts → P (f_count, f_tall, f_open, f_bundle, f_compiled, f_cycle, f_place, f_loopDepth, f_effects, a_kinds, a_arguments, a_slotSource, a_slotValue, a_holder, a_ready, a_lastWrite, a_lastTrigger, a_filled, a_source, a_constant, a_target, a_extra, a_opened, a_registers, a_cells, a_operands, a_triggers, a_starts, a_oldResult, a_newResult, a_resultAt, a_loops, a_setCounts, a_putCounts) (g_count, g_top, g_open, b_variable, b_memory, b_kind, b_argument, b_sets, b_puts, b_stack, b_begin, b_left)) : P u v :=
  match u, v, I with
  | (f_count, f_tall, f_open, f_bundle, f_compiled, f_cycle, f_place, f_loopDepth, f_effects, a_kinds, a_arguments, a_slotSource, a_slotValue, a_holder, a_ready, a_lastWrite, a_lastTrigger, a_filled, a_source, a_constant, a_target, a_extra, a_opened, a_registers, a_cells, a_operands, a_triggers, a_starts, a_oldResult, a_newResult, a_resultAt, a_loops, a_setCounts, a_putCounts), (g_count, g_top, g_open, b_variable, b_memory, b_kind, b_argument, b_sets, b_puts, b_stack, b_begin, b_left), I => h f_count f_tall f_open f_bundle f_compiled f_cycle f_place f_loopDepth f_effects a_kinds a_arguments a_slotSource a_slotValue a_holder a_ready a_lastWrite a_lastTrigger a_filled a_source a_constant a_target a_extra a_opened a_registers a_cells a_operands a_triggers a_starts a_oldResult a_newResult a_resultAt a_loops a_setCounts a_putCounts g_count g_top g_open b_variable b_memory b_kind b_argument b_sets b_puts b_stack b_begin b_left I
theorem i_up {k : Nat} {u : SX} {v : SY} (h : i_Rel k u v) : i_Rel (k + 3) u v := h
theorem i_vc0 : wpX_init (fun u => wpY_init (fun v => i_Rel 0 u v)) := by
  unfold wpX_init wpY_init
  refine wr_in ?_
  exact ⟨0, rfl, rfl, rfl, rfl, ⟨by omega, fun i hi => absurd hi (Nat.not_lt_zero _)⟩, rfl, rfl, fun _ _ => rfl, rfl, rfl, rfl, Or.inl rfl⟩
theorem i_vc_word {k : Nat} {u : SX} {v : SY} (I : i_Rel k u v) (hk : k + 3 ≤ 1536) (v1 : Int32) (v2 : Int32) : wpX_word (fun r u' => wpY_word (fun r' v' => r' = r ∧ i_Rel (k + 3) u' v') v v1 v2) u v1 v2 := by
  refine wr_el (P := fun u v => wpX_word (fun r u' => wpY_word (fun r' v' => r' = r ∧ i_Rel (k + 3) u' v') v v1 v2) u v1 v2) I ?_
  intro f_count f_tall f_open f_bundle f_compiled f_cycle f_place f_loopDepth f_effects a_kinds a_arguments a_slotSource a_slotValue a_holder a_ready a_lastWrite a_lastTrigger a_filled a_source a_constant a_target a_extra a_opened a_registers a_cells a_operands a_triggers a_starts a_oldResult a_newResult a_resultAt a_loops a_setCounts a_putCounts g_count g_top g_open b_variable b_memory b_kind b_argument b_sets b_puts b_stack b_begin b_left R
  have R0 : i_Rel (k + 3) (f_count, f_tall, f_open, f_bundle, f_compiled, f_cycle, f_place, f_loopDepth, f_effects, a_kinds, a_arguments, a_slotSource, a_slotValue, a_holder, a_ready, a_lastWrite, a_lastTrigger, a_filled, a_source, a_constant, a_target, a_extra, a_opened, a_registers, a_cells, a_operands, a_triggers, a_starts, a_oldResult, a_newResult, a_resultAt, a_loops, a_setCounts, a_putCounts) (g_count, g_top, g_open, b_variable, b_memory, b_kind, b_argument, b_sets, b_puts, b_stack, b_begin, b_left) := wr_in R
  obtain ⟨n, rfl, rfl, rfl, rfl, V, rfl, rfl, hv, rfl, rfl, rfl, hc⟩ := R
  have hb := wd_bnd V n (Nat.le_refl _)
  by_cases z : v1 < 0
  · unfold wpX_word
    refine br_t z ?_
    unfold wpY_word
    exact br_t z ⟨rfl, R0⟩
  · by_cases y : v1 ≤ 12
    · obtain ⟨c, hc12, rfl⟩ := nI_of2 (x := v1) (M := 12) (n := 12) (by decide) z y
      refine xw_word hc12 hb.1 hb.2 V.1 (fun c2 => ?_) (fun c2 c3 => ?_) (fun c2 c3 c4 => ?_) (fun c2 c3 c4 c5 => ?_) (fun c2 c3 c4 c5 c6 => ?_) (fun c2 c3 c4 c5 c6 => ?_)
      · exact yw_word hc12 V (fun _ => ⟨rfl, R0⟩) (fun q => absurd c2 q) (fun q => absurd c2 q) (fun q => absurd c2 q) (fun q => absurd c2 q) (fun q => absurd c2 q)
      · exact yw_word hc12 V (fun q => absurd q c2) (fun _ _ => ⟨rfl, R0⟩) (fun _ q => by omega) (fun _ q => by omega) (fun _ q => by omega) (fun _ q => by omega)
      · exact yw_word hc12 V (fun q => absurd q c2) (fun _ q => by omega) (fun _ _ _ => ⟨rfl, R0⟩) (fun _ _ q => absurd c4 q) (fun _ _ q => absurd c4 q) (fun _ _ q => absurd c4 q)
      · exact yw_word hc12 V (fun q => absurd q c2) (fun _ q => by omega) (fun _ _ q => absurd q c4) (fun _ _ _ _ => ⟨rfl, R0⟩) (fun _ _ _ q => absurd q c5) (fun _ _ _ q => absurd q c5)
      · exact yw_word hc12 V (fun q => absurd q c2) (fun _ q => by omega) (fun _ _ q => absurd q c4) (fun _ _ _ q => absurd c5 q) (fun _ _ _ _ _ => ⟨rfl, R0⟩) (fun _ _ _ _ q => absurd c6 q)
      · have V' := wd_app V c3 (wd_okI (n := n) hc12 hb.1 hb.2 c2 c4 c5 c6)
        refine xw_word135 hc12 c3 V' ?_
        refine yw_word hc12 V (fun q => absurd q c2) (fun _ q => by omega) (fun _ _ q => absurd q c4) (fun _ _ _ q => absurd c5 q) (fun _ _ _ _ q => absurd q c6) (fun _ _ _ _ _ => ⟨rfl, ?_⟩)
        exact wr_in ⟨n + 1, rfl, rfl, rfl, rfl, V', rfl, rfl, hv, rfl, rfl, rfl, Or.inl rfl⟩
    · unfold wpX_word
      refine br_f z (br_f y ?_)
      unfold wpY_word
      exact br_f z (br_f y ⟨rfl, R0⟩)
theorem i_vc_undo {k : Nat} {u : SX} {v : SY} (I : i_Rel k u v) (hk : k + 3 ≤ 1536) : wpX_undo (fun r u' => wpY_undo (fun r' v' => r' = r ∧ i_Rel (k + 3) u' v') v) u := by
  refine wr_el (P := fun u v => wpX_undo (fun r u' => wpY_undo (fun r' v' => r' = r ∧ i_Rel (k + 3) u' v') v) u) I ?_
  intro f_count f_tall f_open f_bundle f_compiled f_cycle f_place f_loopDepth f_effects a_kinds a_arguments a_slotSource a_slotValue a_holder a_ready a_lastWrite a_lastTrigger a_filled a_source a_constant a_target a_extra a_opened a_registers a_cells a_operands a_triggers a_starts a_oldResult a_newResult a_resultAt a_loops a_setCounts a_putCounts g_count g_top g_open b_variable b_memory b_kind b_argument b_sets b_puts b_stack b_begin b_left R
  have R0 : i_Rel (k + 3) (f_count, f_tall, f_open, f_bundle, f_compiled, f_cycle, f_place, f_loopDepth, f_effects, a_kinds, a_arguments, a_slotSource, a_slotValue, a_holder, a_ready, a_lastWrite, a_lastTrigger, a_filled, a_source, a_constant, a_target, a_extra, a_opened, a_registers, a_cells, a_operands, a_triggers, a_starts, a_oldResult, a_newResult, a_resultAt, a_loops, a_setCounts, a_putCounts) (g_count, g_top, g_open, b_variable, b_memory, b_kind, b_argument, b_sets, b_puts, b_stack, b_begin, b_left) := wr_in R
  obtain ⟨n, rfl, rfl, rfl, rfl, V, rfl, rfl, hv, rfl, rfl, rfl, hc⟩ := R
  have hn := V.1
  unfold wpX_undo
  refine pk_eq n 0 (fun z => ?_) (fun z => nm_r (e' := nI (n - 1)) (wd_s1 (by omega)) ?_)
  · unfold wpY_undo
    exact pk_eq n 0 (fun _ => ⟨rfl, R0⟩) (fun y => absurd z y)
  · have V' := wd_pre V (m := n - 1) (by omega)
    refine xw_measure V' ?_
    unfold wpY_undo
    refine pk_eq n 0 (fun y => absurd y z) (fun _ => nm_r (e' := nI (n - 1)) (wd_s1 (by omega)) ⟨rfl, ?_⟩)
    exact wr_in ⟨n - 1, rfl, rfl, rfl, rfl, V', rfl, rfl, hv, rfl, rfl, rfl, Or.inl rfl⟩
theorem i_vc_clear {k : Nat} {u : SX} {v : SY} (I : i_Rel k u v) (hk : k + 3 ≤ 1536) : wpX_clear (fun r u' => wpY_clear (fun r' v' => r' = r ∧ i_Rel (k + 3) u' v') v) u := by
  refine wr_el (P := fun u v => wpX_clear (fun r u' => wpY_clear (fun r' v' => r' = r ∧ i_Rel (k + 3) u' v') v) u) I ?_
  intro f_count f_tall f_open f_bundle f_compiled f_cycle f_place f_loopDepth f_effects a_kinds a_arguments a_slotSource a_slotValue a_holder a_ready a_lastWrite a_lastTrigger a_filled a_source a_constant a_target a_extra a_opened a_registers a_cells a_operands a_triggers a_starts a_oldResult a_newResult a_resultAt a_loops a_setCounts a_putCounts g_count g_top g_open b_variable b_memory b_kind b_argument b_sets b_puts b_stack b_begin b_left R
  obtain ⟨n, rfl, rfl, rfl, rfl, V, rfl, rfl, hv, rfl, rfl, rfl, hc⟩ := R
  have V' := wd_pre V (m := 0) (by omega)
  unfold wpX_clear
  refine xw_measure (n := 0) V' ?_
  unfold wpY_clear
  exact ⟨rfl, wr_in ⟨0, rfl, rfl, rfl, rfl, V', rfl, rfl, hv, rfl, rfl, rfl, Or.inl rfl⟩⟩
theorem i_vc_words {k : Nat} {u : SX} {v : SY} (I : i_Rel k u v) (hk : k + 3 ≤ 1536) : wpX_words (fun r => wpY_words (fun r' => r' = r ∧ i_Rel (k + 3) u v) v) u := by
  refine wr_el (P := fun u v => wpX_words (fun r => wpY_words (fun r' => r' = r ∧ i_Rel (k + 3) u v) v) u) I ?_
  intro f_count f_tall f_open f_bundle f_compiled f_cycle f_place f_loopDepth f_effects a_kinds a_arguments a_slotSource a_slotValue a_holder a_ready a_lastWrite a_lastTrigger a_filled a_source a_constant a_target a_extra a_opened a_registers a_cells a_operands a_triggers a_starts a_oldResult a_newResult a_resultAt a_loops a_setCounts a_putCounts g_count g_top g_open b_variable b_memory b_kind b_argument b_sets b_puts b_stack b_begin b_left R
  have R0 : i_Rel (k + 3) (f_count, f_tall, f_open, f_bundle, f_compiled, f_cycle, f_place, f_loopDepth, f_effects, a_kinds, a_arguments, a_slotSource, a_slotValue, a_holder, a_ready, a_lastWrite, a_lastTrigger, a_filled, a_source, a_constant, a_target, a_extra, a_opened, a_registers, a_cells, a_operands, a_triggers, a_starts, a_oldResult, a_newResult, a_resultAt, a_loops, a_setCounts, a_putCounts) (g_count, g_top, g_open, b_variable, b_memory, b_kind, b_argument, b_sets, b_puts, b_stack, b_begin, b_left) := wr_in R
  obtain ⟨n, rfl, rfl, rfl, rfl, V, rfl, rfl, hv, rfl, rfl, rfl, hc⟩ := R
  unfold wpX_words wpY_words
  exact ⟨rfl, R0⟩
theorem i_vc_kindOf {k : Nat} {u : SX} {v : SY} (I : i_Rel k u v) (hk : k + 3 ≤ 1536) (v1 : Int32) : wpX_kindOf (fun r => wpY_kindOf (fun r' => r' = r ∧ i_Rel (k + 3) u v) v v1) u v1 := by
  refine wr_el (P := fun u v => wpX_kindOf (fun r => wpY_kindOf (fun r' => r' = r ∧ i_Rel (k + 3) u v) v v1) u v1) I ?_
  intro f_count f_tall f_open f_bundle f_compiled f_cycle f_place f_loopDepth f_effects a_kinds a_arguments a_slotSource a_slotValue a_holder a_ready a_lastWrite a_lastTrigger a_filled a_source a_constant a_target a_extra a_opened a_registers a_cells a_operands a_triggers a_starts a_oldResult a_newResult a_resultAt a_loops a_setCounts a_putCounts g_count g_top g_open b_variable b_memory b_kind b_argument b_sets b_puts b_stack b_begin b_left R
  have R0 : i_Rel (k + 3) (f_count, f_tall, f_open, f_bundle, f_compiled, f_cycle, f_place, f_loopDepth, f_effects, a_kinds, a_arguments, a_slotSource, a_slotValue, a_holder, a_ready, a_lastWrite, a_lastTrigger, a_filled, a_source, a_constant, a_target, a_extra, a_opened, a_registers, a_cells, a_operands, a_triggers, a_starts, a_oldResult, a_newResult, a_resultAt, a_loops, a_setCounts, a_putCounts) (g_count, g_top, g_open, b_variable, b_memory, b_kind, b_argument, b_sets, b_puts, b_stack, b_begin, b_left) := wr_in R
  obtain ⟨n, rfl, rfl, rfl, rfl, V, rfl, rfl, hv, rfl, rfl, rfl, hc⟩ := R
  have hn := V.1
  unfold wpX_kindOf wpY_kindOf
  refine br_c (fun z => br_t z ⟨rfl, R0⟩) (fun z => br_c (fun y => br_f z (br_f (Int32.not_lt.mpr y) ⟨rfl, R0⟩)) (fun y => ?_))
  have y2 : v1 < nI n := Int32.not_le.mp y
  obtain ⟨j, hj, rfl⟩ := nI_of (x := v1) z
  have jn : j < n := (nI_ltI hj (by omega)).mp y2
  have ij : vp_in (nI j) 40 := vp_in_nI (by omega) (by omega)
  exact ⟨ij, br_f z (br_t y2 ⟨ij, rfl, R0⟩)⟩
theorem i_vc_height {k : Nat} {u : SX} {v : SY} (I : i_Rel k u v) (hk : k + 3 ≤ 1536) : wpX_height (fun r => wpY_height (fun r' => r' = r ∧ i_Rel (k + 3) u v) v) u := by
  refine wr_el (P := fun u v => wpX_height (fun r => wpY_height (fun r' => r' = r ∧ i_Rel (k + 3) u v) v) u) I ?_
  intro f_count f_tall f_open f_bundle f_compiled f_cycle f_place f_loopDepth f_effects a_kinds a_arguments a_slotSource a_slotValue a_holder a_ready a_lastWrite a_lastTrigger a_filled a_source a_constant a_target a_extra a_opened a_registers a_cells a_operands a_triggers a_starts a_oldResult a_newResult a_resultAt a_loops a_setCounts a_putCounts g_count g_top g_open b_variable b_memory b_kind b_argument b_sets b_puts b_stack b_begin b_left R
  have R0 : i_Rel (k + 3) (f_count, f_tall, f_open, f_bundle, f_compiled, f_cycle, f_place, f_loopDepth, f_effects, a_kinds, a_arguments, a_slotSource, a_slotValue, a_holder, a_ready, a_lastWrite, a_lastTrigger, a_filled, a_source, a_constant, a_target, a_extra, a_opened, a_registers, a_cells, a_operands, a_triggers, a_starts, a_oldResult, a_newResult, a_resultAt, a_loops, a_setCounts, a_putCounts) (g_count, g_top, g_open, b_variable, b_memory, b_kind, b_argument, b_sets, b_puts, b_stack, b_begin, b_left) := wr_in R
  obtain ⟨n, rfl, rfl, rfl, rfl, V, rfl, rfl, hv, rfl, rfl, rfl, hc⟩ := R
  unfold wpX_height wpY_height
  exact yw_high V ⟨rfl, R0⟩
theorem i_vc_openRepeats {k : Nat} {u : SX} {v : SY} (I : i_Rel k u v) (hk : k + 3 ≤ 1536) : wpX_openRepeats (fun r => wpY_openRepeats (fun r' => r' = r ∧ i_Rel (k + 3) u v) v) u := by
  refine wr_el (P := fun u v => wpX_openRepeats (fun r => wpY_openRepeats (fun r' => r' = r ∧ i_Rel (k + 3) u v) v) u) I ?_
  intro f_count f_tall f_open f_bundle f_compiled f_cycle f_place f_loopDepth f_effects a_kinds a_arguments a_slotSource a_slotValue a_holder a_ready a_lastWrite a_lastTrigger a_filled a_source a_constant a_target a_extra a_opened a_registers a_cells a_operands a_triggers a_starts a_oldResult a_newResult a_resultAt a_loops a_setCounts a_putCounts g_count g_top g_open b_variable b_memory b_kind b_argument b_sets b_puts b_stack b_begin b_left R
  have R0 : i_Rel (k + 3) (f_count, f_tall, f_open, f_bundle, f_compiled, f_cycle, f_place, f_loopDepth, f_effects, a_kinds, a_arguments, a_slotSource, a_slotValue, a_holder, a_ready, a_lastWrite, a_lastTrigger, a_filled, a_source, a_constant, a_target, a_extra, a_opened, a_registers, a_cells, a_operands, a_triggers, a_starts, a_oldResult, a_newResult, a_resultAt, a_loops, a_setCounts, a_putCounts) (g_count, g_top, g_open, b_variable, b_memory, b_kind, b_argument, b_sets, b_puts, b_stack, b_begin, b_left) := wr_in R
  obtain ⟨n, rfl, rfl, rfl, rfl, V, rfl, rfl, hv, rfl, rfl, rfl, hc⟩ := R
  unfold wpX_openRepeats wpY_openRepeats
  exact yw_unended V ⟨rfl, R0⟩
theorem i_vc_complete {k : Nat} {u : SX} {v : SY} (I : i_Rel k u v) (hk : k + 3 ≤ 1536) : wpX_complete (fun r => wpY_complete (fun r' => r' = r ∧ i_Rel (k + 3) u v) v) u := by
  refine wr_el (P := fun u v => wpX_complete (fun r => wpY_complete (fun r' => r' = r ∧ i_Rel (k + 3) u v) v) u) I ?_
  intro f_count f_tall f_open f_bundle f_compiled f_cycle f_place f_loopDepth f_effects a_kinds a_arguments a_slotSource a_slotValue a_holder a_ready a_lastWrite a_lastTrigger a_filled a_source a_constant a_target a_extra a_opened a_registers a_cells a_operands a_triggers a_starts a_oldResult a_newResult a_resultAt a_loops a_setCounts a_putCounts g_count g_top g_open b_variable b_memory b_kind b_argument b_sets b_puts b_stack b_begin b_left R
  have R0 : i_Rel (k + 3) (f_count, f_tall, f_open, f_bundle, f_compiled, f_cycle, f_place, f_loopDepth, f_effects, a_kinds, a_arguments, a_slotSource, a_slotValue, a_holder, a_ready, a_lastWrite, a_lastTrigger, a_filled, a_source, a_constant, a_target, a_extra, a_opened, a_registers, a_cells, a_operands, a_triggers, a_starts, a_oldResult, a_newResult, a_resultAt, a_loops, a_setCounts, a_putCounts) (g_count, g_top, g_open, b_variable, b_memory, b_kind, b_argument, b_sets, b_puts, b_stack, b_begin, b_left) := wr_in R
  obtain ⟨n, rfl, rfl, rfl, rfl, V, rfl, rfl, hv, rfl, rfl, rfl, hc⟩ := R
  have hb := wd_bnd V n (Nat.le_refl _)
  unfold wpX_complete wpY_complete
  refine pk_eq (wd_H a_kinds n) 0 (fun z => pk_eq (wd_N a_kinds n) 0 (fun y => ?_) (fun y => ?_)) (fun z => ?_)
  · exact yw_whole V (fun _ _ => br_f (by decide) ⟨rfl, R0⟩) (fun q => absurd ⟨z, y⟩ q)
  · exact yw_whole V (fun _ q => absurd q y) (fun _ => br_t rfl ⟨rfl, R0⟩)
  · exact yw_whole V (fun q _ => absurd q z) (fun _ => br_t rfl ⟨rfl, R0⟩)
theorem i_vc_variable {k : Nat} {u : SX} {v : SY} (I : i_Rel k u v) (hk : k + 3 ≤ 1536) (v1 : Int32) : wpX_variable (fun r => wpY_variable (fun r' => r' = r ∧ i_Rel (k + 3) u v) v v1) u v1 := by
  refine wr_el (P := fun u v => wpX_variable (fun r => wpY_variable (fun r' => r' = r ∧ i_Rel (k + 3) u v) v v1) u v1) I ?_
  intro f_count f_tall f_open f_bundle f_compiled f_cycle f_place f_loopDepth f_effects a_kinds a_arguments a_slotSource a_slotValue a_holder a_ready a_lastWrite a_lastTrigger a_filled a_source a_constant a_target a_extra a_opened a_registers a_cells a_operands a_triggers a_starts a_oldResult a_newResult a_resultAt a_loops a_setCounts a_putCounts g_count g_top g_open b_variable b_memory b_kind b_argument b_sets b_puts b_stack b_begin b_left R
  have R0 : i_Rel (k + 3) (f_count, f_tall, f_open, f_bundle, f_compiled, f_cycle, f_place, f_loopDepth, f_effects, a_kinds, a_arguments, a_slotSource, a_slotValue, a_holder, a_ready, a_lastWrite, a_lastTrigger, a_filled, a_source, a_constant, a_target, a_extra, a_opened, a_registers, a_cells, a_operands, a_triggers, a_starts, a_oldResult, a_newResult, a_resultAt, a_loops, a_setCounts, a_putCounts) (g_count, g_top, g_open, b_variable, b_memory, b_kind, b_argument, b_sets, b_puts, b_stack, b_begin, b_left) := wr_in R
  obtain ⟨n, rfl, rfl, rfl, rfl, V, rfl, rfl, hv, rfl, rfl, rfl, hc⟩ := R
  unfold wpX_variable wpY_variable
  refine br_c (fun z => br_t z ⟨rfl, R0⟩) (fun z => br_c (fun y => br_f z (br_f (Int32.not_le.mpr y) ⟨rfl, R0⟩)) (fun y => ?_))
  have y2 : v1 ≤ 5 := Int32.not_lt.mp y
  obtain ⟨j, hj, rfl⟩ := nI_of2 (x := v1) (M := 5) (n := 5) (by decide) z y2
  refine ⟨vp_in_nI (by omega) (by omega), br_f z (br_t y2 ⟨vp_in_nI (by omega) (by omega), ?_, R0⟩)⟩
  rw [nI_clamp (n := j) (by omega)]
  exact (hv j (by omega)).symm
theorem i_vc_cell {k : Nat} {u : SX} {v : SY} (I : i_Rel k u v) (hk : k + 3 ≤ 1536) (v1 : Int32) : wpX_cell (fun r => wpY_cell (fun r' => r' = r ∧ i_Rel (k + 3) u v) v v1) u v1 := by
  refine wr_el (P := fun u v => wpX_cell (fun r => wpY_cell (fun r' => r' = r ∧ i_Rel (k + 3) u v) v v1) u v1) I ?_
  intro f_count f_tall f_open f_bundle f_compiled f_cycle f_place f_loopDepth f_effects a_kinds a_arguments a_slotSource a_slotValue a_holder a_ready a_lastWrite a_lastTrigger a_filled a_source a_constant a_target a_extra a_opened a_registers a_cells a_operands a_triggers a_starts a_oldResult a_newResult a_resultAt a_loops a_setCounts a_putCounts g_count g_top g_open b_variable b_memory b_kind b_argument b_sets b_puts b_stack b_begin b_left R
  have R0 : i_Rel (k + 3) (f_count, f_tall, f_open, f_bundle, f_compiled, f_cycle, f_place, f_loopDepth, f_effects, a_kinds, a_arguments, a_slotSource, a_slotValue, a_holder, a_ready, a_lastWrite, a_lastTrigger, a_filled, a_source, a_constant, a_target, a_extra, a_opened, a_registers, a_cells, a_operands, a_triggers, a_starts, a_oldResult, a_newResult, a_resultAt, a_loops, a_setCounts, a_putCounts) (g_count, g_top, g_open, b_variable, b_memory, b_kind, b_argument, b_sets, b_puts, b_stack, b_begin, b_left) := wr_in R
  obtain ⟨n, rfl, rfl, rfl, rfl, V, rfl, rfl, hv, rfl, rfl, rfl, hc⟩ := R
  unfold wpX_cell wpY_cell
  refine br_c (fun z => br_t z ⟨rfl, R0⟩) (fun z => br_c (fun y => br_f z (br_f (Int32.not_le.mpr y) ⟨rfl, R0⟩)) (fun y => ?_))
  have y2 : v1 ≤ 15 := Int32.not_lt.mp y
  obtain ⟨j, hj, rfl⟩ := nI_of2 (x := v1) (M := 15) (n := 15) (by decide) z y2
  exact ⟨vp_in_nI (by omega) (by omega), br_f z (br_t y2 ⟨vp_in_nI (by omega) (by omega), rfl, R0⟩)⟩
theorem i_vc_setsOf {k : Nat} {u : SX} {v : SY} (I : i_Rel k u v) (hk : k + 3 ≤ 1536) (v1 : Int32) : wpX_setsOf (fun r => wpY_setsOf (fun r' => r' = r ∧ i_Rel (k + 3) u v) v v1) u v1 := by
  refine wr_el (P := fun u v => wpX_setsOf (fun r => wpY_setsOf (fun r' => r' = r ∧ i_Rel (k + 3) u v) v v1) u v1) I ?_
  intro f_count f_tall f_open f_bundle f_compiled f_cycle f_place f_loopDepth f_effects a_kinds a_arguments a_slotSource a_slotValue a_holder a_ready a_lastWrite a_lastTrigger a_filled a_source a_constant a_target a_extra a_opened a_registers a_cells a_operands a_triggers a_starts a_oldResult a_newResult a_resultAt a_loops a_setCounts a_putCounts g_count g_top g_open b_variable b_memory b_kind b_argument b_sets b_puts b_stack b_begin b_left R
  have R0 : i_Rel (k + 3) (f_count, f_tall, f_open, f_bundle, f_compiled, f_cycle, f_place, f_loopDepth, f_effects, a_kinds, a_arguments, a_slotSource, a_slotValue, a_holder, a_ready, a_lastWrite, a_lastTrigger, a_filled, a_source, a_constant, a_target, a_extra, a_opened, a_registers, a_cells, a_operands, a_triggers, a_starts, a_oldResult, a_newResult, a_resultAt, a_loops, a_setCounts, a_putCounts) (g_count, g_top, g_open, b_variable, b_memory, b_kind, b_argument, b_sets, b_puts, b_stack, b_begin, b_left) := wr_in R
  obtain ⟨n, rfl, rfl, rfl, rfl, V, rfl, rfl, hv, rfl, rfl, rfl, hc⟩ := R
  unfold wpX_setsOf wpY_setsOf
  refine br_c (fun z => br_t z ⟨rfl, R0⟩) (fun z => br_c (fun y => br_f z (br_f (Int32.not_le.mpr y) ⟨rfl, R0⟩)) (fun y => ?_))
  have y2 : v1 ≤ 5 := Int32.not_lt.mp y
  obtain ⟨j, hj, rfl⟩ := nI_of2 (x := v1) (M := 5) (n := 5) (by decide) z y2
  exact ⟨vp_in_nI (by omega) (by omega), br_f z (br_t y2 ⟨vp_in_nI (by omega) (by omega), rfl, R0⟩)⟩
theorem i_vc_putsOf {k : Nat} {u : SX} {v : SY} (I : i_Rel k u v) (hk : k + 3 ≤ 1536) (v1 : Int32) : wpX_putsOf (fun r => wpY_putsOf (fun r' => r' = r ∧ i_Rel (k + 3) u v) v v1) u v1 := by
  refine wr_el (P := fun u v => wpX_putsOf (fun r => wpY_putsOf (fun r' => r' = r ∧ i_Rel (k + 3) u v) v v1) u v1) I ?_
  intro f_count f_tall f_open f_bundle f_compiled f_cycle f_place f_loopDepth f_effects a_kinds a_arguments a_slotSource a_slotValue a_holder a_ready a_lastWrite a_lastTrigger a_filled a_source a_constant a_target a_extra a_opened a_registers a_cells a_operands a_triggers a_starts a_oldResult a_newResult a_resultAt a_loops a_setCounts a_putCounts g_count g_top g_open b_variable b_memory b_kind b_argument b_sets b_puts b_stack b_begin b_left R
  have R0 : i_Rel (k + 3) (f_count, f_tall, f_open, f_bundle, f_compiled, f_cycle, f_place, f_loopDepth, f_effects, a_kinds, a_arguments, a_slotSource, a_slotValue, a_holder, a_ready, a_lastWrite, a_lastTrigger, a_filled, a_source, a_constant, a_target, a_extra, a_opened, a_registers, a_cells, a_operands, a_triggers, a_starts, a_oldResult, a_newResult, a_resultAt, a_loops, a_setCounts, a_putCounts) (g_count, g_top, g_open, b_variable, b_memory, b_kind, b_argument, b_sets, b_puts, b_stack, b_begin, b_left) := wr_in R
  obtain ⟨n, rfl, rfl, rfl, rfl, V, rfl, rfl, hv, rfl, rfl, rfl, hc⟩ := R
  unfold wpX_putsOf wpY_putsOf
  refine br_c (fun z => br_t z ⟨rfl, R0⟩) (fun z => br_c (fun y => br_f z (br_f (Int32.not_le.mpr y) ⟨rfl, R0⟩)) (fun y => ?_))
  have y2 : v1 ≤ 15 := Int32.not_lt.mp y
  obtain ⟨j, hj, rfl⟩ := nI_of2 (x := v1) (M := 15) (n := 15) (by decide) z y2
  exact ⟨vp_in_nI (by omega) (by omega), br_f z (br_t y2 ⟨vp_in_nI (by omega) (by omega), rfl, R0⟩)⟩
theorem i_vc_setVariable {k : Nat} {u : SX} {v : SY} (I : i_Rel k u v) (hk : k + 3 ≤ 1536) (v1 : Int32) (v2 : Int32) : wpX_setVariable (fun r u' => wpY_setVariable (fun r' v' => r' = r ∧ i_Rel (k + 3) u' v') v v1 v2) u v1 v2 := by
  refine wr_el (P := fun u v => wpX_setVariable (fun r u' => wpY_setVariable (fun r' v' => r' = r ∧ i_Rel (k + 3) u' v') v v1 v2) u v1 v2) I ?_
  intro f_count f_tall f_open f_bundle f_compiled f_cycle f_place f_loopDepth f_effects a_kinds a_arguments a_slotSource a_slotValue a_holder a_ready a_lastWrite a_lastTrigger a_filled a_source a_constant a_target a_extra a_opened a_registers a_cells a_operands a_triggers a_starts a_oldResult a_newResult a_resultAt a_loops a_setCounts a_putCounts g_count g_top g_open b_variable b_memory b_kind b_argument b_sets b_puts b_stack b_begin b_left R
  have R0 : i_Rel (k + 3) (f_count, f_tall, f_open, f_bundle, f_compiled, f_cycle, f_place, f_loopDepth, f_effects, a_kinds, a_arguments, a_slotSource, a_slotValue, a_holder, a_ready, a_lastWrite, a_lastTrigger, a_filled, a_source, a_constant, a_target, a_extra, a_opened, a_registers, a_cells, a_operands, a_triggers, a_starts, a_oldResult, a_newResult, a_resultAt, a_loops, a_setCounts, a_putCounts) (g_count, g_top, g_open, b_variable, b_memory, b_kind, b_argument, b_sets, b_puts, b_stack, b_begin, b_left) := wr_in R
  obtain ⟨n, rfl, rfl, rfl, rfl, V, rfl, rfl, hv, rfl, rfl, rfl, hc⟩ := R
  unfold wpX_setVariable wpY_setVariable
  refine br_c (fun z => br_t z ⟨rfl, R0⟩) (fun z => br_c (fun y => ?_) (fun y => br_f z (br_f y ⟨rfl, R0⟩)))
  obtain ⟨j, hj, rfl⟩ := nI_of2 (x := v1) (M := 5) (n := 5) (by decide) z y
  have ec : (nI j).toNatClampNeg = j := nI_clamp (by omega)
  refine ⟨vp_in_nI (by omega) (by omega), nm_r (e' := upd a_registers j v2) (by rw [ec]) (br_f z (br_t y ⟨vp_in_nI (by omega) (by omega), nm_r (e' := upd b_variable j v2) (by rw [ec]) ⟨rfl, ?_⟩⟩))⟩
  refine wr_in ⟨n, rfl, rfl, rfl, rfl, V, rfl, rfl, fun w hw => ?_, rfl, rfl, rfl, hc⟩
  by_cases q : w = j
  · rw [q, pk_us, pk_us]
  · rw [pk_un q, pk_un q]; exact hv w hw
theorem i_vc_setCell {k : Nat} {u : SX} {v : SY} (I : i_Rel k u v) (hk : k + 3 ≤ 1536) (v1 : Int32) (v2 : Int32) : wpX_setCell (fun r u' => wpY_setCell (fun r' v' => r' = r ∧ i_Rel (k + 3) u' v') v v1 v2) u v1 v2 := by
  refine wr_el (P := fun u v => wpX_setCell (fun r u' => wpY_setCell (fun r' v' => r' = r ∧ i_Rel (k + 3) u' v') v v1 v2) u v1 v2) I ?_
  intro f_count f_tall f_open f_bundle f_compiled f_cycle f_place f_loopDepth f_effects a_kinds a_arguments a_slotSource a_slotValue a_holder a_ready a_lastWrite a_lastTrigger a_filled a_source a_constant a_target a_extra a_opened a_registers a_cells a_operands a_triggers a_starts a_oldResult a_newResult a_resultAt a_loops a_setCounts a_putCounts g_count g_top g_open b_variable b_memory b_kind b_argument b_sets b_puts b_stack b_begin b_left R
  have R0 : i_Rel (k + 3) (f_count, f_tall, f_open, f_bundle, f_compiled, f_cycle, f_place, f_loopDepth, f_effects, a_kinds, a_arguments, a_slotSource, a_slotValue, a_holder, a_ready, a_lastWrite, a_lastTrigger, a_filled, a_source, a_constant, a_target, a_extra, a_opened, a_registers, a_cells, a_operands, a_triggers, a_starts, a_oldResult, a_newResult, a_resultAt, a_loops, a_setCounts, a_putCounts) (g_count, g_top, g_open, b_variable, b_memory, b_kind, b_argument, b_sets, b_puts, b_stack, b_begin, b_left) := wr_in R
  obtain ⟨n, rfl, rfl, rfl, rfl, V, rfl, rfl, hv, rfl, rfl, rfl, hc⟩ := R
  unfold wpX_setCell wpY_setCell
  refine br_c (fun z => br_t z ⟨rfl, R0⟩) (fun z => br_c (fun y => ?_) (fun y => br_f z (br_f y ⟨rfl, R0⟩)))
  obtain ⟨j, hj, rfl⟩ := nI_of2 (x := v1) (M := 15) (n := 15) (by decide) z y
  exact ⟨vp_in_nI (by omega) (by omega), nm_e (br_f z (br_t y ⟨vp_in_nI (by omega) (by omega), nm_e ⟨rfl, wr_in ⟨n, rfl, rfl, rfl, rfl, V, rfl, rfl, hv, rfl, rfl, rfl, hc⟩⟩⟩))⟩
/-! run -/
section
variable {g_count : Int32} {g_top : Int32} {g_open : Int32} {b_variable : Nat → Int32} {b_memory : Nat → Int32} {b_kind : Nat → Int32} {b_argument : Nat → Int32} {b_sets : Nat → Int32} {b_puts : Nat → Int32} {b_stack : Nat → Int32} {b_begin : Nat → Int32} {b_left : Nat → Int32} {post : Int32 → SY → Prop}
theorem yr_r32 (hp : ∃ n67 : Nat, wY_run_67 post n67 0 0 0 g_count 0 0 b_variable b_memory b_kind b_argument b_sets (rn_z 16 b_puts) b_stack b_begin b_left) : ∃ n32 : Nat, wY_run_32 post g_count g_top g_open n32 0 b_variable b_memory b_kind b_argument b_sets b_puts b_stack b_begin b_left := by
  refine loop_0 (σ := (Nat → Int32)) (fun n i s => wY_run_32 post g_count g_top g_open n (nI i) b_variable b_memory b_kind b_argument b_sets s b_stack b_begin b_left) (fun i s => s = rn_z i b_puts) 16 b_puts (rn_z0 _).symm ?_ ?_
  · intro n s hs
    subst hs
    exact br_t (nI_le (a := 16) (b := 16) (by omega) (by omega)) hp
  · intro n i s hi hs K
    have ec : (nI i).toNatClampNeg = i := nI_clamp (by omega)
    have iv : vp_in (nI i) 16 := vp_in_nI (by omega) (by omega)
    exact br_f (nI_ge (b := 16) (by omega) (by omega)) ⟨iv, nm_r (e' := upd s i 0) (by rw [ec]) (nm_r (e' := nI (i + 1)) (nI_1 i) (K (upd s i 0) (by rw [hs, rn_zs])))⟩
theorem yr_r11 (hp : ∃ n67 : Nat, wY_run_67 post n67 0 0 0 g_count 0 0 b_variable b_memory b_kind b_argument (rn_z 6 b_sets) (rn_z 16 b_puts) b_stack b_begin b_left) : ∃ n11 : Nat, wY_run_11 post g_count g_top g_open n11 0 b_variable b_memory b_kind b_argument b_sets b_puts b_stack b_begin b_left := by
  refine loop_0 (σ := (Nat → Int32)) (fun n i s => wY_run_11 post g_count g_top g_open n (nI i) b_variable b_memory b_kind b_argument s b_puts b_stack b_begin b_left) (fun i s => s = rn_z i b_sets) 6 b_sets (rn_z0 _).symm ?_ ?_
  · intro n s hs
    subst hs
    exact br_t (nI_le (a := 6) (b := 6) (by omega) (by omega)) (yr_r32 hp)
  · intro n i s hi hs K
    have ec : (nI i).toNatClampNeg = i := nI_clamp (by omega)
    have iv : vp_in (nI i) 6 := vp_in_nI (by omega) (by omega)
    exact br_f (nI_ge (b := 6) (by omega) (by omega)) ⟨iv, nm_r (e' := upd s i 0) (by rw [ec]) (nm_r (e' := nI (i + 1)) (nI_1 i) (K (upd s i 0) (by rw [hs, rn_zs])))⟩
end
section
variable {f_count : Int32} {f_tall : Int32} {f_open : Int32} {f_bundle : Int32} {f_compiled : Int32} {f_cycle : Int32} {f_place : Int32} {f_loopDepth : Int32} {f_effects : Int32} {a_kinds : Nat → Int32} {a_arguments : Nat → Int32} {a_slotSource : Nat → Int32} {a_slotValue : Nat → Int32} {a_holder : Nat → Int32} {a_ready : Nat → Int32} {a_lastWrite : Nat → Int32} {a_lastTrigger : Nat → Int32} {a_filled : Nat → Int32} {a_source : Nat → Int32} {a_constant : Nat → Int32} {a_target : Nat → Int32} {a_extra : Nat → Int32} {a_opened : Nat → Int32} {a_registers : Nat → Int32} {a_cells : Nat → Int32} {a_operands : Nat → Int32} {a_triggers : Nat → Int32} {a_starts : Nat → Int32} {a_oldResult : Nat → Int32} {a_newResult : Nat → Int32} {a_resultAt : Nat → Int32} {a_loops : Nat → Int32} {a_setCounts : Nat → Int32} {a_putCounts : Nat → Int32} {g_count : Int32} {g_top : Int32} {g_open : Int32} {b_variable : Nat → Int32} {b_memory : Nat → Int32} {b_kind : Nat → Int32} {b_argument : Nat → Int32} {b_sets : Nat → Int32} {b_puts : Nat → Int32} {b_stack : Nat → Int32} {b_begin : Nat → Int32} {b_left : Nat → Int32} {k n : Nat}
theorem wr_run27 (V : wd_V a_kinds a_arguments n) (hH : wd_H a_kinds n = 0) (hN : wd_N a_kinds n = 0) (hv : ∀ v, v < 6 → a_registers v = b_variable v) (hf : ¬ f_compiled = 0) (RK : cs_RK (cs_nb (cs_C a_kinds a_arguments n)) a_filled a_source a_constant a_target a_extra) :
    wX_run_27 (fun r u' => wpY_run (fun r' v' => r' = r ∧ i_Rel (k + 3) u' v') (nI n, g_top, g_open, b_variable, a_cells, a_kinds, a_arguments, a_setCounts, a_putCounts, b_stack, b_begin, b_left)) (nI n) (nI (wd_H a_kinds n)) (nI (wd_N a_kinds n)) (nI ((cs_fr (cs_C a_kinds a_arguments n) + 1) / 2)) f_compiled f_cycle f_place f_loopDepth f_effects a_kinds a_arguments a_slotSource a_slotValue a_holder a_ready a_lastWrite a_lastTrigger a_filled a_source a_constant a_target a_extra a_opened a_registers a_cells a_operands a_triggers a_starts a_oldResult a_newResult a_resultAt a_loops a_setCounts a_putCounts := by
  have I := cs_IC V n (Nat.le_refl _)
  have n40 := V.1
  have fF := cs_frnb (cs_C a_kinds a_arguments n)
  have i4 := I.2.2.2
  have H := sm_main (nb := (cs_fr (cs_C a_kinds a_arguments n) + 1) / 2) (F := cs_nb (cs_C a_kinds a_arguments n)) V hN (by omega) fF rfl (by omega) (81 * n)
  have S0 : sm_S (cs_C a_kinds a_arguments 0) (fun j => j < wd_H a_kinds 0) (0, 0, 0, a_registers, a_cells, a_operands, rn_z 3 a_newResult, fun _ => 0, a_loops, rn_z 6 a_setCounts, rn_z 16 a_putCounts) b_stack := ⟨fun s hs => absurd hs (Nat.not_lt_zero _), fun u hu hn => absurd rfl hn⟩
  have L0 : sm_L a_kinds a_arguments n ((cs_fr (cs_C a_kinds a_arguments n) + 1) / 2) 0 (0, 0, 0, a_registers, a_cells, a_operands, rn_z 3 a_newResult, fun _ => 0, a_loops, rn_z 6 a_setCounts, rn_z 16 a_putCounts) b_begin b_left (fun _ => 0) (fun _ => 0) := by
    refine ⟨rfl, fun d hd => absurd hd (Nat.not_lt_zero _), ?_⟩
    show 0 + 81 * ((cs_fr (cs_C a_kinds a_arguments n) + 1) / 2 - 0 / 2) ≤ 81 * ((cs_fr (cs_C a_kinds a_arguments n) + 1) / 2)
    omega
  have D0 : sm_D b_variable a_cells (rn_z 6 a_setCounts) (rn_z 16 a_putCounts) 0 (0, 0, 0, a_registers, a_cells, a_operands, rn_z 3 a_newResult, fun _ => 0, a_loops, rn_z 6 a_setCounts, rn_z 16 a_putCounts) := ⟨hv, rfl, rfl, rfl, rfl⟩
  obtain ⟨v', m', s', p', dn', hE, hY⟩ := H 0 _ b_variable a_cells (rn_z 6 a_setCounts) (rn_z 16 a_putCounts) b_stack b_begin b_left 0 (fun _ => 0) (fun _ => 0) 0 (Nat.zero_le _) (by
    show 81 * (n - 0) ≤ 81 * n
    omega) (by omega) D0 S0 L0
  have e0 : cs_fr (cs_C a_kinds a_arguments 0) = 0 := rfl
  rw [e0] at hE
  unfold wX_run_27
  refine xw_exec (Post := sm_D v' m' s' p' dn') RK (cs_CBnb I.1) (by omega) (hE.1 rfl) ?_
  intro q pl g s o r D
  obtain ⟨d1, d2, d3, d4, d5⟩ := D
  show wpY_run (fun r' v' => r' = rn_ef q ∧ i_Rel (k + 3) _ v') _
  unfold wpY_run
  refine yw_whole V (fun _ _ => br_f (by decide) ?_) (fun z => absurd ⟨hH, hN⟩ z)
  refine yr_r11 ⟨81 * n + 1, ?_⟩
  refine hY _ (fun tp op stk beg lft => ?_) (81 * n + 1) (by omega)
  refine ⟨d5.symm, ?_⟩
  exact wr_in ⟨n, rfl, rfl, rfl, rfl, V, rfl, rfl, d1, d2, d3, d4, Or.inr ⟨RK, rfl⟩⟩
end
theorem i_vc_run {k : Nat} {u : SX} {v : SY} (I : i_Rel k u v) (hk : k + 3 ≤ 1536) : wpX_run (fun r u' => wpY_run (fun r' v' => r' = r ∧ i_Rel (k + 3) u' v') v) u := by
  refine wr_el (P := fun u v => wpX_run (fun r u' => wpY_run (fun r' v' => r' = r ∧ i_Rel (k + 3) u' v') v) u) I ?_
  intro f_count f_tall f_open f_bundle f_compiled f_cycle f_place f_loopDepth f_effects a_kinds a_arguments a_slotSource a_slotValue a_holder a_ready a_lastWrite a_lastTrigger a_filled a_source a_constant a_target a_extra a_opened a_registers a_cells a_operands a_triggers a_starts a_oldResult a_newResult a_resultAt a_loops a_setCounts a_putCounts g_count g_top g_open b_variable b_memory b_kind b_argument b_sets b_puts b_stack b_begin b_left R
  have R0 : i_Rel (k + 3) (f_count, f_tall, f_open, f_bundle, f_compiled, f_cycle, f_place, f_loopDepth, f_effects, a_kinds, a_arguments, a_slotSource, a_slotValue, a_holder, a_ready, a_lastWrite, a_lastTrigger, a_filled, a_source, a_constant, a_target, a_extra, a_opened, a_registers, a_cells, a_operands, a_triggers, a_starts, a_oldResult, a_newResult, a_resultAt, a_loops, a_setCounts, a_putCounts) (g_count, g_top, g_open, b_variable, b_memory, b_kind, b_argument, b_sets, b_puts, b_stack, b_begin, b_left) := wr_in R
  obtain ⟨n, rfl, rfl, rfl, rfl, V, rfl, rfl, hv, rfl, rfl, rfl, hc⟩ := R
  have hb := wd_bnd V n (Nat.le_refl _)
  unfold wpX_run
  refine pk_eq (wd_H a_kinds n) 0 (fun z => pk_eq (wd_N a_kinds n) 0 (fun y => br_c (fun w => ?_) (fun w => ?_)) (fun y => ?_)) (fun z => ?_)
  · refine xw_compile V ?_
    intro f_bundle a_slotSource a_slotValue a_holder a_ready a_lastWrite a_lastTrigger a_filled a_source a_constant a_target a_extra a_opened RK eb
    subst eb
    exact wr_run27 V z y hv (by decide) RK
  · obtain ⟨RK, eb⟩ := hc.resolve_left w
    subst eb
    exact wr_run27 V z y hv w RK
  · unfold wpY_run
    exact yw_whole V (fun _ q => absurd q y) (fun _ => br_t rfl ⟨rfl, R0⟩)
  · unfold wpY_run
    exact yw_whole V (fun q _ => absurd q z) (fun _ => br_t rfl ⟨rfl, R0⟩)
end
