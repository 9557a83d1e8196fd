section
/-! pure rows to paste: stores, nI and lN arithmetic, masks, shifts, narrowing, branches by naturals (pk_le, pk_lt, pk_eq), loops (lp1 .. lp16: the measure of the state; rp1 ..: recursion), negatives. Take what you need -/
theorem pk_us {f : Nat → Int32} {k : Nat} {x : Int32} : upd f k x k = x := if_pos rfl
theorem pk_un {f : Nat → Int32} {k j : Nat} {x : Int32} (h : j ≠ k) : upd f k x j = f j := if_neg h
theorem pk_uLs {f : Nat → Int64} {k : Nat} {x : Int64} : vp_updL f k x k = x := if_pos rfl
theorem pk_uLn {f : Nat → Int64} {k j : Nat} {x : Int64} (h : j ≠ k) : vp_updL f k x j = f j := if_neg h
theorem pk_sub {a b : Nat} (h : b ≤ a) : nI a - nI b = nI (a - b) := by
  obtain ⟨c, rfl⟩ : ∃ c, a = c + b := ⟨a - b, by omega⟩
  rw [← nI_add, Int32.add_sub_cancel, Nat.add_sub_cancel]
theorem pk_m1 (n : Nat) : nI (n + 1) + (-1) = nI n := by
  rw [← nI_1, Int32.add_assoc, show (1 : Int32) + (-1) = 0 from rfl, Int32.add_zero]
theorem pk_mul (a b : Nat) : nI a * nI b = nI (a * b) := (Int32.ofNat_mul a b).symm
theorem pk_div {a d : Nat} (ha : a < 2 ^ 31) (h0 : 0 < d) (hd : d < 2 ^ 31) : nI a / nI d = nI (a / d) := by
  apply Int32.toInt_inj.mp
  rw [lg_idiv_nonneg (by rw [nI_toInt ha]; omega) (by rw [nI_toInt hd]; omega), nI_toInt ha, nI_toInt hd, nI_toInt (Nat.lt_of_le_of_lt (Nat.div_le_self a d) ha)]
  first | rfl | exact (Int.natCast_ediv _ _).symm
theorem pk_rem {a d : Nat} (ha : a < 2 ^ 31) (h0 : 0 < d) (hd : d < 2 ^ 31) : nI a - nI a / nI d * nI d = nI (a % d) := by
  rw [pk_div ha h0 hd, pk_mul, pk_sub (Nat.div_mul_le_self a d)]
  exact congrArg nI (by have := Nat.div_add_mod' a d; omega)
theorem pk_sub_toInt {a b : Nat} (ha : a < 2 ^ 30) (hb : b < 2 ^ 30) : (nI a - nI b).toInt = (a : Int) - b := by
  rw [Int32.toInt_sub, nI_toInt (by omega), nI_toInt (by omega)]
  exact Int.bmod_eq_of_le (by omega) (by omega)
theorem pk_sneg {a b : Nat} (hb : b < 2 ^ 30) (h : a < b) : nI a - nI b < 0 := by
  rw [Int32.lt_iff_toInt_lt, pk_sub_toInt (by omega) hb, show (0 : Int32).toInt = 0 from by decide]
  omega
theorem pk_ix (x : Int32) {n : Nat} (hn : n < 2 ^ 31) : x < 0 ∨ nI n ≤ x ∨ ∃ j : Nat, j < n ∧ x = nI j := by
  by_cases h : x < 0
  · exact Or.inl h
  · obtain ⟨j, hj, rfl⟩ := nI_of h
    by_cases h2 : j < n
    · exact Or.inr (Or.inr ⟨j, h2, rfl⟩)
    · exact Or.inr (Or.inl (nI_le (by omega) hj))
theorem pk_le {x y : Int32} {A B : Prop} (a b : Nat) (f : a ≤ b → A) (g : b < a → B) (hx : x = nI a := by rfl) (hy : y = nI b := by rfl) (ha : a < 2 ^ 31 := by omega) (hb : b < 2 ^ 31 := by omega) : (x ≤ y → A) ∧ (¬ x ≤ y → B) := by
  subst hx hy
  rw [nI_leI ha hb]
  exact ⟨f, fun z => g (by omega)⟩
theorem pk_lt {x y : Int32} {A B : Prop} (a b : Nat) (f : a < b → A) (g : b ≤ a → B) (hx : x = nI a := by rfl) (hy : y = nI b := by rfl) (ha : a < 2 ^ 31 := by omega) (hb : b < 2 ^ 31 := by omega) : (x < y → A) ∧ (¬ x < y → B) := by
  subst hx hy
  rw [nI_ltI ha hb]
  exact ⟨f, fun z => g (by omega)⟩
theorem pk_eq {x y : Int32} {A B : Prop} (a b : Nat) (f : a = b → A) (g : a ≠ b → B) (hx : x = nI a := by rfl) (hy : y = nI b := by rfl) (ha : a < 2 ^ 31 := by omega) (hb : b < 2 ^ 31 := by omega) : (x = y → A) ∧ (¬ x = y → B) := by
  subst hx hy
  rw [nI_eq ha hb]
  exact ⟨f, g⟩
theorem pk_in {x : Int32} (n N : Nat) (h : n < N) (hx : x = nI n := by rfl) (hN : N < 2 ^ 31 := by omega) : vp_in x N := by
  subst hx
  exact vp_in_nI h hN
theorem pk_cl {x : Int32} (n : Nat) (hx : x = nI n := by rfl) (h : n < 2 ^ 31 := by omega) : x.toNatClampNeg = n := by
  subst hx
  exact nI_clamp h
theorem pk_tn {n : Nat} (h : n < 2 ^ 32) : (nI n).toBitVec.toNat = n := Nat.mod_eq_of_lt h
theorem pk_and (x : Int32) {m : Int32} (k : Nat) (hm : m.toBitVec.toNat = 2 ^ k - 1) : x &&& m = nI (x.toBitVec.toNat % 2 ^ k) := by
  apply Int32.toBitVec_inj.mp
  apply BitVec.eq_of_toNat_eq
  rw [Int32.toBitVec_and, BitVec.toNat_and, hm, Nat.and_two_pow_sub_one_eq_mod]
  show _ = (BitVec.ofNat 32 _).toNat
  rw [BitVec.toNat_ofNat]
  exact (Nat.mod_eq_of_lt (Nat.lt_of_le_of_lt (Nat.mod_le _ _) x.toBitVec.isLt)).symm
theorem pk_andN {n : Nat} (h : n < 2 ^ 32) {m : Int32} (k : Nat) (hm : m.toBitVec.toNat = 2 ^ k - 1) : nI n &&& m = nI (n % 2 ^ k) := by
  rw [pk_and _ k hm, pk_tn h]
theorem pk_andE (x : Int32) {m : Int32} (k : Nat) (hm : m.toBitVec.toNat = 2 ^ k - 1) : ∃ j : Nat, j < 2 ^ k ∧ x &&& m = nI j := ⟨_, Nat.mod_lt _ (Nat.two_pow_pos k), pk_and x k hm⟩
theorem pk_andIn (x : Int32) {m : Int32} (k : Nat) (hm : m.toBitVec.toNat = 2 ^ k - 1) (hk : k ≤ 30) : vp_in (x &&& m) (2 ^ k) := by
  obtain ⟨j, hj, e⟩ := pk_andE x k hm
  rw [e]
  exact vp_in_nI hj (Nat.lt_of_le_of_lt (Nat.pow_le_pow_right (by decide) hk) (by decide))
theorem pk_shl (a s : Int32) (k : Nat) (hs : (s.toBitVec.smod 32).toNat = k) : (a <<< s).toBitVec.toNat = a.toBitVec.toNat * 2 ^ k % 2 ^ 32 := by
  show (a.toBitVec <<< (s.toBitVec.smod 32).toNat).toNat = _
  rw [hs, BitVec.toNat_shiftLeft, Nat.shiftLeft_eq]
theorem pk_shlN {n : Nat} (s : Int32) (k : Nat) (hs : (s.toBitVec.smod 32).toNat = k) (h : n * 2 ^ k < 2 ^ 32) : nI n <<< s = nI (n * 2 ^ k) := by
  apply Int32.toBitVec_inj.mp
  apply BitVec.eq_of_toNat_eq
  have hn : n < 2 ^ 32 := Nat.lt_of_le_of_lt (Nat.le_mul_of_pos_right n (Nat.two_pow_pos k)) h
  rw [pk_shl _ _ k hs, pk_tn hn, pk_tn h, Nat.mod_eq_of_lt h]
theorem pk_shr (a s : Int32) (k : Nat) (hs : (s.toBitVec.smod 32).toNat = k) : (a >>> s).toInt = a.toInt >>> k := by
  show (a.toBitVec.sshiftRight (s.toBitVec.smod 32).toNat).toInt = _
  rw [hs, BitVec.toInt_sshiftRight]
  rfl
theorem pk_shrN {n : Nat} (h : n < 2 ^ 31) (s : Int32) (k : Nat) (hs : (s.toBitVec.smod 32).toNat = k) : nI n >>> s = nI (n / 2 ^ k) := by
  apply Int32.toInt_inj.mp
  have h2 : n / 2 ^ k ≤ n := Nat.div_le_self _ _
  rw [pk_shr _ _ k hs, nI_toInt h, nI_toInt (by omega), Int.shiftRight_eq_div_pow]
  rfl
theorem pk_ushr (x s : Int32) (k : Nat) (hs : ((s.toUInt32 &&& Int32.toUInt32 31).toBitVec % 32).toNat = k) : (x.toUInt32 >>> (s.toUInt32 &&& Int32.toUInt32 31)).toInt32.toBitVec.toNat = x.toBitVec.toNat / 2 ^ k := by
  have e : (x.toUInt32 >>> (s.toUInt32 &&& Int32.toUInt32 31)).toInt32.toBitVec = x.toBitVec >>> k := by
    rw [← hs]
    exact UInt32.toBitVec_shiftRight _ _
  rw [e, BitVec.toNat_ushiftRight, Nat.shiftRight_eq_div_pow]
theorem pk_ushrN {n : Nat} (hn : n < 2 ^ 32) (s : Int32) (k : Nat) (hs : ((s.toUInt32 &&& Int32.toUInt32 31).toBitVec % 32).toNat = k) : ((nI n).toUInt32 >>> (s.toUInt32 &&& Int32.toUInt32 31)).toInt32 = nI (n / 2 ^ k) := by
  apply Int32.toBitVec_inj.mp
  apply BitVec.eq_of_toNat_eq
  rw [pk_ushr _ s k hs, pk_tn hn, pk_tn (Nat.lt_of_le_of_lt (Nat.div_le_self _ _) hn)]
theorem pk_nb (z : Int32) : narrow .byte (.int z.toInt8.toInt32) = .int z.toInt8.toInt32 := congrArg Value.int (by simp)
theorem pk_ns (z : Int32) : narrow .short (.int z.toInt16.toInt32) = .int z.toInt16.toInt32 := congrArg Value.int (by simp)
theorem pk_fb (r : Int32) : fits .byte (.int r.toInt8.toInt32) = true := by
  have ⟨a, b⟩ := lg_i2b_range r
  have h1 : (-128 : Int32).toInt = -128 := by decide
  have h2 : (127 : Int32).toInt = 127 := by decide
  simp only [fits, Bool.and_eq_true, decide_eq_true_eq, Int32.le_iff_toInt_le, h1, h2]
  omega
theorem pk_fs (r : Int32) : fits .short (.int r.toInt16.toInt32) = true := by
  have ⟨a, b⟩ := lg_i2s_range r
  have h1 : (-32768 : Int32).toInt = -32768 := by decide
  have h2 : (32767 : Int32).toInt = 32767 := by decide
  simp only [fits, Bool.and_eq_true, decide_eq_true_eq, Int32.le_iff_toInt_le, h1, h2]
  omega
theorem pk_charN {q : Nat} (hq : q < 65536) : narrow .char (.int (nI q)) = .int (nI q) ∧ fits .char (.int (nI q)) = true := by
  constructor
  · have e : (nI q).toUInt32.toUInt16.toUInt32.toInt32 = nI q := by
      apply Int32.toBitVec_inj.mp
      apply BitVec.eq_of_toNat_eq
      show (nI q).toUInt32.toUInt16.toUInt32.toNat = q % 2 ^ 32
      rw [UInt16.toNat_toUInt32, UInt32.toNat_toUInt16, show (nI q).toUInt32.toNat = q % 2 ^ 32 from rfl]
      omega
    exact congrArg Value.int e
  · have a : (0 : Int32) ≤ nI q := nI_pos' (by omega)
    have b : nI q ≤ 65535 := nI_le (b := 65535) (by omega) (by decide)
    show (decide ((0 : Int32) ≤ nI q) && decide (nI q ≤ 65535)) = true
    rw [decide_eq_true a, decide_eq_true b]
    rfl
theorem pk_char (x : Int32) : (x.toUInt32 % 65536).toInt32 = nI (x.toBitVec.toNat % 65536) := by
  apply Int32.toBitVec_inj.mp
  apply BitVec.eq_of_toNat_eq
  rw [pk_tn (by omega)]
  show (x.toUInt32 % 65536).toNat = _
  rw [UInt32.toNat_mod]
  rfl
theorem pk_nc (x : Int32) : narrow .char (.int (x.toUInt32 % 65536).toInt32) = .int (x.toUInt32 % 65536).toInt32 := by
  rw [pk_char]
  exact (pk_charN (Nat.mod_lt _ (by decide))).1
theorem pk_fc (x : Int32) : fits .char (.int (x.toUInt32 % 65536).toInt32) = true := by
  rw [pk_char]
  exact (pk_charN (Nat.mod_lt _ (by decide))).2
theorem pk_vb (z : Int32) : vp_nar .byte z.toInt8.toInt32 = z.toInt8.toInt32 := by rw [vp_nar_byte]; simp
theorem pk_vs (z : Int32) : vp_nar .short z.toInt16.toInt32 = z.toInt16.toInt32 := by rw [vp_nar_short]; simp
theorem pk_vc (z : Int32) : vp_nar .char (z.toUInt32 % 65536).toInt32 = (z.toUInt32 % 65536).toInt32 := Value.int.inj (pk_nc z)
theorem pk_lT {n : Nat} (h : n < 2 ^ 63) : (lN n).toInt = (n : Int) := lg_ofNat_toInt h
theorem pk_lLT {a b : Nat} (ha : a < 2 ^ 63) (hb : b < 2 ^ 63) : lN a < lN b ↔ a < b := by
  rw [Int64.lt_iff_toInt_lt, pk_lT ha, pk_lT hb]; omega
theorem pk_lLE {a b : Nat} (ha : a < 2 ^ 63) (hb : b < 2 ^ 63) : lN a ≤ lN b ↔ a ≤ b := by
  rw [Int64.le_iff_toInt_le, pk_lT ha, pk_lT hb]; omega
theorem pk_lEQ {a b : Nat} (ha : a < 2 ^ 63) (hb : b < 2 ^ 63) : lN a = lN b ↔ a = b := by
  rw [← Int64.toInt_inj, pk_lT ha, pk_lT hb]; omega
theorem pk_lOf {x : Int64} (h : ¬ x < 0) : ∃ k : Nat, k < 2 ^ 63 ∧ x = lN k := by
  rw [Int64.lt_iff_toInt_lt] at h
  have h0 : (0 : Int64).toInt = 0 := by decide
  have hx := Int64.toInt_lt x
  refine ⟨x.toInt.toNat, by omega, Int64.toInt_inj.mp ?_⟩
  rw [pk_lT (by omega)]
  omega
theorem pk_lDiv {a b : Nat} (ha : a < 2 ^ 63) (h0 : 0 < b) (hb : b < 2 ^ 63) : lN a / lN b = lN (a / b) := by
  apply Int64.toInt_inj.mp
  rw [lg_ldiv_nonneg (by rw [pk_lT ha]; omega) (by rw [pk_lT hb]; omega), pk_lT ha, pk_lT hb, pk_lT (Nat.lt_of_le_of_lt (Nat.div_le_self a b) ha)]
  rfl
theorem pk_lRem {a b : Nat} (ha : a < 2 ^ 63) (h0 : 0 < b) (hb : b < 2 ^ 63) : lN a - lN a / lN b * lN b = lN (a % b) := by
  rw [pk_lDiv ha h0 hb, lN_mul, lN_sub (Nat.div_mul_le_self a b)]
  exact congrArg lN (by have := Nat.div_add_mod' a b; omega)
theorem pk_loop {σ : Type} (W : Nat → Nat → σ → Prop) (I : Nat → σ → Prop) (e i0 : Nat) (s : σ) (hi : i0 ≤ e) (h0 : I i0 s) (hx : ∀ n s, I e s → W (n + 1) e s)
    (hs : ∀ n i s, i < e → I i s → (∀ s', I (i + 1) s' → W n (i + 1) s') → W (n + 1) i s) : ∃ n, W n i0 s :=
  ⟨e + 1, loop_i W I e hx hs (e + 1) i0 s hi (by omega) h0⟩
theorem pk_loopD {σ : Type} (W : Nat → Nat → σ → Prop) (I : Nat → σ → Prop) (hx : ∀ n s, I 0 s → W (n + 1) 0 s)
    (hs : ∀ n i s, I (i + 1) s → (∀ s', I i s' → W n i s') → W (n + 1) (i + 1) s) : ∀ (e : Nat) (s : σ), I e s → W (e + 1) e s := by
  intro e
  induction e with
  | zero => exact fun s h => hx 0 s h
  | succ e ih => exact fun s h => hs (e + 1) e s h (fun s' h' => ih s' h')
theorem lp1 {A1 : Type} (W : Nat → A1 → Prop) (I : A1 → Prop) (μ : A1 → Nat) (hs : ∀ (n : Nat) (a1 : A1), I a1 → (∀ (b1 : A1), I b1 → μ b1 < μ a1 → W n b1) → W (n + 1) a1) (a1 : A1) (h : I a1) : ∃ n, W n a1 :=
  loop_m (σ := A1) (fun n s => W n s) (fun s => I s) (fun s => μ s) (fun n s hI hk => hs n s hI (fun b1 h9 hm => hk b1 h9 hm)) a1 h
theorem lp2 {A1 A2 : Type} (W : Nat → A1 → A2 → Prop) (I : A1 → A2 → Prop) (μ : A1 → A2 → Nat) (hs : ∀ (n : Nat) (a1 : A1) (a2 : A2), I a1 a2 → (∀ (b1 : A1) (b2 : A2), I b1 b2 → μ b1 b2 < μ a1 a2 → W n b1 b2) → W (n + 1) a1 a2) (a1 : A1) (a2 : A2) (h : I a1 a2) : ∃ n, W n a1 a2 :=
  loop_m (σ := A1 × A2) (fun n s => W n s.1 s.2) (fun s => I s.1 s.2) (fun s => μ s.1 s.2) (fun n s hI hk => hs n s.1 s.2 hI (fun b1 b2 h9 hm => hk (b1, b2) h9 hm)) (a1, a2) h
theorem lp3 {A1 A2 A3 : Type} (W : Nat → A1 → A2 → A3 → Prop) (I : A1 → A2 → A3 → Prop) (μ : A1 → A2 → A3 → Nat) (hs : ∀ (n : Nat) (a1 : A1) (a2 : A2) (a3 : A3), I a1 a2 a3 → (∀ (b1 : A1) (b2 : A2) (b3 : A3), I b1 b2 b3 → μ b1 b2 b3 < μ a1 a2 a3 → W n b1 b2 b3) → W (n + 1) a1 a2 a3) (a1 : A1) (a2 : A2) (a3 : A3) (h : I a1 a2 a3) : ∃ n, W n a1 a2 a3 :=
  loop_m (σ := A1 × A2 × A3) (fun n s => W n s.1 s.2.1 s.2.2) (fun s => I s.1 s.2.1 s.2.2) (fun s => μ s.1 s.2.1 s.2.2) (fun n s hI hk => hs n s.1 s.2.1 s.2.2 hI (fun b1 b2 b3 h9 hm => hk (b1, b2, b3) h9 hm)) (a1, a2, a3) h
theorem lp4 {A1 A2 A3 A4 : Type} (W : Nat → A1 → A2 → A3 → A4 → Prop) (I : A1 → A2 → A3 → A4 → Prop) (μ : A1 → A2 → A3 → A4 → Nat) (hs : ∀ (n : Nat) (a1 : A1) (a2 : A2) (a3 : A3) (a4 : A4), I a1 a2 a3 a4 → (∀ (b1 : A1) (b2 : A2) (b3 : A3) (b4 : A4), I b1 b2 b3 b4 → μ b1 b2 b3 b4 < μ a1 a2 a3 a4 → W n b1 b2 b3 b4) → W (n + 1) a1 a2 a3 a4) (a1 : A1) (a2 : A2) (a3 : A3) (a4 : A4) (h : I a1 a2 a3 a4) : ∃ n, W n a1 a2 a3 a4 :=
  loop_m (σ := A1 × A2 × A3 × A4) (fun n s => W n s.1 s.2.1 s.2.2.1 s.2.2.2) (fun s => I s.1 s.2.1 s.2.2.1 s.2.2.2) (fun s => μ s.1 s.2.1 s.2.2.1 s.2.2.2) (fun n s hI hk => hs n s.1 s.2.1 s.2.2.1 s.2.2.2 hI (fun b1 b2 b3 b4 h9 hm => hk (b1, b2, b3, b4) h9 hm)) (a1, a2, a3, a4) h
theorem lp5 {A1 A2 A3 A4 A5 : Type} (W : Nat → A1 → A2 → A3 → A4 → A5 → Prop) (I : A1 → A2 → A3 → A4 → A5 → Prop) (μ : A1 → A2 → A3 → A4 → A5 → Nat) (hs : ∀ (n : Nat) (a1 : A1) (a2 : A2) (a3 : A3) (a4 : A4) (a5 : A5), I a1 a2 a3 a4 a5 → (∀ (b1 : A1) (b2 : A2) (b3 : A3) (b4 : A4) (b5 : A5), I b1 b2 b3 b4 b5 → μ b1 b2 b3 b4 b5 < μ a1 a2 a3 a4 a5 → W n b1 b2 b3 b4 b5) → W (n + 1) a1 a2 a3 a4 a5) (a1 : A1) (a2 : A2) (a3 : A3) (a4 : A4) (a5 : A5) (h : I a1 a2 a3 a4 a5) : ∃ n, W n a1 a2 a3 a4 a5 :=
  loop_m (σ := A1 × A2 × A3 × A4 × A5) (fun n s => W n s.1 s.2.1 s.2.2.1 s.2.2.2.1 s.2.2.2.2) (fun s => I s.1 s.2.1 s.2.2.1 s.2.2.2.1 s.2.2.2.2) (fun s => μ s.1 s.2.1 s.2.2.1 s.2.2.2.1 s.2.2.2.2) (fun n s hI hk => hs n s.1 s.2.1 s.2.2.1 s.2.2.2.1 s.2.2.2.2 hI (fun b1 b2 b3 b4 b5 h9 hm => hk (b1, b2, b3, b4, b5) h9 hm)) (a1, a2, a3, a4, a5) h
theorem lp6 {A1 A2 A3 A4 A5 A6 : Type} (W : Nat → A1 → A2 → A3 → A4 → A5 → A6 → Prop) (I : A1 → A2 → A3 → A4 → A5 → A6 → Prop) (μ : A1 → A2 → A3 → A4 → A5 → A6 → Nat) (hs : ∀ (n : Nat) (a1 : A1) (a2 : A2) (a3 : A3) (a4 : A4) (a5 : A5) (a6 : A6), I a1 a2 a3 a4 a5 a6 → (∀ (b1 : A1) (b2 : A2) (b3 : A3) (b4 : A4) (b5 : A5) (b6 : A6), I b1 b2 b3 b4 b5 b6 → μ b1 b2 b3 b4 b5 b6 < μ a1 a2 a3 a4 a5 a6 → W n b1 b2 b3 b4 b5 b6) → W (n + 1) a1 a2 a3 a4 a5 a6) (a1 : A1) (a2 : A2) (a3 : A3) (a4 : A4) (a5 : A5) (a6 : A6) (h : I a1 a2 a3 a4 a5 a6) : ∃ n, W n a1 a2 a3 a4 a5 a6 :=
  loop_m (σ := A1 × A2 × A3 × A4 × A5 × A6) (fun n s => W n s.1 s.2.1 s.2.2.1 s.2.2.2.1 s.2.2.2.2.1 s.2.2.2.2.2) (fun s => I s.1 s.2.1 s.2.2.1 s.2.2.2.1 s.2.2.2.2.1 s.2.2.2.2.2) (fun s => μ s.1 s.2.1 s.2.2.1 s.2.2.2.1 s.2.2.2.2.1 s.2.2.2.2.2) (fun n s hI hk => hs n s.1 s.2.1 s.2.2.1 s.2.2.2.1 s.2.2.2.2.1 s.2.2.2.2.2 hI (fun b1 b2 b3 b4 b5 b6 h9 hm => hk (b1, b2, b3, b4, b5, b6) h9 hm)) (a1, a2, a3, a4, a5, a6) h
theorem lp7 {A1 A2 A3 A4 A5 A6 A7 : Type} (W : Nat → A1 → A2 → A3 → A4 → A5 → A6 → A7 → Prop) (I : A1 → A2 → A3 → A4 → A5 → A6 → A7 → Prop) (μ : A1 → A2 → A3 → A4 → A5 → A6 → A7 → Nat) (hs : ∀ (n : Nat) (a1 : A1) (a2 : A2) (a3 : A3) (a4 : A4) (a5 : A5) (a6 : A6) (a7 : A7), I a1 a2 a3 a4 a5 a6 a7 → (∀ (b1 : A1) (b2 : A2) (b3 : A3) (b4 : A4) (b5 : A5) (b6 : A6) (b7 : A7), I b1 b2 b3 b4 b5 b6 b7 → μ b1 b2 b3 b4 b5 b6 b7 < μ a1 a2 a3 a4 a5 a6 a7 → W n b1 b2 b3 b4 b5 b6 b7) → W (n + 1) a1 a2 a3 a4 a5 a6 a7) (a1 : A1) (a2 : A2) (a3 : A3) (a4 : A4) (a5 : A5) (a6 : A6) (a7 : A7) (h : I a1 a2 a3 a4 a5 a6 a7) : ∃ n, W n a1 a2 a3 a4 a5 a6 a7 :=
  loop_m (σ := A1 × A2 × A3 × A4 × A5 × A6 × A7) (fun n s => W n s.1 s.2.1 s.2.2.1 s.2.2.2.1 s.2.2.2.2.1 s.2.2.2.2.2.1 s.2.2.2.2.2.2) (fun s => I s.1 s.2.1 s.2.2.1 s.2.2.2.1 s.2.2.2.2.1 s.2.2.2.2.2.1 s.2.2.2.2.2.2) (fun s => μ s.1 s.2.1 s.2.2.1 s.2.2.2.1 s.2.2.2.2.1 s.2.2.2.2.2.1 s.2.2.2.2.2.2) (fun n s hI hk => hs n s.1 s.2.1 s.2.2.1 s.2.2.2.1 s.2.2.2.2.1 s.2.2.2.2.2.1 s.2.2.2.2.2.2 hI (fun b1 b2 b3 b4 b5 b6 b7 h9 hm => hk (b1, b2, b3, b4, b5, b6, b7) h9 hm)) (a1, a2, a3, a4, a5, a6, a7) h
theorem lp8 {A1 A2 A3 A4 A5 A6 A7 A8 : Type} (W : Nat → A1 → A2 → A3 → A4 → A5 → A6 → A7 → A8 → Prop) (I : A1 → A2 → A3 → A4 → A5 → A6 → A7 → A8 → Prop) (μ : A1 → A2 → A3 → A4 → A5 → A6 → A7 → A8 → Nat) (hs : ∀ (n : Nat) (a1 : A1) (a2 : A2) (a3 : A3) (a4 : A4) (a5 : A5) (a6 : A6) (a7 : A7) (a8 : A8), I a1 a2 a3 a4 a5 a6 a7 a8 → (∀ (b1 : A1) (b2 : A2) (b3 : A3) (b4 : A4) (b5 : A5) (b6 : A6) (b7 : A7) (b8 : A8), I b1 b2 b3 b4 b5 b6 b7 b8 → μ b1 b2 b3 b4 b5 b6 b7 b8 < μ a1 a2 a3 a4 a5 a6 a7 a8 → W n b1 b2 b3 b4 b5 b6 b7 b8) → W (n + 1) a1 a2 a3 a4 a5 a6 a7 a8) (a1 : A1) (a2 : A2) (a3 : A3) (a4 : A4) (a5 : A5) (a6 : A6) (a7 : A7) (a8 : A8) (h : I a1 a2 a3 a4 a5 a6 a7 a8) : ∃ n, W n a1 a2 a3 a4 a5 a6 a7 a8 :=
  loop_m (σ := A1 × A2 × A3 × A4 × A5 × A6 × A7 × A8) (fun n s => W n s.1 s.2.1 s.2.2.1 s.2.2.2.1 s.2.2.2.2.1 s.2.2.2.2.2.1 s.2.2.2.2.2.2.1 s.2.2.2.2.2.2.2) (fun s => I s.1 s.2.1 s.2.2.1 s.2.2.2.1 s.2.2.2.2.1 s.2.2.2.2.2.1 s.2.2.2.2.2.2.1 s.2.2.2.2.2.2.2) (fun s => μ s.1 s.2.1 s.2.2.1 s.2.2.2.1 s.2.2.2.2.1 s.2.2.2.2.2.1 s.2.2.2.2.2.2.1 s.2.2.2.2.2.2.2) (fun n s hI hk => hs n s.1 s.2.1 s.2.2.1 s.2.2.2.1 s.2.2.2.2.1 s.2.2.2.2.2.1 s.2.2.2.2.2.2.1 s.2.2.2.2.2.2.2 hI (fun b1 b2 b3 b4 b5 b6 b7 b8 h9 hm => hk (b1, b2, b3, b4, b5, b6, b7, b8) h9 hm)) (a1, a2, a3, a4, a5, a6, a7, a8) h
theorem lp9 {A1 A2 A3 A4 A5 A6 A7 A8 A9 : Type} (W : Nat → A1 → A2 → A3 → A4 → A5 → A6 → A7 → A8 → A9 → Prop) (I : A1 → A2 → A3 → A4 → A5 → A6 → A7 → A8 → A9 → Prop) (μ : A1 → A2 → A3 → A4 → A5 → A6 → A7 → A8 → A9 → Nat) (hs : ∀ (n : Nat) (a1 : A1) (a2 : A2) (a3 : A3) (a4 : A4) (a5 : A5) (a6 : A6) (a7 : A7) (a8 : A8) (a9 : A9), I a1 a2 a3 a4 a5 a6 a7 a8 a9 → (∀ (b1 : A1) (b2 : A2) (b3 : A3) (b4 : A4) (b5 : A5) (b6 : A6) (b7 : A7) (b8 : A8) (b9 : A9), I b1 b2 b3 b4 b5 b6 b7 b8 b9 → μ b1 b2 b3 b4 b5 b6 b7 b8 b9 < μ a1 a2 a3 a4 a5 a6 a7 a8 a9 → W n b1 b2 b3 b4 b5 b6 b7 b8 b9) → W (n + 1) a1 a2 a3 a4 a5 a6 a7 a8 a9) (a1 : A1) (a2 : A2) (a3 : A3) (a4 : A4) (a5 : A5) (a6 : A6) (a7 : A7) (a8 : A8) (a9 : A9) (h : I a1 a2 a3 a4 a5 a6 a7 a8 a9) : ∃ n, W n a1 a2 a3 a4 a5 a6 a7 a8 a9 :=
  loop_m (σ := A1 × A2 × A3 × A4 × A5 × A6 × A7 × A8 × A9) (fun n s => W n s.1 s.2.1 s.2.2.1 s.2.2.2.1 s.2.2.2.2.1 s.2.2.2.2.2.1 s.2.2.2.2.2.2.1 s.2.2.2.2.2.2.2.1 s.2.2.2.2.2.2.2.2) (fun s => I s.1 s.2.1 s.2.2.1 s.2.2.2.1 s.2.2.2.2.1 s.2.2.2.2.2.1 s.2.2.2.2.2.2.1 s.2.2.2.2.2.2.2.1 s.2.2.2.2.2.2.2.2) (fun s => μ s.1 s.2.1 s.2.2.1 s.2.2.2.1 s.2.2.2.2.1 s.2.2.2.2.2.1 s.2.2.2.2.2.2.1 s.2.2.2.2.2.2.2.1 s.2.2.2.2.2.2.2.2) (fun n s hI hk => hs n s.1 s.2.1 s.2.2.1 s.2.2.2.1 s.2.2.2.2.1 s.2.2.2.2.2.1 s.2.2.2.2.2.2.1 s.2.2.2.2.2.2.2.1 s.2.2.2.2.2.2.2.2 hI (fun b1 b2 b3 b4 b5 b6 b7 b8 b9 h9 hm => hk (b1, b2, b3, b4, b5, b6, b7, b8, b9) h9 hm)) (a1, a2, a3, a4, a5, a6, a7, a8, a9) h
theorem lp10 {A1 A2 A3 A4 A5 A6 A7 A8 A9 A10 : Type} (W : Nat → A1 → A2 → A3 → A4 → A5 → A6 → A7 → A8 → A9 → A10 → Prop) (I : A1 → A2 → A3 → A4 → A5 → A6 → A7 → A8 → A9 → A10 → Prop) (μ : A1 → A2 → A3 → A4 → A5 → A6 → A7 → A8 → A9 → A10 → Nat) (hs : ∀ (n : Nat) (a1 : A1) (a2 : A2) (a3 : A3) (a4 : A4) (a5 : A5) (a6 : A6) (a7 : A7) (a8 : A8) (a9 : A9) (a10 : A10), I a1 a2 a3 a4 a5 a6 a7 a8 a9 a10 → (∀ (b1 : A1) (b2 : A2) (b3 : A3) (b4 : A4) (b5 : A5) (b6 : A6) (b7 : A7) (b8 : A8) (b9 : A9) (b10 : A10), I b1 b2 b3 b4 b5 b6 b7 b8 b9 b10 → μ b1 b2 b3 b4 b5 b6 b7 b8 b9 b10 < μ a1 a2 a3 a4 a5 a6 a7 a8 a9 a10 → W n b1 b2 b3 b4 b5 b6 b7 b8 b9 b10) → W (n + 1) a1 a2 a3 a4 a5 a6 a7 a8 a9 a10) (a1 : A1) (a2 : A2) (a3 : A3) (a4 : A4) (a5 : A5) (a6 : A6) (a7 : A7) (a8 : A8) (a9 : A9) (a10 : A10) (h : I a1 a2 a3 a4 a5 a6 a7 a8 a9 a10) : ∃ n, W n a1 a2 a3 a4 a5 a6 a7 a8 a9 a10 :=
  loop_m (σ := A1 × A2 × A3 × A4 × A5 × A6 × A7 × A8 × A9 × A10) (fun n s => W n s.1 s.2.1 s.2.2.1 s.2.2.2.1 s.2.2.2.2.1 s.2.2.2.2.2.1 s.2.2.2.2.2.2.1 s.2.2.2.2.2.2.2.1 s.2.2.2.2.2.2.2.2.1 s.2.2.2.2.2.2.2.2.2) (fun s => I s.1 s.2.1 s.2.2.1 s.2.2.2.1 s.2.2.2.2.1 s.2.2.2.2.2.1 s.2.2.2.2.2.2.1 s.2.2.2.2.2.2.2.1 s.2.2.2.2.2.2.2.2.1 s.2.2.2.2.2.2.2.2.2) (fun s => μ s.1 s.2.1 s.2.2.1 s.2.2.2.1 s.2.2.2.2.1 s.2.2.2.2.2.1 s.2.2.2.2.2.2.1 s.2.2.2.2.2.2.2.1 s.2.2.2.2.2.2.2.2.1 s.2.2.2.2.2.2.2.2.2) (fun n s hI hk => hs n s.1 s.2.1 s.2.2.1 s.2.2.2.1 s.2.2.2.2.1 s.2.2.2.2.2.1 s.2.2.2.2.2.2.1 s.2.2.2.2.2.2.2.1 s.2.2.2.2.2.2.2.2.1 s.2.2.2.2.2.2.2.2.2 hI (fun b1 b2 b3 b4 b5 b6 b7 b8 b9 b10 h9 hm => hk (b1, b2, b3, b4, b5, b6, b7, b8, b9, b10) h9 hm)) (a1, a2, a3, a4, a5, a6, a7, a8, a9, a10) h
theorem lp11 {A1 A2 A3 A4 A5 A6 A7 A8 A9 A10 A11 : Type} (W : Nat → A1 → A2 → A3 → A4 → A5 → A6 → A7 → A8 → A9 → A10 → A11 → Prop) (I : A1 → A2 → A3 → A4 → A5 → A6 → A7 → A8 → A9 → A10 → A11 → Prop) (μ : A1 → A2 → A3 → A4 → A5 → A6 → A7 → A8 → A9 → A10 → A11 → Nat) (hs : ∀ (n : Nat) (a1 : A1) (a2 : A2) (a3 : A3) (a4 : A4) (a5 : A5) (a6 : A6) (a7 : A7) (a8 : A8) (a9 : A9) (a10 : A10) (a11 : A11), I a1 a2 a3 a4 a5 a6 a7 a8 a9 a10 a11 → (∀ (b1 : A1) (b2 : A2) (b3 : A3) (b4 : A4) (b5 : A5) (b6 : A6) (b7 : A7) (b8 : A8) (b9 : A9) (b10 : A10) (b11 : A11), I b1 b2 b3 b4 b5 b6 b7 b8 b9 b10 b11 → μ b1 b2 b3 b4 b5 b6 b7 b8 b9 b10 b11 < μ a1 a2 a3 a4 a5 a6 a7 a8 a9 a10 a11 → W n b1 b2 b3 b4 b5 b6 b7 b8 b9 b10 b11) → W (n + 1) a1 a2 a3 a4 a5 a6 a7 a8 a9 a10 a11) (a1 : A1) (a2 : A2) (a3 : A3) (a4 : A4) (a5 : A5) (a6 : A6) (a7 : A7) (a8 : A8) (a9 : A9) (a10 : A10) (a11 : A11) (h : I a1 a2 a3 a4 a5 a6 a7 a8 a9 a10 a11) : ∃ n, W n a1 a2 a3 a4 a5 a6 a7 a8 a9 a10 a11 :=
  loop_m (σ := A1 × A2 × A3 × A4 × A5 × A6 × A7 × A8 × A9 × A10 × A11) (fun n s => W n s.1 s.2.1 s.2.2.1 s.2.2.2.1 s.2.2.2.2.1 s.2.2.2.2.2.1 s.2.2.2.2.2.2.1 s.2.2.2.2.2.2.2.1 s.2.2.2.2.2.2.2.2.1 s.2.2.2.2.2.2.2.2.2.1 s.2.2.2.2.2.2.2.2.2.2) (fun s => I s.1 s.2.1 s.2.2.1 s.2.2.2.1 s.2.2.2.2.1 s.2.2.2.2.2.1 s.2.2.2.2.2.2.1 s.2.2.2.2.2.2.2.1 s.2.2.2.2.2.2.2.2.1 s.2.2.2.2.2.2.2.2.2.1 s.2.2.2.2.2.2.2.2.2.2) (fun s => μ s.1 s.2.1 s.2.2.1 s.2.2.2.1 s.2.2.2.2.1 s.2.2.2.2.2.1 s.2.2.2.2.2.2.1 s.2.2.2.2.2.2.2.1 s.2.2.2.2.2.2.2.2.1 s.2.2.2.2.2.2.2.2.2.1 s.2.2.2.2.2.2.2.2.2.2) (fun n s hI hk => hs n s.1 s.2.1 s.2.2.1 s.2.2.2.1 s.2.2.2.2.1 s.2.2.2.2.2.1 s.2.2.2.2.2.2.1 s.2.2.2.2.2.2.2.1 s.2.2.2.2.2.2.2.2.1 s.2.2.2.2.2.2.2.2.2.1 s.2.2.2.2.2.2.2.2.2.2 hI (fun b1 b2 b3 b4 b5 b6 b7 b8 b9 b10 b11 h9 hm => hk (b1, b2, b3, b4, b5, b6, b7, b8, b9, b10, b11) h9 hm)) (a1, a2, a3, a4, a5, a6, a7, a8, a9, a10, a11) h
theorem lp12 {A1 A2 A3 A4 A5 A6 A7 A8 A9 A10 A11 A12 : Type} (W : Nat → A1 → A2 → A3 → A4 → A5 → A6 → A7 → A8 → A9 → A10 → A11 → A12 → Prop) (I : A1 → A2 → A3 → A4 → A5 → A6 → A7 → A8 → A9 → A10 → A11 → A12 → Prop) (μ : A1 → A2 → A3 → A4 → A5 → A6 → A7 → A8 → A9 → A10 → A11 → A12 → Nat) (hs : ∀ (n : Nat) (a1 : A1) (a2 : A2) (a3 : A3) (a4 : A4) (a5 : A5) (a6 : A6) (a7 : A7) (a8 : A8) (a9 : A9) (a10 : A10) (a11 : A11) (a12 : A12), I a1 a2 a3 a4 a5 a6 a7 a8 a9 a10 a11 a12 → (∀ (b1 : A1) (b2 : A2) (b3 : A3) (b4 : A4) (b5 : A5) (b6 : A6) (b7 : A7) (b8 : A8) (b9 : A9) (b10 : A10) (b11 : A11) (b12 : A12), I b1 b2 b3 b4 b5 b6 b7 b8 b9 b10 b11 b12 → μ b1 b2 b3 b4 b5 b6 b7 b8 b9 b10 b11 b12 < μ a1 a2 a3 a4 a5 a6 a7 a8 a9 a10 a11 a12 → W n b1 b2 b3 b4 b5 b6 b7 b8 b9 b10 b11 b12) → W (n + 1) a1 a2 a3 a4 a5 a6 a7 a8 a9 a10 a11 a12) (a1 : A1) (a2 : A2) (a3 : A3) (a4 : A4) (a5 : A5) (a6 : A6) (a7 : A7) (a8 : A8) (a9 : A9) (a10 : A10) (a11 : A11) (a12 : A12) (h : I a1 a2 a3 a4 a5 a6 a7 a8 a9 a10 a11 a12) : ∃ n, W n a1 a2 a3 a4 a5 a6 a7 a8 a9 a10 a11 a12 :=
  loop_m (σ := A1 × A2 × A3 × A4 × A5 × A6 × A7 × A8 × A9 × A10 × A11 × A12) (fun n s => W n s.1 s.2.1 s.2.2.1 s.2.2.2.1 s.2.2.2.2.1 s.2.2.2.2.2.1 s.2.2.2.2.2.2.1 s.2.2.2.2.2.2.2.1 s.2.2.2.2.2.2.2.2.1 s.2.2.2.2.2.2.2.2.2.1 s.2.2.2.2.2.2.2.2.2.2.1 s.2.2.2.2.2.2.2.2.2.2.2) (fun s => I s.1 s.2.1 s.2.2.1 s.2.2.2.1 s.2.2.2.2.1 s.2.2.2.2.2.1 s.2.2.2.2.2.2.1 s.2.2.2.2.2.2.2.1 s.2.2.2.2.2.2.2.2.1 s.2.2.2.2.2.2.2.2.2.1 s.2.2.2.2.2.2.2.2.2.2.1 s.2.2.2.2.2.2.2.2.2.2.2) (fun s => μ s.1 s.2.1 s.2.2.1 s.2.2.2.1 s.2.2.2.2.1 s.2.2.2.2.2.1 s.2.2.2.2.2.2.1 s.2.2.2.2.2.2.2.1 s.2.2.2.2.2.2.2.2.1 s.2.2.2.2.2.2.2.2.2.1 s.2.2.2.2.2.2.2.2.2.2.1 s.2.2.2.2.2.2.2.2.2.2.2) (fun n s hI hk => hs n s.1 s.2.1 s.2.2.1 s.2.2.2.1 s.2.2.2.2.1 s.2.2.2.2.2.1 s.2.2.2.2.2.2.1 s.2.2.2.2.2.2.2.1 s.2.2.2.2.2.2.2.2.1 s.2.2.2.2.2.2.2.2.2.1 s.2.2.2.2.2.2.2.2.2.2.1 s.2.2.2.2.2.2.2.2.2.2.2 hI (fun b1 b2 b3 b4 b5 b6 b7 b8 b9 b10 b11 b12 h9 hm => hk (b1, b2, b3, b4, b5, b6, b7, b8, b9, b10, b11, b12) h9 hm)) (a1, a2, a3, a4, a5, a6, a7, a8, a9, a10, a11, a12) h
theorem lp13 {A1 A2 A3 A4 A5 A6 A7 A8 A9 A10 A11 A12 A13 : Type} (W : Nat → A1 → A2 → A3 → A4 → A5 → A6 → A7 → A8 → A9 → A10 → A11 → A12 → A13 → Prop) (I : A1 → A2 → A3 → A4 → A5 → A6 → A7 → A8 → A9 → A10 → A11 → A12 → A13 → Prop) (μ : A1 → A2 → A3 → A4 → A5 → A6 → A7 → A8 → A9 → A10 → A11 → A12 → A13 → Nat) (hs : ∀ (n : Nat) (a1 : A1) (a2 : A2) (a3 : A3) (a4 : A4) (a5 : A5) (a6 : A6) (a7 : A7) (a8 : A8) (a9 : A9) (a10 : A10) (a11 : A11) (a12 : A12) (a13 : A13), I a1 a2 a3 a4 a5 a6 a7 a8 a9 a10 a11 a12 a13 → (∀ (b1 : A1) (b2 : A2) (b3 : A3) (b4 : A4) (b5 : A5) (b6 : A6) (b7 : A7) (b8 : A8) (b9 : A9) (b10 : A10) (b11 : A11) (b12 : A12) (b13 : A13), I b1 b2 b3 b4 b5 b6 b7 b8 b9 b10 b11 b12 b13 → μ b1 b2 b3 b4 b5 b6 b7 b8 b9 b10 b11 b12 b13 < μ a1 a2 a3 a4 a5 a6 a7 a8 a9 a10 a11 a12 a13 → W n b1 b2 b3 b4 b5 b6 b7 b8 b9 b10 b11 b12 b13) → W (n + 1) a1 a2 a3 a4 a5 a6 a7 a8 a9 a10 a11 a12 a13) (a1 : A1) (a2 : A2) (a3 : A3) (a4 : A4) (a5 : A5) (a6 : A6) (a7 : A7) (a8 : A8) (a9 : A9) (a10 : A10) (a11 : A11) (a12 : A12) (a13 : A13) (h : I a1 a2 a3 a4 a5 a6 a7 a8 a9 a10 a11 a12 a13) : ∃ n, W n a1 a2 a3 a4 a5 a6 a7 a8 a9 a10 a11 a12 a13 :=
  loop_m (σ := A1 × A2 × A3 × A4 × A5 × A6 × A7 × A8 × A9 × A10 × A11 × A12 × A13) (fun n s => W n s.1 s.2.1 s.2.2.1 s.2.2.2.1 s.2.2.2.2.1 s.2.2.2.2.2.1 s.2.2.2.2.2.2.1 s.2.2.2.2.2.2.2.1 s.2.2.2.2.2.2.2.2.1 s.2.2.2.2.2.2.2.2.2.1 s.2.2.2.2.2.2.2.2.2.2.1 s.2.2.2.2.2.2.2.2.2.2.2.1 s.2.2.2.2.2.2.2.2.2.2.2.2) (fun s => I s.1 s.2.1 s.2.2.1 s.2.2.2.1 s.2.2.2.2.1 s.2.2.2.2.2.1 s.2.2.2.2.2.2.1 s.2.2.2.2.2.2.2.1 s.2.2.2.2.2.2.2.2.1 s.2.2.2.2.2.2.2.2.2.1 s.2.2.2.2.2.2.2.2.2.2.1 s.2.2.2.2.2.2.2.2.2.2.2.1 s.2.2.2.2.2.2.2.2.2.2.2.2) (fun s => μ s.1 s.2.1 s.2.2.1 s.2.2.2.1 s.2.2.2.2.1 s.2.2.2.2.2.1 s.2.2.2.2.2.2.1 s.2.2.2.2.2.2.2.1 s.2.2.2.2.2.2.2.2.1 s.2.2.2.2.2.2.2.2.2.1 s.2.2.2.2.2.2.2.2.2.2.1 s.2.2.2.2.2.2.2.2.2.2.2.1 s.2.2.2.2.2.2.2.2.2.2.2.2) (fun n s hI hk => hs n s.1 s.2.1 s.2.2.1 s.2.2.2.1 s.2.2.2.2.1 s.2.2.2.2.2.1 s.2.2.2.2.2.2.1 s.2.2.2.2.2.2.2.1 s.2.2.2.2.2.2.2.2.1 s.2.2.2.2.2.2.2.2.2.1 s.2.2.2.2.2.2.2.2.2.2.1 s.2.2.2.2.2.2.2.2.2.2.2.1 s.2.2.2.2.2.2.2.2.2.2.2.2 hI (fun b1 b2 b3 b4 b5 b6 b7 b8 b9 b10 b11 b12 b13 h9 hm => hk (b1, b2, b3, b4, b5, b6, b7, b8, b9, b10, b11, b12, b13) h9 hm)) (a1, a2, a3, a4, a5, a6, a7, a8, a9, a10, a11, a12, a13) h
theorem lp14 {A1 A2 A3 A4 A5 A6 A7 A8 A9 A10 A11 A12 A13 A14 : Type} (W : Nat → A1 → A2 → A3 → A4 → A5 → A6 → A7 → A8 → A9 → A10 → A11 → A12 → A13 → A14 → Prop) (I : A1 → A2 → A3 → A4 → A5 → A6 → A7 → A8 → A9 → A10 → A11 → A12 → A13 → A14 → Prop) (μ : A1 → A2 → A3 → A4 → A5 → A6 → A7 → A8 → A9 → A10 → A11 → A12 → A13 → A14 → Nat) (hs : ∀ (n : Nat) (a1 : A1) (a2 : A2) (a3 : A3) (a4 : A4) (a5 : A5) (a6 : A6) (a7 : A7) (a8 : A8) (a9 : A9) (a10 : A10) (a11 : A11) (a12 : A12) (a13 : A13) (a14 : A14), I a1 a2 a3 a4 a5 a6 a7 a8 a9 a10 a11 a12 a13 a14 → (∀ (b1 : A1) (b2 : A2) (b3 : A3) (b4 : A4) (b5 : A5) (b6 : A6) (b7 : A7) (b8 : A8) (b9 : A9) (b10 : A10) (b11 : A11) (b12 : A12) (b13 : A13) (b14 : A14), I b1 b2 b3 b4 b5 b6 b7 b8 b9 b10 b11 b12 b13 b14 → μ b1 b2 b3 b4 b5 b6 b7 b8 b9 b10 b11 b12 b13 b14 < μ a1 a2 a3 a4 a5 a6 a7 a8 a9 a10 a11 a12 a13 a14 → W n b1 b2 b3 b4 b5 b6 b7 b8 b9 b10 b11 b12 b13 b14) → W (n + 1) a1 a2 a3 a4 a5 a6 a7 a8 a9 a10 a11 a12 a13 a14) (a1 : A1) (a2 : A2) (a3 : A3) (a4 : A4) (a5 : A5) (a6 : A6) (a7 : A7) (a8 : A8) (a9 : A9) (a10 : A10) (a11 : A11) (a12 : A12) (a13 : A13) (a14 : A14) (h : I a1 a2 a3 a4 a5 a6 a7 a8 a9 a10 a11 a12 a13 a14) : ∃ n, W n a1 a2 a3 a4 a5 a6 a7 a8 a9 a10 a11 a12 a13 a14 :=
  loop_m (σ := A1 × A2 × A3 × A4 × A5 × A6 × A7 × A8 × A9 × A10 × A11 × A12 × A13 × A14) (fun n s => W n s.1 s.2.1 s.2.2.1 s.2.2.2.1 s.2.2.2.2.1 s.2.2.2.2.2.1 s.2.2.2.2.2.2.1 s.2.2.2.2.2.2.2.1 s.2.2.2.2.2.2.2.2.1 s.2.2.2.2.2.2.2.2.2.1 s.2.2.2.2.2.2.2.2.2.2.1 s.2.2.2.2.2.2.2.2.2.2.2.1 s.2.2.2.2.2.2.2.2.2.2.2.2.1 s.2.2.2.2.2.2.2.2.2.2.2.2.2) (fun s => I s.1 s.2.1 s.2.2.1 s.2.2.2.1 s.2.2.2.2.1 s.2.2.2.2.2.1 s.2.2.2.2.2.2.1 s.2.2.2.2.2.2.2.1 s.2.2.2.2.2.2.2.2.1 s.2.2.2.2.2.2.2.2.2.1 s.2.2.2.2.2.2.2.2.2.2.1 s.2.2.2.2.2.2.2.2.2.2.2.1 s.2.2.2.2.2.2.2.2.2.2.2.2.1 s.2.2.2.2.2.2.2.2.2.2.2.2.2) (fun s => μ s.1 s.2.1 s.2.2.1 s.2.2.2.1 s.2.2.2.2.1 s.2.2.2.2.2.1 s.2.2.2.2.2.2.1 s.2.2.2.2.2.2.2.1 s.2.2.2.2.2.2.2.2.1 s.2.2.2.2.2.2.2.2.2.1 s.2.2.2.2.2.2.2.2.2.2.1 s.2.2.2.2.2.2.2.2.2.2.2.1 s.2.2.2.2.2.2.2.2.2.2.2.2.1 s.2.2.2.2.2.2.2.2.2.2.2.2.2) (fun n s hI hk => hs n s.1 s.2.1 s.2.2.1 s.2.2.2.1 s.2.2.2.2.1 s.2.2.2.2.2.1 s.2.2.2.2.2.2.1 s.2.2.2.2.2.2.2.1 s.2.2.2.2.2.2.2.2.1 s.2.2.2.2.2.2.2.2.2.1 s.2.2.2.2.2.2.2.2.2.2.1 s.2.2.2.2.2.2.2.2.2.2.2.1 s.2.2.2.2.2.2.2.2.2.2.2.2.1 s.2.2.2.2.2.2.2.2.2.2.2.2.2 hI (fun b1 b2 b3 b4 b5 b6 b7 b8 b9 b10 b11 b12 b13 b14 h9 hm => hk (b1, b2, b3, b4, b5, b6, b7, b8, b9, b10, b11, b12, b13, b14) h9 hm)) (a1, a2, a3, a4, a5, a6, a7, a8, a9, a10, a11, a12, a13, a14) h
theorem lp15 {A1 A2 A3 A4 A5 A6 A7 A8 A9 A10 A11 A12 A13 A14 A15 : Type} (W : Nat → A1 → A2 → A3 → A4 → A5 → A6 → A7 → A8 → A9 → A10 → A11 → A12 → A13 → A14 → A15 → Prop) (I : A1 → A2 → A3 → A4 → A5 → A6 → A7 → A8 → A9 → A10 → A11 → A12 → A13 → A14 → A15 → Prop) (μ : A1 → A2 → A3 → A4 → A5 → A6 → A7 → A8 → A9 → A10 → A11 → A12 → A13 → A14 → A15 → Nat) (hs : ∀ (n : Nat) (a1 : A1) (a2 : A2) (a3 : A3) (a4 : A4) (a5 : A5) (a6 : A6) (a7 : A7) (a8 : A8) (a9 : A9) (a10 : A10) (a11 : A11) (a12 : A12) (a13 : A13) (a14 : A14) (a15 : A15), I a1 a2 a3 a4 a5 a6 a7 a8 a9 a10 a11 a12 a13 a14 a15 → (∀ (b1 : A1) (b2 : A2) (b3 : A3) (b4 : A4) (b5 : A5) (b6 : A6) (b7 : A7) (b8 : A8) (b9 : A9) (b10 : A10) (b11 : A11) (b12 : A12) (b13 : A13) (b14 : A14) (b15 : A15), I b1 b2 b3 b4 b5 b6 b7 b8 b9 b10 b11 b12 b13 b14 b15 → μ b1 b2 b3 b4 b5 b6 b7 b8 b9 b10 b11 b12 b13 b14 b15 < μ a1 a2 a3 a4 a5 a6 a7 a8 a9 a10 a11 a12 a13 a14 a15 → W n b1 b2 b3 b4 b5 b6 b7 b8 b9 b10 b11 b12 b13 b14 b15) → W (n + 1) a1 a2 a3 a4 a5 a6 a7 a8 a9 a10 a11 a12 a13 a14 a15) (a1 : A1) (a2 : A2) (a3 : A3) (a4 : A4) (a5 : A5) (a6 : A6) (a7 : A7) (a8 : A8) (a9 : A9) (a10 : A10) (a11 : A11) (a12 : A12) (a13 : A13) (a14 : A14) (a15 : A15) (h : I a1 a2 a3 a4 a5 a6 a7 a8 a9 a10 a11 a12 a13 a14 a15) : ∃ n, W n a1 a2 a3 a4 a5 a6 a7 a8 a9 a10 a11 a12 a13 a14 a15 :=
  loop_m (σ := A1 × A2 × A3 × A4 × A5 × A6 × A7 × A8 × A9 × A10 × A11 × A12 × A13 × A14 × A15) (fun n s => W n s.1 s.2.1 s.2.2.1 s.2.2.2.1 s.2.2.2.2.1 s.2.2.2.2.2.1 s.2.2.2.2.2.2.1 s.2.2.2.2.2.2.2.1 s.2.2.2.2.2.2.2.2.1 s.2.2.2.2.2.2.2.2.2.1 s.2.2.2.2.2.2.2.2.2.2.1 s.2.2.2.2.2.2.2.2.2.2.2.1 s.2.2.2.2.2.2.2.2.2.2.2.2.1 s.2.2.2.2.2.2.2.2.2.2.2.2.2.1 s.2.2.2.2.2.2.2.2.2.2.2.2.2.2) (fun s => I s.1 s.2.1 s.2.2.1 s.2.2.2.1 s.2.2.2.2.1 s.2.2.2.2.2.1 s.2.2.2.2.2.2.1 s.2.2.2.2.2.2.2.1 s.2.2.2.2.2.2.2.2.1 s.2.2.2.2.2.2.2.2.2.1 s.2.2.2.2.2.2.2.2.2.2.1 s.2.2.2.2.2.2.2.2.2.2.2.1 s.2.2.2.2.2.2.2.2.2.2.2.2.1 s.2.2.2.2.2.2.2.2.2.2.2.2.2.1 s.2.2.2.2.2.2.2.2.2.2.2.2.2.2) (fun s => μ s.1 s.2.1 s.2.2.1 s.2.2.2.1 s.2.2.2.2.1 s.2.2.2.2.2.1 s.2.2.2.2.2.2.1 s.2.2.2.2.2.2.2.1 s.2.2.2.2.2.2.2.2.1 s.2.2.2.2.2.2.2.2.2.1 s.2.2.2.2.2.2.2.2.2.2.1 s.2.2.2.2.2.2.2.2.2.2.2.1 s.2.2.2.2.2.2.2.2.2.2.2.2.1 s.2.2.2.2.2.2.2.2.2.2.2.2.2.1 s.2.2.2.2.2.2.2.2.2.2.2.2.2.2) (fun n s hI hk => hs n s.1 s.2.1 s.2.2.1 s.2.2.2.1 s.2.2.2.2.1 s.2.2.2.2.2.1 s.2.2.2.2.2.2.1 s.2.2.2.2.2.2.2.1 s.2.2.2.2.2.2.2.2.1 s.2.2.2.2.2.2.2.2.2.1 s.2.2.2.2.2.2.2.2.2.2.1 s.2.2.2.2.2.2.2.2.2.2.2.1 s.2.2.2.2.2.2.2.2.2.2.2.2.1 s.2.2.2.2.2.2.2.2.2.2.2.2.2.1 s.2.2.2.2.2.2.2.2.2.2.2.2.2.2 hI (fun b1 b2 b3 b4 b5 b6 b7 b8 b9 b10 b11 b12 b13 b14 b15 h9 hm => hk (b1, b2, b3, b4, b5, b6, b7, b8, b9, b10, b11, b12, b13, b14, b15) h9 hm)) (a1, a2, a3, a4, a5, a6, a7, a8, a9, a10, a11, a12, a13, a14, a15) h
theorem lp16 {A1 A2 A3 A4 A5 A6 A7 A8 A9 A10 A11 A12 A13 A14 A15 A16 : Type} (W : Nat → A1 → A2 → A3 → A4 → A5 → A6 → A7 → A8 → A9 → A10 → A11 → A12 → A13 → A14 → A15 → A16 → Prop) (I : A1 → A2 → A3 → A4 → A5 → A6 → A7 → A8 → A9 → A10 → A11 → A12 → A13 → A14 → A15 → A16 → Prop) (μ : A1 → A2 → A3 → A4 → A5 → A6 → A7 → A8 → A9 → A10 → A11 → A12 → A13 → A14 → A15 → A16 → Nat) (hs : ∀ (n : Nat) (a1 : A1) (a2 : A2) (a3 : A3) (a4 : A4) (a5 : A5) (a6 : A6) (a7 : A7) (a8 : A8) (a9 : A9) (a10 : A10) (a11 : A11) (a12 : A12) (a13 : A13) (a14 : A14) (a15 : A15) (a16 : A16), I a1 a2 a3 a4 a5 a6 a7 a8 a9 a10 a11 a12 a13 a14 a15 a16 → (∀ (b1 : A1) (b2 : A2) (b3 : A3) (b4 : A4) (b5 : A5) (b6 : A6) (b7 : A7) (b8 : A8) (b9 : A9) (b10 : A10) (b11 : A11) (b12 : A12) (b13 : A13) (b14 : A14) (b15 : A15) (b16 : A16), I b1 b2 b3 b4 b5 b6 b7 b8 b9 b10 b11 b12 b13 b14 b15 b16 → μ b1 b2 b3 b4 b5 b6 b7 b8 b9 b10 b11 b12 b13 b14 b15 b16 < μ a1 a2 a3 a4 a5 a6 a7 a8 a9 a10 a11 a12 a13 a14 a15 a16 → W n b1 b2 b3 b4 b5 b6 b7 b8 b9 b10 b11 b12 b13 b14 b15 b16) → W (n + 1) a1 a2 a3 a4 a5 a6 a7 a8 a9 a10 a11 a12 a13 a14 a15 a16) (a1 : A1) (a2 : A2) (a3 : A3) (a4 : A4) (a5 : A5) (a6 : A6) (a7 : A7) (a8 : A8) (a9 : A9) (a10 : A10) (a11 : A11) (a12 : A12) (a13 : A13) (a14 : A14) (a15 : A15) (a16 : A16) (h : I a1 a2 a3 a4 a5 a6 a7 a8 a9 a10 a11 a12 a13 a14 a15 a16) : ∃ n, W n a1 a2 a3 a4 a5 a6 a7 a8 a9 a10 a11 a12 a13 a14 a15 a16 :=
  loop_m (σ := A1 × A2 × A3 × A4 × A5 × A6 × A7 × A8 × A9 × A10 × A11 × A12 × A13 × A14 × A15 × A16) (fun n s => W n s.1 s.2.1 s.2.2.1 s.2.2.2.1 s.2.2.2.2.1 s.2.2.2.2.2.1 s.2.2.2.2.2.2.1 s.2.2.2.2.2.2.2.1 s.2.2.2.2.2.2.2.2.1 s.2.2.2.2.2.2.2.2.2.1 s.2.2.2.2.2.2.2.2.2.2.1 s.2.2.2.2.2.2.2.2.2.2.2.1 s.2.2.2.2.2.2.2.2.2.2.2.2.1 s.2.2.2.2.2.2.2.2.2.2.2.2.2.1 s.2.2.2.2.2.2.2.2.2.2.2.2.2.2.1 s.2.2.2.2.2.2.2.2.2.2.2.2.2.2.2) (fun s => I s.1 s.2.1 s.2.2.1 s.2.2.2.1 s.2.2.2.2.1 s.2.2.2.2.2.1 s.2.2.2.2.2.2.1 s.2.2.2.2.2.2.2.1 s.2.2.2.2.2.2.2.2.1 s.2.2.2.2.2.2.2.2.2.1 s.2.2.2.2.2.2.2.2.2.2.1 s.2.2.2.2.2.2.2.2.2.2.2.1 s.2.2.2.2.2.2.2.2.2.2.2.2.1 s.2.2.2.2.2.2.2.2.2.2.2.2.2.1 s.2.2.2.2.2.2.2.2.2.2.2.2.2.2.1 s.2.2.2.2.2.2.2.2.2.2.2.2.2.2.2) (fun s => μ s.1 s.2.1 s.2.2.1 s.2.2.2.1 s.2.2.2.2.1 s.2.2.2.2.2.1 s.2.2.2.2.2.2.1 s.2.2.2.2.2.2.2.1 s.2.2.2.2.2.2.2.2.1 s.2.2.2.2.2.2.2.2.2.1 s.2.2.2.2.2.2.2.2.2.2.1 s.2.2.2.2.2.2.2.2.2.2.2.1 s.2.2.2.2.2.2.2.2.2.2.2.2.1 s.2.2.2.2.2.2.2.2.2.2.2.2.2.1 s.2.2.2.2.2.2.2.2.2.2.2.2.2.2.1 s.2.2.2.2.2.2.2.2.2.2.2.2.2.2.2) (fun n s hI hk => hs n s.1 s.2.1 s.2.2.1 s.2.2.2.1 s.2.2.2.2.1 s.2.2.2.2.2.1 s.2.2.2.2.2.2.1 s.2.2.2.2.2.2.2.1 s.2.2.2.2.2.2.2.2.1 s.2.2.2.2.2.2.2.2.2.1 s.2.2.2.2.2.2.2.2.2.2.1 s.2.2.2.2.2.2.2.2.2.2.2.1 s.2.2.2.2.2.2.2.2.2.2.2.2.1 s.2.2.2.2.2.2.2.2.2.2.2.2.2.1 s.2.2.2.2.2.2.2.2.2.2.2.2.2.2.1 s.2.2.2.2.2.2.2.2.2.2.2.2.2.2.2 hI (fun b1 b2 b3 b4 b5 b6 b7 b8 b9 b10 b11 b12 b13 b14 b15 b16 h9 hm => hk (b1, b2, b3, b4, b5, b6, b7, b8, b9, b10, b11, b12, b13, b14, b15, b16) h9 hm)) (a1, a2, a3, a4, a5, a6, a7, a8, a9, a10, a11, a12, a13, a14, a15, a16) h
theorem pk_least (P : Nat → Prop) (h : ∃ k, P k) : ∃ k, P k ∧ ∀ j, j < k → ¬ P j := by
  obtain ⟨k, hk⟩ := h
  induction k using Nat.strongRecOn with
  | ind k ih =>
    by_cases e : ∃ j, j < k ∧ P j
    · obtain ⟨j, hj, pj⟩ := e
      exact ih j hj pj
    · exact ⟨k, hk, fun j hj pj => e ⟨j, hj, pj⟩⟩
theorem rp1 {ρ A1 : Type} (W : Nat → (ρ → Prop) → A1 → Prop) (ok : A1 → Prop) (μ : A1 → Nat) (val : A1 → ρ)
    (hs : ∀ (d : Nat) (post : ρ → Prop) (a1 : A1), ok a1 → post (val a1) → (∀ (post' : ρ → Prop) (b1 : A1), ok b1 → μ b1 < μ a1 → post' (val b1) → W d post' b1) → W (d + 1) post a1) :
    ∀ (d : Nat) (post : ρ → Prop) (a1 : A1), ok a1 → μ a1 < d → post (val a1) → W d post a1 := by
  intro d
  induction d with
  | zero => intro post a1 _ h; omega
  | succ d ih =>
    intro post a1 ho hm hp
    exact hs d post a1 ho hp (fun post' b1 ho' hm' hp' => ih post' b1 ho' (by omega) hp')
theorem rp2 {ρ A1 A2 : Type} (W : Nat → (ρ → Prop) → A1 → A2 → Prop) (ok : A1 → A2 → Prop) (μ : A1 → A2 → Nat) (val : A1 → A2 → ρ)
    (hs : ∀ (d : Nat) (post : ρ → Prop) (a1 : A1) (a2 : A2), ok a1 a2 → post (val a1 a2) → (∀ (post' : ρ → Prop) (b1 : A1) (b2 : A2), ok b1 b2 → μ b1 b2 < μ a1 a2 → post' (val b1 b2) → W d post' b1 b2) → W (d + 1) post a1 a2) :
    ∀ (d : Nat) (post : ρ → Prop) (a1 : A1) (a2 : A2), ok a1 a2 → μ a1 a2 < d → post (val a1 a2) → W d post a1 a2 := by
  intro d
  induction d with
  | zero => intro post a1 a2 _ h; omega
  | succ d ih =>
    intro post a1 a2 ho hm hp
    exact hs d post a1 a2 ho hp (fun post' b1 b2 ho' hm' hp' => ih post' b1 b2 ho' (by omega) hp')
theorem rp3 {ρ A1 A2 A3 : Type} (W : Nat → (ρ → Prop) → A1 → A2 → A3 → Prop) (ok : A1 → A2 → A3 → Prop) (μ : A1 → A2 → A3 → Nat) (val : A1 → A2 → A3 → ρ)
    (hs : ∀ (d : Nat) (post : ρ → Prop) (a1 : A1) (a2 : A2) (a3 : A3), ok a1 a2 a3 → post (val a1 a2 a3) → (∀ (post' : ρ → Prop) (b1 : A1) (b2 : A2) (b3 : A3), ok b1 b2 b3 → μ b1 b2 b3 < μ a1 a2 a3 → post' (val b1 b2 b3) → W d post' b1 b2 b3) → W (d + 1) post a1 a2 a3) :
    ∀ (d : Nat) (post : ρ → Prop) (a1 : A1) (a2 : A2) (a3 : A3), ok a1 a2 a3 → μ a1 a2 a3 < d → post (val a1 a2 a3) → W d post a1 a2 a3 := by
  intro d
  induction d with
  | zero => intro post a1 a2 a3 _ h; omega
  | succ d ih =>
    intro post a1 a2 a3 ho hm hp
    exact hs d post a1 a2 a3 ho hp (fun post' b1 b2 b3 ho' hm' hp' => ih post' b1 b2 b3 ho' (by omega) hp')
theorem rp4 {ρ A1 A2 A3 A4 : Type} (W : Nat → (ρ → Prop) → A1 → A2 → A3 → A4 → Prop) (ok : A1 → A2 → A3 → A4 → Prop) (μ : A1 → A2 → A3 → A4 → Nat) (val : A1 → A2 → A3 → A4 → ρ)
    (hs : ∀ (d : Nat) (post : ρ → Prop) (a1 : A1) (a2 : A2) (a3 : A3) (a4 : A4), ok a1 a2 a3 a4 → post (val a1 a2 a3 a4) → (∀ (post' : ρ → Prop) (b1 : A1) (b2 : A2) (b3 : A3) (b4 : A4), ok b1 b2 b3 b4 → μ b1 b2 b3 b4 < μ a1 a2 a3 a4 → post' (val b1 b2 b3 b4) → W d post' b1 b2 b3 b4) → W (d + 1) post a1 a2 a3 a4) :
    ∀ (d : Nat) (post : ρ → Prop) (a1 : A1) (a2 : A2) (a3 : A3) (a4 : A4), ok a1 a2 a3 a4 → μ a1 a2 a3 a4 < d → post (val a1 a2 a3 a4) → W d post a1 a2 a3 a4 := by
  intro d
  induction d with
  | zero => intro post a1 a2 a3 a4 _ h; omega
  | succ d ih =>
    intro post a1 a2 a3 a4 ho hm hp
    exact hs d post a1 a2 a3 a4 ho hp (fun post' b1 b2 b3 b4 ho' hm' hp' => ih post' b1 b2 b3 b4 ho' (by omega) hp')
theorem rp5 {ρ A1 A2 A3 A4 A5 : Type} (W : Nat → (ρ → Prop) → A1 → A2 → A3 → A4 → A5 → Prop) (ok : A1 → A2 → A3 → A4 → A5 → Prop) (μ : A1 → A2 → A3 → A4 → A5 → Nat) (val : A1 → A2 → A3 → A4 → A5 → ρ)
    (hs : ∀ (d : Nat) (post : ρ → Prop) (a1 : A1) (a2 : A2) (a3 : A3) (a4 : A4) (a5 : A5), ok a1 a2 a3 a4 a5 → post (val a1 a2 a3 a4 a5) → (∀ (post' : ρ → Prop) (b1 : A1) (b2 : A2) (b3 : A3) (b4 : A4) (b5 : A5), ok b1 b2 b3 b4 b5 → μ b1 b2 b3 b4 b5 < μ a1 a2 a3 a4 a5 → post' (val b1 b2 b3 b4 b5) → W d post' b1 b2 b3 b4 b5) → W (d + 1) post a1 a2 a3 a4 a5) :
    ∀ (d : Nat) (post : ρ → Prop) (a1 : A1) (a2 : A2) (a3 : A3) (a4 : A4) (a5 : A5), ok a1 a2 a3 a4 a5 → μ a1 a2 a3 a4 a5 < d → post (val a1 a2 a3 a4 a5) → W d post a1 a2 a3 a4 a5 := by
  intro d
  induction d with
  | zero => intro post a1 a2 a3 a4 a5 _ h; omega
  | succ d ih =>
    intro post a1 a2 a3 a4 a5 ho hm hp
    exact hs d post a1 a2 a3 a4 a5 ho hp (fun post' b1 b2 b3 b4 b5 ho' hm' hp' => ih post' b1 b2 b3 b4 b5 ho' (by omega) hp')
theorem rp6 {ρ A1 A2 A3 A4 A5 A6 : Type} (W : Nat → (ρ → Prop) → A1 → A2 → A3 → A4 → A5 → A6 → Prop) (ok : A1 → A2 → A3 → A4 → A5 → A6 → Prop) (μ : A1 → A2 → A3 → A4 → A5 → A6 → Nat) (val : A1 → A2 → A3 → A4 → A5 → A6 → ρ)
    (hs : ∀ (d : Nat) (post : ρ → Prop) (a1 : A1) (a2 : A2) (a3 : A3) (a4 : A4) (a5 : A5) (a6 : A6), ok a1 a2 a3 a4 a5 a6 → post (val a1 a2 a3 a4 a5 a6) → (∀ (post' : ρ → Prop) (b1 : A1) (b2 : A2) (b3 : A3) (b4 : A4) (b5 : A5) (b6 : A6), ok b1 b2 b3 b4 b5 b6 → μ b1 b2 b3 b4 b5 b6 < μ a1 a2 a3 a4 a5 a6 → post' (val b1 b2 b3 b4 b5 b6) → W d post' b1 b2 b3 b4 b5 b6) → W (d + 1) post a1 a2 a3 a4 a5 a6) :
    ∀ (d : Nat) (post : ρ → Prop) (a1 : A1) (a2 : A2) (a3 : A3) (a4 : A4) (a5 : A5) (a6 : A6), ok a1 a2 a3 a4 a5 a6 → μ a1 a2 a3 a4 a5 a6 < d → post (val a1 a2 a3 a4 a5 a6) → W d post a1 a2 a3 a4 a5 a6 := by
  intro d
  induction d with
  | zero => intro post a1 a2 a3 a4 a5 a6 _ h; omega
  | succ d ih =>
    intro post a1 a2 a3 a4 a5 a6 ho hm hp
    exact hs d post a1 a2 a3 a4 a5 a6 ho hp (fun post' b1 b2 b3 b4 b5 b6 ho' hm' hp' => ih post' b1 b2 b3 b4 b5 b6 ho' (by omega) hp')
theorem rec_p {σ ρ : Type} (W : Nat → (ρ → Prop) → σ → Prop) (ok : σ → Prop) (μ : σ → Nat) (val : σ → ρ)
    (hs : ∀ d s post, ok s → post (val s) → (∀ s' post', ok s' → μ s' < μ s → post' (val s') → W d post' s') → W (d + 1) post s) :
    ∀ d s post, ok s → μ s < d → post (val s) → W d post s := by
  intro d
  induction d with
  | zero => intro s post _ h; omega
  | succ d ih =>
    intro s post ho hm hp
    exact hs d s post ho hp (fun s' post' ho' hm' hp' => ih s' post' ho' (by omega) hp')
theorem rec_q {σ ρ : Type} (W : Nat → (ρ → Prop) → σ → Prop) (ok : σ → Prop) (μ : σ → Nat) (Q : σ → ρ → Prop)
    (hs : ∀ d s post, ok s → (∀ r, Q s r → post r) → (∀ s' post', ok s' → μ s' < μ s → (∀ r, Q s' r → post' r) → W d post' s') → W (d + 1) post s) :
    ∀ d s post, ok s → μ s < d → (∀ r, Q s r → post r) → W d post s := by
  intro d
  induction d with
  | zero => intro s post _ h; omega
  | succ d ih =>
    intro s post ho hm hp
    exact hs d s post ho hp (fun s' post' ho' hm' hp' => ih s' post' ho' (by omega) hp')
def bx_sum (f : Nat → Int32) : Nat → Int32
  | 0 => 0
  | n + 1 => bx_sum f n + f n
theorem ek_u {A : Prop} {B : Nat → Prop} {k N : Nat} (hk : k < N) (h : B k) : (some k = none → A) ∧ (∀ y : Nat, some k = some y → (y < N ∧ B y)) :=
  ⟨fun z => absurd z (Option.some_ne_none k), fun _ e => (by cases e; exact ⟨hk, h⟩)⟩
theorem ek_nu {A : Prop} {B : Nat → Prop} (h : A) : ((none : Option Nat) = none → A) ∧ (∀ y : Nat, (none : Option Nat) = some y → B y) :=
  ⟨fun _ => h, fun _ e => (by cases e)⟩
theorem ek_if {c d A B : Prop} (e : c ↔ d) (f : d → A) (g : ¬ d → B) : (c → A) ∧ (¬ c → B) :=
  ⟨fun z => f (e.mp z), fun z => g (fun y => z (e.mpr y))⟩
theorem ek_v {α : Sort _} {P : α → Prop} {a b : α} (e : a = b) (h : P b) : P a := e ▸ h
theorem co_some {x : Option Nat} {A : Prop} {B : Nat → Prop} (i : Nat) (h : B i) (hx : x = some i := by rfl) : (x = none → A) ∧ (∀ y : Nat, x = some y → B y) := by
  subst hx
  exact ⟨fun e => (nomatch e), fun y e => Option.some.inj e ▸ h⟩
theorem co_none {x : Option Nat} {A : Prop} {B : Nat → Prop} (h : A) (hx : x = none := by rfl) : (x = none → A) ∧ (∀ y : Nat, x = some y → B y) := by
  subst hx
  exact ⟨fun _ => h, fun y e => (nomatch e)⟩
theorem co_any {x : Option Nat} {A : Prop} {B : Nat → Prop} (hn : x = none → A) (hs : ∀ i : Nat, x = some i → B i) : (x = none → A) ∧ (∀ y : Nat, x = some y → B y) := ⟨hn, hs⟩
theorem co_2 {P : Nat → Prop} (h0 : P 0) (h1 : P 1) {i : Nat} (hi : i < 2) : P i :=
  match i, hi with
  | 0, _ => h0
  | 1, _ => h1
theorem co_3 {P : Nat → Prop} (h0 : P 0) (h1 : P 1) (h2 : P 2) {i : Nat} (hi : i < 3) : P i :=
  match i, hi with
  | 0, _ => h0
  | 1, _ => h1
  | 2, _ => h2
theorem co_4 {P : Nat → Prop} (h0 : P 0) (h1 : P 1) (h2 : P 2) (h3 : P 3) {i : Nat} (hi : i < 4) : P i :=
  match i, hi with
  | 0, _ => h0
  | 1, _ => h1
  | 2, _ => h2
  | 3, _ => h3
theorem co_dec {N : Nat} {P : Nat → Prop} [DecidablePred P] (h : (List.range N).all (fun i => decide (P i)) = true) {i : Nat} (hi : i < N) : P i := by
  have := List.all_eq_true.mp h i (List.mem_range.mpr hi)
  exact of_decide_eq_true this
theorem co_tab {α : Type} {l : List α} {d : α} {P : α → Prop} (h : ∀ a, a ∈ l → P a) {i : Nat} (hi : i < l.length) : P (l.getD i d) := by
  rw [List.getD_eq_getElem?_getD, List.getElem?_eq_getElem hi]
  exact h _ (List.getElem_mem hi)
theorem pk_mu {x : Int32} {L : Nat} (h0 : ¬ x < 0) (h : ¬ nI L ≤ x) (hL : L < 2 ^ 31) : ∃ j : Nat, j < L ∧ x = nI j ∧ x + 1 = nI (j + 1) ∧ x.toNatClampNeg = j ∧ L - (x + 1).toNatClampNeg < L - x.toNatClampNeg := by
  obtain ⟨j, hj, rfl⟩ := nI_of h0
  have hl : j < L := Nat.not_le.mp fun q => h (nI_le q hj)
  refine ⟨j, hl, rfl, nI_1 j, nI_clamp hj, ?_⟩
  rw [nI_1, nI_clamp (by omega), nI_clamp hj]
  omega
theorem op_s {α : Type} {r : Option α} {A : Prop} {B : α → Prop} {y : α} (h : r = some y) (b : B y) : (r = none → A) ∧ ∀ z, r = some z → B z :=
  ⟨fun e => (by rw [h] at e; cases e), fun z e => (by rw [h] at e; cases e; exact b)⟩
def l_holds {α : Type} (a : Nat → Option Nat) (LP : List Nat) (p : Nat → α) (c : Nat) (b : Nat → α) : Prop :=
  ∀ j, j < c → ∃ y, a j = some y ∧ y ∈ LP ∧ p y = b j
theorem l_holds_0 {α : Type} {a : Nat → Option Nat} {LP : List Nat} {p b : Nat → α} : l_holds a LP p 0 b := fun j h => absurd h (Nat.not_lt_zero j)
theorem l_in_new (LP : List Nat) (q : Nat) : q ∈ LP ++ [q] := List.mem_append.mpr (Or.inr (List.mem_singleton.mpr rfl))
def l_sum (b : Nat → Int32) : Nat → Int32
  | 0 => 0
  | k + 1 => l_sum b k + b k
theorem sb_shr0 (x : Int32) : x >>> ((0 : Int32) &&& 31) = x := by
  rw [show ((0 : Int32) &&& 31) = 0 by decide]
  simp
theorem sb_shl0 (x : Int32) : x <<< ((0 : Int32) &&& 31) = x := by
  rw [show ((0 : Int32) &&& 31) = 0 by decide]
  simp
theorem sb_cl0 : (0 : Int32).toNatClampNeg = 0 := by decide
theorem sb_m1 {p : Nat} (h : 0 < p) : nI p + (-1) = nI (p - 1) := by
  obtain ⟨q, rfl⟩ : ∃ q, p = q + 1 := ⟨p - 1, by omega⟩
  exact pk_m1 q
def sb_b (c : Nat) : Int32 := (nI c).toInt8.toInt32
theorem sb_byte : ∀ c, c < 256 → sb_b c &&& 255 = nI c ∧ ((nI c).toUInt32 % 65536).toInt32 = nI c ∧ nI c ≤ 255 := by decide +kernel
def sb_Fit (a : Nat → Int32) : Prop := ∀ j, fits .byte (.int (a j)) = true
def sb_Lat (t : Nat → Nat) (n : Nat) (a : Nat → Int32) : Prop := ∀ j, j < n → t j < 256 ∧ a j = sb_b (t j)
theorem sb_fitB (c : Nat) : fits .byte (.int (sb_b c)) = true := pk_fb _
theorem sb_fit0 : sb_Fit (fun _ => 0) := fun _ => by
  show fits .byte (.int 0) = true
  decide
theorem sb_fitU {a : Nat → Int32} {k : Nat} {x : Int32} (h : sb_Fit a) (hx : fits .byte (.int x) = true) : sb_Fit (upd a k x) := by
  intro j
  by_cases e : j = k
  · subst e
    rw [pk_us]
    exact hx
  · rw [pk_un e]
    exact h j
def sb_cat (t : Nat → Nat) (n : Nat) (s : Nat → Nat) : Nat → Nat := fun j => if j < n then t j else s (j - n)
theorem sb_cat_lo {t s : Nat → Nat} {n j : Nat} (h : j < n) : sb_cat t n s j = t j := if_pos h
theorem sb_cat_hi {t s : Nat → Nat} {n j : Nat} : sb_cat t n s (n + j) = s j := by
  show (if n + j < n then t (n + j) else s (n + j - n)) = s j
  rw [if_neg (by omega), Nat.add_sub_cancel_left]
theorem sb_latPut {t s : Nat → Nat} {n w : Nat} {a a' : Nat → Int32} (h : sb_Lat t n a) (hk : ∀ j, j < n → a' j = a j) (hs : ∀ i, i < w → s i < 256 ∧ a' (n + i) = sb_b (s i)) : sb_Lat (sb_cat t n s) (n + w) a' := by
  intro j hj
  by_cases e : j < n
  · rw [sb_cat_lo e, hk j e]
    exact h j e
  · obtain ⟨i, rfl⟩ : ∃ i, j = n + i := ⟨j - n, by omega⟩
    rw [sb_cat_hi]
    exact hs i (by omega)
theorem sb_latKeep {t : Nat → Nat} {n : Nat} {a a' : Nat → Int32} (h : sb_Lat t n a) (hk : ∀ j, j < n → a' j = a j) : sb_Lat t n a' := fun j hj => by
  rw [hk j hj]
  exact h j hj
def sb_cap (q m : Nat) : Nat := if q ≤ m then m else if 2 * m + 2 < q then q else 2 * m + 2
def sb_Room (q m mc ms : Nat) : Prop := q ≤ m ∨ (1 ≤ mc ∧ sb_cap q m ≤ ms ∧ sb_cap q m ≤ 65536)
theorem sb_cap_ge (q m : Nat) : q ≤ sb_cap q m := by
  unfold sb_cap
  split
  · omega
  · split <;> omega
theorem sb_cap_gem (q m : Nat) : m ≤ sb_cap q m := by
  unfold sb_cap
  split
  · omega
  · split <;> omega
theorem sb_cap_le {q m mc ms : Nat} (hm : m ≤ 65536) (hr : sb_Room q m mc ms) : sb_cap q m ≤ 65536 := by
  rcases hr with h | h
  · rw [sb_cap, if_pos h]
    exact hm
  · exact h.2.2
theorem sb_at {P : Int32 → Prop} {x y : Int32} (e : x = y) (h : P y) : P x := e ▸ h
def sb_dg (w : Nat) : Nat := if w < 10 then 1 else if w < 100 then 2 else if w < 1000 then 3 else if w < 10000 then 4 else if w < 100000 then 5 else if w < 1000000 then 6 else if w < 10000000 then 7 else if w < 100000000 then 8 else if w < 1000000000 then 9 else 10
def sb_dec (v : Nat) : Nat → Nat := fun i => 48 + v / 10 ^ (sb_dg v - 1 - i) % 10
theorem sb_dg_in (w : Nat) : 1 ≤ sb_dg w ∧ sb_dg w ≤ 10 := by
  unfold sb_dg
  constructor <;> (repeat' split) <;> omega
theorem sb_dg100 {w : Nat} (h : 100 ≤ w) (hw : w < 2 ^ 31) : sb_dg w = sb_dg (w / 100) + 2 := by
  rw [sb_dg, sb_dg, if_neg (show ¬ w < 10 by omega), if_neg (show ¬ w < 100 by omega)]
  by_cases h3 : w < 1000
  · rw [if_pos h3, if_pos (show w / 100 < 10 by omega)]
  rw [if_neg h3, if_neg (show ¬ w / 100 < 10 by omega)]
  by_cases h4 : w < 10000
  · rw [if_pos h4, if_pos (show w / 100 < 100 by omega)]
  rw [if_neg h4, if_neg (show ¬ w / 100 < 100 by omega)]
  by_cases h5 : w < 100000
  · rw [if_pos h5, if_pos (show w / 100 < 1000 by omega)]
  rw [if_neg h5, if_neg (show ¬ w / 100 < 1000 by omega)]
  by_cases h6 : w < 1000000
  · rw [if_pos h6, if_pos (show w / 100 < 10000 by omega)]
  rw [if_neg h6, if_neg (show ¬ w / 100 < 10000 by omega)]
  by_cases h7 : w < 10000000
  · rw [if_pos h7, if_pos (show w / 100 < 100000 by omega)]
  rw [if_neg h7, if_neg (show ¬ w / 100 < 100000 by omega)]
  by_cases h8 : w < 100000000
  · rw [if_pos h8, if_pos (show w / 100 < 1000000 by omega)]
  rw [if_neg h8, if_neg (show ¬ w / 100 < 1000000 by omega)]
  by_cases h9 : w < 1000000000
  · rw [if_pos h9, if_pos (show w / 100 < 10000000 by omega)]
  rw [if_neg h9, if_neg (show ¬ w / 100 < 10000000 by omega)]
  rw [if_pos (show w / 100 < 100000000 by omega)]
theorem sb_negT {w : Nat} (h : w < 2 ^ 31) : (-nI w).toInt = -(w : Int) := by
  rw [Int32.toInt_neg, nI_toInt h]
  exact Int.bmod_eq_of_le (by omega) (by omega)
theorem sb_nle {a b : Nat} (ha : a < 2 ^ 31) (hb : b < 2 ^ 31) : -nI a ≤ -nI b ↔ b ≤ a := by
  rw [Int32.le_iff_toInt_le, sb_negT ha, sb_negT hb]
  omega
theorem sb_nlt {a b : Nat} (ha : a < 2 ^ 31) (hb : b < 2 ^ 31) : -nI a < -nI b ↔ b < a := by
  rw [Int32.lt_iff_toInt_lt, sb_negT ha, sb_negT hb]
  omega
theorem sb_cmp {A B : Prop} {x : Int32} (v c : Nat) (f : c ≤ v → A) (g : v < c → B) (hv : v < 2 ^ 31) (hx : x = -nI c := by rfl) (hc : c < 2 ^ 31 := by omega) : (-nI v ≤ x → A) ∧ (¬ -nI v ≤ x → B) := by
  subst hx
  rw [sb_nle hv hc]
  exact ⟨f, fun z => g (by omega)⟩
theorem sb_ndiv {w : Nat} (hw : w < 2 ^ 31) : (-nI w) / 100 = -nI (w / 100) := by
  apply Int32.toInt_inj.mp
  have h100 : (100 : Int32).toInt = 100 := by decide
  rw [Int32.toInt_div, sb_negT hw, h100, sb_negT (by omega), Int.neg_tdiv, Int.tdiv_eq_ediv_of_nonneg (by omega), Int.bmod_eq_of_le (by omega) (by omega)]
  omega
theorem sb_nrem {w : Nat} (hw : w < 2 ^ 31) : (-nI (w / 100)) * 100 - (-nI w) = nI (w % 100) := by
  have h := pk_rem (a := w) (d := 100) hw (by decide) (by decide)
  rw [pk_div hw (by decide) (by decide)] at h
  rw [← h]
  show (-nI (w / 100)) * nI 100 - (-nI w) = nI w - nI (w / 100) * nI 100
  rw [Int32.neg_mul, Int32.sub_neg, Int32.add_comm, ← Int32.sub_eq_add_neg]
end
section
/-! rows on bits, shifts and unsigned numbers, to paste: each family out of a closed proof of our own, whole with what it rests on; each by itself clean at Lean in its own claim (generation 39, form 5). Take a family whole -/
/-! ===== Int32 by its bits: bt x i ===== -/
def bt (x : Int32) (i : Nat) : Bool := x.toBitVec.getLsbD i
theorem b_ext {x y : Int32} (h : ∀ i, i < 32 → bt x i = bt y i) : x = y := Int32.toBitVec_inj.mp (BitVec.eq_of_getLsbD_eq (fun i hi => h i hi))
theorem b_or (x y : Int32) (i : Nat) : bt (x ||| y) i = (bt x i || bt y i) := by unfold bt; rw [Int32.toBitVec_or, BitVec.getLsbD_or]
theorem b_and (x y : Int32) (i : Nat) : bt (x &&& y) i = (bt x i && bt y i) := by unfold bt; rw [Int32.toBitVec_and, BitVec.getLsbD_and]
theorem b_xor (x y : Int32) (i : Nat) : bt (x ^^^ y) i = (bt x i ^^ bt y i) := by unfold bt; rw [Int32.toBitVec_xor, BitVec.getLsbD_xor]
theorem b_big {x : Int32} {i : Nat} (h : 32 ≤ i) : bt x i = false := BitVec.getLsbD_of_ge _ _ h
theorem b_255 (i : Nat) : bt 255 i = decide (i < 8) := by
  rcases Nat.lt_or_ge i 32 with h | h
  · exact (by decide +kernel : ∀ i, i < 32 → bt 255 i = decide (i < 8)) i h
  · rw [b_big h, decide_eq_false (by omega)]
theorem b_65535 (i : Nat) : bt 65535 i = decide (i < 16) := by
  rcases Nat.lt_or_ge i 32 with h | h
  · exact (by decide +kernel : ∀ i, i < 32 → bt 65535 i = decide (i < 16)) i h
  · rw [b_big h, decide_eq_false (by omega)]
theorem b_m1 : ∀ i, i < 32 → bt (-1) i = true := by decide +kernel
theorem b_0 (i : Nat) : bt 0 i = false := BitVec.getLsbD_zero
theorem s_l : ∀ n, n < 32 → ((nI n &&& 31).toBitVec.smod 32).toNat = n := by decide +kernel
theorem s_u : ∀ n, n < 32 → (((nI n).toUInt32 &&& Int32.toUInt32 31).toBitVec % 32).toNat = n := by decide +kernel
theorem b_shl (n : Nat) (hn : n < 32) (x : Int32) {i : Nat} (hi : i < 32) : bt (x <<< (nI n &&& 31)) i = (decide (n ≤ i) && bt x (i - n)) := by
  unfold bt
  rw [Int32.toBitVec_shiftLeft]
  show (x.toBitVec <<< ((nI n &&& 31).toBitVec.smod 32).toNat).getLsbD i = _
  rw [s_l n hn, BitVec.getLsbD_shiftLeft]
  rcases Nat.lt_or_ge i n with h | h
  · simp [h, Nat.not_le.mpr h]
  · simp [hi, h, Nat.not_lt.mpr h]
theorem b_ushr (n : Nat) (hn : n < 32) (x : Int32) (i : Nat) : bt ((x.toUInt32 >>> ((nI n).toUInt32 &&& Int32.toUInt32 31)).toInt32) i = bt x (n + i) := by
  show (x.toUInt32 >>> ((nI n).toUInt32 &&& Int32.toUInt32 31)).toBitVec.getLsbD i = x.toUInt32.toBitVec.getLsbD (n + i)
  rw [UInt32.toBitVec_shiftRight]
  show (x.toUInt32.toBitVec >>> (((nI n).toUInt32 &&& Int32.toUInt32 31).toBitVec % 32).toNat).getLsbD i = _
  rw [s_u n hn, BitVec.getLsbD_ushiftRight]
theorem b_sshr (n : Nat) (hn : n < 32) (x : Int32) {i : Nat} (hi : i < 32) : bt (x >>> (nI n &&& 31)) i = if n + i < 32 then bt x (n + i) else bt x 31 := by
  unfold bt
  rw [Int32.toBitVec_shiftRight]
  show (x.toBitVec.sshiftRight ((nI n &&& 31).toBitVec.smod 32).toNat).getLsbD i = _
  rw [s_l n hn, BitVec.getLsbD_sshiftRight, BitVec.msb_eq_getLsbD_last]
  simp [hi]
theorem b_shl8 (x : Int32) {i : Nat} (hi : i < 32) : bt (x <<< ((8 : Int32) &&& 31)) i = (decide (8 ≤ i) && bt x (i - 8)) := b_shl 8 (by omega) x hi
theorem b_shl16 (x : Int32) {i : Nat} (hi : i < 32) : bt (x <<< ((16 : Int32) &&& 31)) i = (decide (16 ≤ i) && bt x (i - 16)) := b_shl 16 (by omega) x hi
theorem b_shl24 (x : Int32) {i : Nat} (hi : i < 32) : bt (x <<< ((24 : Int32) &&& 31)) i = (decide (24 ≤ i) && bt x (i - 24)) := b_shl 24 (by omega) x hi
theorem b_sshr8 (x : Int32) {i : Nat} (hi : i < 32) : bt (x >>> ((8 : Int32) &&& 31)) i = if 8 + i < 32 then bt x (8 + i) else bt x 31 := b_sshr 8 (by omega) x hi
/-! ===== nI under and, xor, >>>, one bit, 65535 ===== -/
theorem nx_and (a b : Nat) : nI a &&& nI b = nI (a &&& b) := by
  apply Int32.toBitVec_inj.1
  show BitVec.ofNat 32 a &&& BitVec.ofNat 32 b = BitVec.ofNat 32 (a &&& b)
  apply BitVec.eq_of_getLsbD_eq
  intro i hi
  simp [hi]
theorem nx_xor (a b : Nat) : nI a ^^^ nI b = nI (a ^^^ b) := by
  apply Int32.toBitVec_inj.1
  show BitVec.ofNat 32 a ^^^ BitVec.ofNat 32 b = BitVec.ofNat 32 (a ^^^ b)
  apply BitVec.eq_of_getLsbD_eq
  intro i hi
  simp [hi]
theorem nx_cnt : ∀ j : Fin 32, (UInt32.ofNat j.val &&& Int32.toUInt32 31).toNat % 32 = j.val := by decide +kernel
theorem nx_ush {k j : Nat} (hk : k < 65536) (hj : j < 32) : ((nI k).toUInt32 >>> ((nI j).toUInt32 &&& Int32.toUInt32 31)).toInt32 = nI (k >>> j) := by
  have hs : k >>> j ≤ k := by
    rw [Nat.shiftRight_eq_div_pow]
    exact Nat.div_le_self _ _
  have e2 : UInt32.ofNat k >>> (UInt32.ofNat j &&& Int32.toUInt32 31) = UInt32.ofNat (k >>> j) := by
    apply UInt32.toNat_inj.1
    have h1 : (UInt32.ofNat k).toNat = k := Nat.mod_eq_of_lt (by omega)
    have h2 : (UInt32.ofNat (k >>> j)).toNat = k >>> j := Nat.mod_eq_of_lt (by omega)
    rw [UInt32.toNat_shiftRight, nx_cnt ⟨j, hj⟩, h1, h2]
  show (UInt32.ofNat k >>> (UInt32.ofNat j &&& Int32.toUInt32 31)).toInt32 = _
  rw [e2]
  rfl
theorem nx_bit {k j : Nat} (hk : k < 65536) (hj : j < 16) : (((nI k).toUInt32 >>> ((nI j).toUInt32 &&& Int32.toUInt32 31)).toInt32 &&& 1) = 0 ↔ k.testBit j = false := by
  rw [nx_ush hk (by omega)]
  show nI (k >>> j) &&& nI 1 = 0 ↔ _
  rw [nx_and, Nat.and_one_is_mod, ← nI_0, nI_eq (by omega) (by omega), Nat.testBit_eq_decide_div_mod_eq, Nat.shiftRight_eq_div_pow, decide_eq_false_iff_not]
  generalize k / 2 ^ j = z
  omega
theorem nx_mod (k : Nat) : nI k &&& 65535 = nI (k % 65536) := by
  show nI k &&& nI 65535 = _
  rw [nx_and, show (65535 : Nat) = 2 ^ 16 - 1 from rfl, Nat.and_two_pow_sub_one_eq_mod]
theorem nx_m16 {k : Nat} (h : k < 65536) : nI k &&& 65535 = nI k := by rw [nx_mod, Nat.mod_eq_of_lt h]
theorem nx_mask (x : Int32) : ∃ k, k < 65536 ∧ x &&& 65535 = nI k := by
  have e : x = nI x.toBitVec.toNat := by
    apply Int32.toBitVec_inj.1
    show x.toBitVec = BitVec.ofNat 32 x.toBitVec.toNat
    simp
  refine ⟨x.toBitVec.toNat % 65536, Nat.mod_lt _ (by omega), ?_⟩
  rw [← nx_mod, ← e]
/-! ===== Int32 as a set of bits: test, set ===== -/
def nf_M (m : Int32) : Nat := 4294967296 - m.toBitVec.toNat
theorem nf_sh : ∀ l, l < 32 → ((1 : Int32) <<< (nI l &&& 31)).toBitVec = BitVec.twoPow 32 l := by decide +kernel
theorem nf_sl : ∀ l, l < 32 → (((nI l).toUInt32 &&& Int32.toUInt32 31).toBitVec % 32).toNat = l := by decide +kernel
theorem nf_tp : ∀ l, l < 32 → BitVec.twoPow 32 l ≠ 0#32 := by decide +kernel
theorem nf_bit (m : Int32) (l : Nat) (hl : l < 32) : ((m.toUInt32 >>> ((nI l).toUInt32 &&& Int32.toUInt32 31)).toInt32 &&& 1) = 0 ↔ (m &&& ((1 : Int32) <<< (nI l &&& 31))) = 0 := by
  have e : ((m.toUInt32 >>> ((nI l).toUInt32 &&& Int32.toUInt32 31)).toInt32).toBitVec = m.toBitVec >>> l := by
    show m.toBitVec >>> (((nI l).toUInt32 &&& Int32.toUInt32 31).toBitVec % 32) = m.toBitVec >>> l
    rw [BitVec.ushiftRight_eq', nf_sl l hl]
  rw [← Int32.toBitVec_inj, ← Int32.toBitVec_inj, Int32.toBitVec_and, Int32.toBitVec_and, nf_sh l hl, e, BitVec.and_twoPow]
  show (m.toBitVec >>> l &&& 1#32) = 0#32 ↔ _ = 0#32
  rw [BitVec.and_one_eq_setWidth_ofBool_getLsbD, BitVec.getLsbD_ushiftRight, Nat.add_zero]
  cases hb : m.toBitVec.getLsbD l
  · exact ⟨fun _ => by simp, fun _ => by decide⟩
  · exact ⟨fun z => absurd z (by decide), fun z => absurd ((if_pos rfl).symm.trans z) (nf_tp l hl)⟩
theorem nf_gr (m k : Int32) (h : m &&& k = 0) (hk : k ≠ 0) : nf_M (m ||| k) < nf_M m := by
  have hm := m.toBitVec.isLt
  have hm' := (m ||| k).toBitVec.isLt
  have h1 : m.toBitVec.toNat ≤ (m ||| k).toBitVec.toNat := by
    rw [Int32.toBitVec_or, BitVec.toNat_or]
    exact Nat.left_le_or
  have h2 : m.toBitVec.toNat ≠ (m ||| k).toBitVec.toNat := by
    intro e
    have e2 : m = m ||| k := Int32.toBitVec_inj.mp (BitVec.eq_of_toNat_eq e)
    apply hk
    apply Int32.toBitVec_inj.mp
    show k.toBitVec = 0#32
    apply BitVec.eq_of_getLsbD_eq
    intro i hi
    have a : m.toBitVec.getLsbD i = (m.toBitVec.getLsbD i || k.toBitVec.getLsbD i) := by rw [← BitVec.getLsbD_or, ← Int32.toBitVec_or, ← e2]
    have b : (m.toBitVec.getLsbD i && k.toBitVec.getLsbD i) = false := by
      rw [← BitVec.getLsbD_and, ← Int32.toBitVec_and, h]
      exact BitVec.getLsbD_zero
    rw [BitVec.getLsbD_zero]
    revert a b
    cases m.toBitVec.getLsbD i <;> cases k.toBitVec.getLsbD i <;> simp
  unfold nf_M
  omega
/-! ===== a byte read unsigned ===== -/
theorem bp_b (x : Int32) : x.toInt8.toInt32 &&& 255 = x &&& 255 := by
  apply Int32.toBitVec_inj.mp
  rw [Int32.toBitVec_and, Int32.toBitVec_and, Int8.toBitVec_toInt32, Int32.toBitVec_toInt8]
  apply BitVec.eq_of_getLsbD_eq
  intro i hi
  rw [BitVec.getLsbD_and, BitVec.getLsbD_and]
  have hm : ∀ i < 32, 8 ≤ i → (255 : Int32).toBitVec.getLsbD i = false := by decide
  rcases Nat.lt_or_ge i 8 with z | z
  · rw [BitVec.getLsbD_signExtend, BitVec.getLsbD_signExtend, if_pos z, if_pos hi]
    simp only [z, hi, decide_true, Bool.true_and]
  · rw [hm i hi z]; simp
/-! ===== the char cast and 65535 ===== -/
theorem em_w (v : Int32) : ∃ w : Nat, w < 65536 ∧ (v.toUInt32 % 65536).toInt32 = nI w ∧ v &&& 65535 = nI w := by
  have hr := lw_u16_r v
  have h0 : (0 : Int32).toInt = 0 := by decide
  obtain ⟨w, h1, h2⟩ := nI_of (x := lw_u16 v) (by rw [Int32.lt_iff_toInt_lt]; omega)
  have h3 : (v.toUInt32 % 65536).toInt32 = nI w := h2
  rw [h2, nI_toInt h1] at hr
  exact ⟨w, by omega, h3, by rw [← lg_i2c_mask, ← lg_i2c_nf, h3]⟩
/-! ===== Int64 as a set of bits: test, set, clear ===== -/
theorem ts_nf {x : Bool} (h : ¬ x = false) : x = true := by cases x <;> first | rfl | exact absurd rfl h
theorem ts_nt {x : Bool} (h : ¬ x = true) : x = false := by cases x <;> first | rfl | exact absurd rfl h
theorem ts_bit {w : Int64} {s : UInt64} {j : Nat} (hj : j < 64) (hs : s.toNat = j) : ((w.toUInt64 >>> s).toInt64 &&& 1) = 0 ↔ w.toBitVec.getLsbD j = false := by
  have e : (w.toUInt64 >>> s).toInt64.toBitVec = w.toBitVec >>> j := by
    apply BitVec.eq_of_toNat_eq
    show (w.toUInt64 >>> s).toNat = _
    rw [UInt64.toNat_shiftRight, hs, Nat.mod_eq_of_lt hj, BitVec.toNat_ushiftRight]
    rfl
  rw [← Int64.toBitVec_inj, Int64.toBitVec_and, e]
  show w.toBitVec >>> j &&& 1#64 = 0#64 ↔ _
  constructor
  · intro h
    have t := congrArg (fun x => x.getLsbD 0) h
    simpa using t
  · intro h
    apply BitVec.eq_of_getLsbD_eq
    intro i hi
    cases i with
    | zero => simp [h]
    | succ i => simp
theorem ts_or {w m : Int64} {j : Nat} (hj : j < 64) (hm : m.toBitVec = BitVec.twoPow 64 j) : (w ||| m) = w ↔ w.toBitVec.getLsbD j = true := by
  rw [← Int64.toBitVec_inj, Int64.toBitVec_or, hm]
  constructor
  · intro h
    have t := congrArg (fun x => x.getLsbD j) h
    simp only [BitVec.getLsbD_or, BitVec.getLsbD_twoPow] at t
    simpa [hj] using t.symm
  · intro h
    apply BitVec.eq_of_getLsbD_eq
    intro i hi
    rw [BitVec.getLsbD_or, BitVec.getLsbD_twoPow]
    by_cases e : j = i
    · subst e; rw [h, Bool.true_or]
    · simp [e]
theorem ts_and {w m : Int64} {j : Nat} (hj : j < 64) (hm : m.toBitVec = BitVec.twoPow 64 j) : (w &&& (m ^^^ (-1))) = w ↔ w.toBitVec.getLsbD j = false := by
  have ha : (-1 : Int64).toBitVec = BitVec.allOnes 64 := by decide
  rw [← Int64.toBitVec_inj, Int64.toBitVec_and, Int64.toBitVec_xor, hm, ha]
  constructor
  · intro h
    have t := congrArg (fun x => x.getLsbD j) h
    simp only [BitVec.getLsbD_and, BitVec.getLsbD_xor, BitVec.getLsbD_twoPow, BitVec.getLsbD_allOnes] at t
    simpa [hj] using t.symm
  · intro h
    apply BitVec.eq_of_getLsbD_eq
    intro i hi
    rw [BitVec.getLsbD_and, BitVec.getLsbD_xor, BitVec.getLsbD_twoPow, BitVec.getLsbD_allOnes]
    by_cases e : j = i
    · subst e; rw [h, Bool.false_and]
    · simp [e, hi]
/-! ===== lN n to 2^64: shifts, and, or, masks, one bit ===== -/
theorem wb_tb (n : Nat) : (lN n).toBitVec = BitVec.ofNat 64 n := rfl
theorem wb_inj {a b : Int64} (h : a.toBitVec = b.toBitVec) : a = b := Int64.toBitVec_inj.mp h
theorem wb_tn {n : Nat} (h : n < 2 ^ 64) : (lN n).toBitVec.toNat = n := by rw [wb_tb, BitVec.toNat_ofNat, Nat.mod_eq_of_lt h]
theorem wb_of (x : Int64) : ∃ n, n < 2 ^ 64 ∧ x = lN n := ⟨x.toBitVec.toNat, x.toBitVec.isLt, wb_inj (by rw [wb_tb]; simp)⟩
theorem wb_of32 (x : Int32) : ∃ n, n < 2 ^ 32 ∧ x = nI n := ⟨x.toBitVec.toNat, x.toBitVec.isLt, Int32.toBitVec_inj.mp (by show _ = BitVec.ofNat 32 _; simp)⟩
theorem wb_c : ∀ k, k < 64 → ((nI k).toInt64 &&& 63) = lN k := by decide +kernel
theorem wb_cu : ∀ k, k < 64 → ((nI k).toInt64.toUInt64 &&& Int64.toUInt64 63) = UInt64.ofNat k := by decide +kernel
theorem wb_sm : ∀ k, k < 64 → (BitVec.ofNat 64 k).smod 64 = BitVec.ofNat 64 k := by decide +kernel
theorem wb_pw {a b : Nat} (h : a ≤ b) : 2 ^ b = 2 ^ a * 2 ^ (b - a) := by rw [← Nat.pow_add]; congr 1; omega
theorem wb_lt2 {a b : Nat} (h : a < b) : 2 ^ a < 2 ^ b := Nat.pow_lt_pow_right (by decide) h
theorem wb_mod (n : Nat) : lN n = lN (n % 2 ^ 64) := wb_inj (by rw [wb_tb, wb_tb]; apply BitVec.eq_of_toNat_eq; rw [BitVec.toNat_ofNat, BitVec.toNat_ofNat, Nat.mod_mod])
theorem wb_shr {n k : Nat} (hn : n < 2 ^ 64) (hk : k < 64) : ((lN n).toUInt64 >>> ((nI k).toInt64.toUInt64 &&& Int64.toUInt64 63)).toInt64 = lN (n / 2 ^ k) := by
  rw [wb_cu k hk]
  apply wb_inj
  apply BitVec.eq_of_toNat_eq
  show ((lN n).toUInt64 >>> UInt64.ofNat k).toNat = (BitVec.ofNat 64 _).toNat
  have h1 : (UInt64.ofNat k).toNat = k := by
    show (BitVec.ofNat 64 k).toNat = k
    rw [BitVec.toNat_ofNat, Nat.mod_eq_of_lt (by omega)]
  have h2 : (lN n).toUInt64.toNat = n := wb_tn hn
  rw [UInt64.toNat_shiftRight, h1, h2, Nat.mod_eq_of_lt hk, Nat.shiftRight_eq_div_pow, BitVec.toNat_ofNat, Nat.mod_eq_of_lt (Nat.lt_of_le_of_lt (Nat.div_le_self _ _) hn)]
theorem wb_shl (n : Nat) {k : Nat} (hk : k < 64) : lN n <<< ((nI k).toInt64 &&& 63) = lN (n * 2 ^ k) := by
  rw [wb_c k hk]
  apply wb_inj
  rw [Int64.toBitVec_shiftLeft, wb_tb, wb_tb, wb_tb, wb_sm k hk]
  apply BitVec.eq_of_toNat_eq
  rw [BitVec.shiftLeft_eq', BitVec.toNat_shiftLeft, BitVec.toNat_ofNat, BitVec.toNat_ofNat, BitVec.toNat_ofNat, Nat.mod_eq_of_lt (show k < 2 ^ 64 by omega), Nat.shiftLeft_eq, Nat.mul_mod, Nat.mod_mod, ← Nat.mul_mod]
theorem wb_and {a b : Nat} (ha : a < 2 ^ 64) (hb : b < 2 ^ 64) : lN a &&& lN b = lN (a &&& b) := by
  apply wb_inj
  rw [Int64.toBitVec_and, wb_tb, wb_tb, wb_tb]
  apply BitVec.eq_of_toNat_eq
  rw [BitVec.toNat_and, BitVec.toNat_ofNat, BitVec.toNat_ofNat, BitVec.toNat_ofNat, Nat.mod_eq_of_lt ha, Nat.mod_eq_of_lt hb, Nat.mod_eq_of_lt (Nat.and_lt_two_pow _ hb)]
theorem wb_or {a b : Nat} (ha : a < 2 ^ 64) (hb : b < 2 ^ 64) : lN a ||| lN b = lN (a ||| b) := by
  apply wb_inj
  rw [Int64.toBitVec_or, wb_tb, wb_tb, wb_tb]
  apply BitVec.eq_of_toNat_eq
  rw [BitVec.toNat_or, BitVec.toNat_ofNat, BitVec.toNat_ofNat, BitVec.toNat_ofNat, Nat.mod_eq_of_lt ha, Nat.mod_eq_of_lt hb, Nat.mod_eq_of_lt (Nat.or_lt_two_pow ha hb)]
theorem wb_mask {n k : Nat} (hn : n < 2 ^ 64) (hk : k < 64) : lN n &&& lN (2 ^ k - 1) = lN (n % 2 ^ k) := by
  rw [wb_and hn (by have := wb_lt2 hk; omega), Nat.and_two_pow_sub_one_eq_mod]
theorem wb_a1 {n : Nat} (hn : n < 2 ^ 64) : lN n &&& 1 = lN (n % 2) := wb_mask (k := 1) hn (by decide)
theorem wb_bit {n k : Nat} (hn : n < 2 ^ 64) (hk : k < 64) : ((lN n).toUInt64 >>> ((nI k).toInt64.toUInt64 &&& Int64.toUInt64 63)).toInt64 &&& 1 = lN (n / 2 ^ k % 2) := by
  rw [wb_shr hn hk, wb_a1 (Nat.lt_of_le_of_lt (Nat.div_le_self _ _) hn)]
theorem wb_xor {q k : Nat} (hk : k < 63) (h : 2 ^ k ≤ q) (h2 : q < 2 ^ (k + 1)) : lN q ^^^ lN (2 ^ k) = lN (q - 2 ^ k) := by
  obtain ⟨r, rfl⟩ : ∃ r, q = 2 ^ k + r := ⟨q - 2 ^ k, by omega⟩
  have hr : r < 2 ^ k := by rw [Nat.pow_succ] at h2; omega
  have hx : (2 ^ k + r) ^^^ 2 ^ k = r := by
    apply Nat.eq_of_testBit_eq
    intro i
    rw [Nat.testBit_xor, Nat.testBit_two_pow]
    rcases Nat.lt_trichotomy i k with h | h | h
    · rw [Nat.testBit_two_pow_add_gt h]
      simp [show ¬ k = i by omega]
    · subst h
      rw [Nat.testBit_two_pow_add_eq]
      simp
    · have a1 : 2 ^ (k + 1) ≤ 2 ^ i := Nat.pow_le_pow_right (by decide) h
      rw [Nat.testBit_lt_two_pow (show 2 ^ k + r < 2 ^ i by omega), Nat.testBit_lt_two_pow (show r < 2 ^ i by omega)]
      simp [show ¬ k = i by omega]
  have b1 := wb_lt2 (show k + 1 < 64 by omega)
  have b2 := wb_lt2 (show k < 64 by omega)
  apply wb_inj
  rw [Int64.toBitVec_xor, wb_tb, wb_tb, wb_tb]
  apply BitVec.eq_of_toNat_eq
  rw [BitVec.toNat_xor, BitVec.toNat_ofNat, BitVec.toNat_ofNat, BitVec.toNat_ofNat, Nat.mod_eq_of_lt (by omega : 2 ^ k + r < 2 ^ 64), Nat.mod_eq_of_lt b2, hx, Nat.add_sub_cancel_left, Nat.mod_eq_of_lt (by omega)]
/-! ===== lN: masks, 'or' of parts that don't overlap is a sum ===== -/
theorem u_tn {n : Nat} (h : n < 2 ^ 64) : (UInt64.ofNat n).toNat = n := Nat.mod_eq_of_lt h
theorem g_and {a b c : Nat} (ha : a < 2 ^ 64) (hb : b < 2 ^ 64) (hc : a &&& b = c) : lN a &&& lN b = lN c := by
  subst hc
  have h : UInt64.ofNat a &&& UInt64.ofNat b = UInt64.ofNat (a &&& b) := UInt64.toNat_inj.mp (by rw [UInt64.toNat_and, u_tn ha, u_tn hb, u_tn (Nat.and_lt_two_pow a hb)])
  have h2 := congrArg UInt64.toInt64 h
  exact h2
theorem g_and1 {a : Nat} (ha : a < 2 ^ 64) : lN a &&& 1 = lN (a % 2) := g_and (b := 1) ha (by decide) (Nat.and_two_pow_sub_one_eq_mod a 1)
theorem g_mask {a s p : Nat} (hp : 2 ^ s = p) (hs : s < 64) (ha : a < 2 ^ 64) : lN a &&& lN (p - 1) = lN (a % p) := by
  subst hp
  have := Nat.pow_lt_pow_right (show 1 < 2 by decide) hs
  exact g_and ha (by omega) (Nat.and_two_pow_sub_one_eq_mod a s)
theorem g_or {k p a b : Nat} (hp : 2 ^ k = p) (ha : a < p) (h : b * p + a < 2 ^ 64) : lN (b * p) ||| lN a = lN (b * p + a) := by
  subst hp
  have h1 : b * 2 ^ k ||| a = b * 2 ^ k + a := by rw [← Nat.shiftLeft_eq, Nat.shiftLeft_add_eq_or_of_lt ha]
  have h3 : UInt64.ofNat (b * 2 ^ k) ||| UInt64.ofNat a = UInt64.ofNat (b * 2 ^ k + a) := UInt64.toNat_inj.mp (by rw [UInt64.toNat_or, u_tn (by omega), u_tn (by omega), u_tn h, h1])
  have h2 := congrArg UInt64.toInt64 h3
  exact h2
theorem g_or' {k p a b : Nat} (hp : 2 ^ k = p) (ha : a < p) (h : a + b * p < 2 ^ 64) : lN a ||| lN (b * p) = lN (a + b * p) := by
  rw [Int64.or_comm, g_or hp ha (by omega), Nat.add_comm]
theorem g_ushr {a k p : Nat} {y : UInt64} (hy : y = UInt64.ofNat k) (hk : k < 64) (hp : 2 ^ k = p) (ha : a < 2 ^ 64) : ((lN a).toUInt64 >>> y).toInt64 = lN (a / p) := by
  subst hy hp
  have h : UInt64.ofNat a >>> UInt64.ofNat k = UInt64.ofNat (a / 2 ^ k) := UInt64.toNat_inj.mp (by rw [UInt64.toNat_shiftRight, u_tn ha, u_tn (by omega), u_tn (Nat.lt_of_le_of_lt (Nat.div_le_self _ _) ha), Nat.mod_eq_of_lt hk, Nat.shiftRight_eq_div_pow])
  have h2 := congrArg UInt64.toInt64 h
  exact h2
theorem g_shl {a k p : Nat} {y : Int64} (hy : y.toBitVec.smod 64 = BitVec.ofNat 64 k) (hk : k < 64) (hp : 2 ^ k = p) (ha : a < 2 ^ 64) : lN a <<< y = lN (a * p) := by
  subst hp
  apply Int64.toBitVec_inj.mp
  rw [Int64.toBitVec_shiftLeft, hy]
  apply BitVec.eq_of_toNat_eq
  have hb : (lN a).toBitVec.toNat = a := Nat.mod_eq_of_lt ha
  have hk' : (BitVec.ofNat 64 k).toNat = k := Nat.mod_eq_of_lt (by omega)
  have h : ((lN a).toBitVec <<< BitVec.ofNat 64 k).toNat = (a * 2 ^ k) % 2 ^ 64 := by simp only [BitVec.shiftLeft_eq', BitVec.toNat_shiftLeft, hb, hk', Nat.shiftLeft_eq]
  exact h
/-! ===== lN to 2^62 under >> and >>> ===== -/
theorem pf_lI {a : Nat} (h : a < 2 ^ 63) : (lN a).toInt = (a : Int) := lg_ofNat_toInt h
theorem pf_shr {a d : Nat} {D : Int64} (hD : (D.toBitVec.smod 64).toNat = d) (h : a < 2 ^ 62) : lN a >>> D = lN (a / 2 ^ d) := by
  have hd : a / 2 ^ d ≤ a := Nat.div_le_self _ _
  apply Int64.toInt_inj.mp
  have e : (lN a >>> D).toInt = (lN a).toInt >>> d := by
    rw [← hD]
    exact BitVec.toInt_sshiftRight ..
  rw [e, Int.shiftRight_eq_div_pow, pf_lI (by omega), pf_lI (by omega)]
  rfl
theorem pf_ushr {a d : Nat} {D : UInt64} (hD : D.toNat % 64 = d) (h : a < 2 ^ 62) : ((lN a).toUInt64 >>> D).toInt64 = lN (a / 2 ^ d) := by
  have hd : a / 2 ^ d ≤ a := Nat.div_le_self _ _
  have e : (lN a).toUInt64 >>> D = UInt64.ofNat (a / 2 ^ d) := UInt64.toNat_inj.mp (by
    rw [UInt64.toNat_shiftRight, hD, Nat.shiftRight_eq_div_pow, UInt64.toNat_ofNat']
    show (UInt64.ofNat a).toNat / 2 ^ d = _
    rw [UInt64.toNat_ofNat', Nat.mod_eq_of_lt (by omega), Nat.mod_eq_of_lt (by omega)])
  rw [e]
  rfl
theorem pf_andw (x : Int64) : ∃ m, m < 2 ^ 32 ∧ x &&& 4294967295 = lN m := ⟨x.toBitVec.toNat % 2 ^ 32, Nat.mod_lt _ (by decide), Int64.toBitVec_inj.mp (BitVec.eq_of_toNat_eq (by
  show (x.toBitVec &&& 4294967295#64).toNat = (BitVec.ofNat 64 (x.toBitVec.toNat % 2 ^ 32)).toNat
  rw [BitVec.toNat_and, show (4294967295#64).toNat = 2 ^ 32 - 1 from by decide, Nat.and_two_pow_sub_one_eq_mod, BitVec.toNat_ofNat]
  omega))⟩
/-! ===== Int64 as an unsigned number: uN x ===== -/
def uN (x : Int64) : Nat := x.toUInt64.toNat
theorem uN_lt (x : Int64) : uN x < 18446744073709551616 := x.toUInt64.toNat_lt
theorem uN_inj {x y : Int64} (h : uN x = uN y) : x = y := congrArg UInt64.toInt64 (UInt64.toNat_inj.mp h)
theorem uN_add (x y : Int64) : uN (x + y) = (uN x + uN y) % 18446744073709551616 := by
  show (x.toUInt64 + y.toUInt64).toNat = _
  exact UInt64.toNat_add _ _
theorem uN_mul (x y : Int64) : uN (x * y) = (uN x * uN y) % 18446744073709551616 := by
  show (x.toUInt64 * y.toUInt64).toNat = _
  exact UInt64.toNat_mul _ _
theorem uN_shl (x : Int64) : uN (x <<< ((1 : Int32).toInt64 &&& 63)) = (2 * uN x) % 18446744073709551616 := by
  have h : (((1 : Int32).toInt64 &&& 63).toBitVec.smod 64).toNat = 1 := by decide
  show (x.toBitVec <<< (((1 : Int32).toInt64 &&& 63).toBitVec.smod 64).toNat).toNat = _
  rw [h, BitVec.toNat_shiftLeft, Nat.shiftLeft_eq, Nat.mul_comm]
  rfl
theorem uN_shr (x : Int64) (s : UInt64) : uN (x.toUInt64 >>> s).toInt64 = uN x / 2 ^ (s.toNat % 64) := by
  show (x.toUInt64 >>> s).toNat = _
  rw [UInt64.toNat_shiftRight, Nat.shiftRight_eq_div_pow]
  rfl
theorem uN_s32 (x : Int64) : uN (x.toUInt64 >>> ((32 : Int32).toInt64.toUInt64 &&& Int64.toUInt64 63)).toInt64 = uN x / 4294967296 := by
  have h : ((32 : Int32).toInt64.toUInt64 &&& Int64.toUInt64 63).toNat % 64 = 32 := by decide
  rw [uN_shr, h]
theorem uN_s63 (x : Int64) : uN (x.toUInt64 >>> ((63 : Int32).toInt64.toUInt64 &&& Int64.toUInt64 63)).toInt64 = uN x / 9223372036854775808 := by
  have h : ((63 : Int32).toInt64.toUInt64 &&& Int64.toUInt64 63).toNat % 64 = 63 := by decide
  rw [uN_shr, h]
theorem uN_lo (x : Int64) : uN (x &&& 4294967295) = uN x % 4294967296 := by
  show (x.toUInt64 &&& Int64.toUInt64 4294967295).toNat = _
  rw [UInt64.toNat_and]
  exact Nat.and_two_pow_sub_one_eq_mod _ 32
theorem uN_bit (x : Int64) : (x &&& 1) = 0 ↔ uN x % 2 = 0 := by
  have h : uN (x &&& 1) = uN x % 2 := by
    show (x.toUInt64 &&& Int64.toUInt64 1).toNat = _
    rw [UInt64.toNat_and]
    exact Nat.and_two_pow_sub_one_eq_mod _ 1
  rw [← h]
  exact ⟨fun z => by rw [z]; rfl, fun z => uN_inj (z.trans rfl)⟩
theorem uN_or {x y : Int64} (hy : uN y < 2) : uN ((x <<< ((1 : Int32).toInt64 &&& 63)) ||| y) = (2 * uN x) % 18446744073709551616 + uN y := by
  have h1 : uN ((x <<< ((1 : Int32).toInt64 &&& 63)) ||| y) = uN (x <<< ((1 : Int32).toInt64 &&& 63)) ||| uN y := UInt64.toNat_or _ _
  have h2 : (2 * uN x) % 18446744073709551616 = 2 ^ 1 * (uN x % 9223372036854775808) := by omega
  rw [h1, uN_shl, h2]
  exact (Nat.two_pow_add_eq_or_of_lt (i := 1) hy _).symm
theorem nat_xor {a : Nat} (h : a < 18446744073709551616) : a ^^^ 2 ^ 63 = (a + 9223372036854775808) % 18446744073709551616 := by
  have h1 : (a ^^^ 2 ^ 63) % 2 ^ 63 = a % 2 ^ 63 := by rw [Nat.xor_mod_two_pow, Nat.mod_self, Nat.xor_zero]
  have h2 : (a ^^^ 2 ^ 63) / 2 ^ 63 = (a / 2 ^ 63) ^^^ 1 := by rw [Nat.xor_div_two_pow, Nat.div_self (Nat.two_pow_pos 63)]
  have h3 : a / 2 ^ 63 = 0 ∨ a / 2 ^ 63 = 1 := by omega
  generalize a ^^^ 2 ^ 63 = t at h1 h2
  rcases h3 with h3 | h3
  · rw [h3] at h2
    have h2 : t / 2 ^ 63 = 1 := h2
    omega
  · rw [h3] at h2
    have h2 : t / 2 ^ 63 = 0 := h2
    omega
theorem uN_xor (x : Int64) : uN (x ^^^ (-9223372036854775808)) = (uN x + 9223372036854775808) % 18446744073709551616 := by
  rw [← nat_xor (uN_lt x)]
  exact UInt64.toNat_xor _ _
theorem uN_int (x : Int64) : x.toInt = if 2 * uN x < 18446744073709551616 then (uN x : Int) else (uN x : Int) - 18446744073709551616 := BitVec.toInt_eq_toNat_cond _
theorem uN_le (x y : Int64) : (x ^^^ (-9223372036854775808)) ≤ (y ^^^ (-9223372036854775808)) ↔ uN x ≤ uN y := by
  have hx := uN_lt x
  have hy := uN_lt y
  rw [Int64.le_iff_toInt_le, uN_int, uN_int, uN_xor, uN_xor]
  omega
theorem uN_sk (x : Int64) {k : Nat} (hk : k < 64) : uN (x.toUInt64 >>> ((nI k).toInt64.toUInt64 &&& Int64.toUInt64 63)).toInt64 = uN x / 2 ^ k := by
  have h : ((nI k).toInt64.toUInt64 &&& Int64.toUInt64 63).toNat % 64 = k := by
    rw [nI_l (by omega), UInt64.toNat_and]
    have e : (lN k).toUInt64.toNat = k % 2 ^ 64 := rfl
    have e2 : (Int64.toUInt64 63).toNat = 2 ^ 6 - 1 := by decide
    rw [e, e2, Nat.and_two_pow_sub_one_eq_mod]
    omega
  rw [uN_shr, h]
/-! ===== unsigned comparison by xor with the least ===== -/
theorem lN_bv (n : Nat) : (lN n).toBitVec = BitVec.ofNat 64 n := rfl
theorem lN_nat {n : Nat} (h : n < 2 ^ 64) : (lN n).toBitVec.toNat = n := by rw [lN_bv, BitVec.toNat_ofNat]; exact Nat.mod_eq_of_lt h
theorem lN_xor (a b : Nat) : lN a ^^^ lN b = lN (a ^^^ b) := by
  apply Int64.toBitVec_inj.mp; rw [Int64.toBitVec_xor, lN_bv, lN_bv, lN_bv]; apply BitVec.eq_of_getLsbD_eq; intro i hi; simp [BitVec.getLsbD_ofNat, Nat.testBit_xor, hi]
theorem lN_ti {m : Nat} (h : m < 2 ^ 64) : (lN m).toInt = if m < 2 ^ 63 then (m : Int) else (m : Int) - 2 ^ 64 := by
  have c := BitVec.toInt_eq_toNat_cond (lN m).toBitVec
  rw [lN_nat h] at c
  show (lN m).toBitVec.toInt = _
  rw [c]
  split <;> split <;> omega
theorem xor63 {x : Nat} (h : x < 2 ^ 63) : x ^^^ 2 ^ 63 = 2 ^ 63 + x := by
  apply Nat.eq_of_testBit_eq
  intro i
  rw [Nat.testBit_xor, Nat.testBit_two_pow]
  rcases Nat.lt_trichotomy i 63 with z | z | z
  · rw [Nat.testBit_two_pow_add_gt z, decide_eq_false (by omega)]; simp
  · subst z; rw [Nat.testBit_two_pow_add_eq]; simp
  · have hp : 2 ^ 64 ≤ 2 ^ i := Nat.pow_le_pow_right (by decide) z
    rw [Nat.testBit_lt_two_pow (show x < 2 ^ i by omega), Nat.testBit_lt_two_pow (show 2 ^ 63 + x < 2 ^ i by omega), decide_eq_false (by omega)]; rfl
theorem xorS {a : Nat} (h : a < 2 ^ 64) : (lN a ^^^ (-9223372036854775808)).toInt = (a : Int) - 2 ^ 63 := by
  rw [show (-9223372036854775808 : Int64) = lN (2 ^ 63) from by decide +kernel, lN_xor]
  rcases Nat.lt_or_ge a (2 ^ 63) with z | z
  · rw [xor63 z, lN_ti (by omega), if_neg (by omega)]; omega
  · obtain ⟨x, rfl⟩ : ∃ x, a = 2 ^ 63 + x := ⟨a - 2 ^ 63, by omega⟩
    rw [← xor63 (by omega), Nat.xor_assoc, Nat.xor_self, Nat.xor_zero, lN_ti (by omega), if_pos (by omega), xor63 (by omega)]; omega
theorem ultL {a b : Nat} (ha : a < 2 ^ 64) (hb : b < 2 ^ 64) : ((lN b ^^^ (-9223372036854775808)) ≤ (lN a ^^^ (-9223372036854775808))) ↔ b ≤ a := by
  rw [Int64.le_iff_toInt_le, xorS ha, xorS hb]; omega
/-! ===== Int64 masks of n low bits ===== -/
theorem cr_bits (W U M : BitVec 64) : ((W &&& U) &&& (U &&& (M ^^^ BitVec.allOnes 64))) = 0#64 ↔ (W &&& U) &&& M = W &&& U := by
  constructor
  · intro h
    apply BitVec.eq_of_getLsbD_eq
    intro i hi
    have e := congrArg (fun x => BitVec.getLsbD x i) h
    simp only [BitVec.getLsbD_and, BitVec.getLsbD_xor, BitVec.getLsbD_allOnes, BitVec.getLsbD_zero, hi, decide_true] at e ⊢
    revert e
    cases W.getLsbD i <;> cases U.getLsbD i <;> cases M.getLsbD i <;> decide
  · intro h
    apply BitVec.eq_of_getLsbD_eq
    intro i hi
    have e := congrArg (fun x => BitVec.getLsbD x i) h
    simp only [BitVec.getLsbD_and, BitVec.getLsbD_xor, BitVec.getLsbD_allOnes, BitVec.getLsbD_zero, hi, decide_true] at e ⊢
    revert e
    cases W.getLsbD i <;> cases U.getLsbD i <;> cases M.getLsbD i <;> decide
theorem cr_mask (w U m : Int64) (n : Nat) (hm : m.toBitVec.toNat = 2 ^ n - 1) : ((w &&& U) &&& (U &&& (m ^^^ (-1)))) = 0 ↔ (w &&& U).toBitVec.toNat < 2 ^ n := by
  have e0 : (-1 : Int64).toBitVec = BitVec.allOnes 64 := by decide
  have z0 : (0 : Int64).toBitVec = 0#64 := by decide
  rw [← Int64.toBitVec_inj, z0, Int64.toBitVec_and, Int64.toBitVec_and, Int64.toBitVec_and, Int64.toBitVec_xor, e0, cr_bits]
  generalize w.toBitVec &&& U.toBitVec = T
  rw [← BitVec.toNat_inj, BitVec.toNat_and, hm, Nat.and_two_pow_sub_one_eq_mod]
  constructor
  · intro h
    have t := Nat.mod_lt T.toNat (Nat.two_pow_pos n)
    rw [h] at t
    exact t
  · exact Nat.mod_eq_of_lt
theorem cr_shr (t : Int64) (x : UInt64) (n : Nat) (hx : x.toNat % 64 = n) : (t.toUInt64 >>> x).toInt64 = 0 ↔ t.toBitVec.toNat < 2 ^ n := by
  rw [← Int64.toBitVec_inj, ← BitVec.toNat_inj]
  show (t.toUInt64 >>> x).toNat = 0 ↔ t.toUInt64.toNat < 2 ^ n
  rw [UInt64.toNat_shiftRight, hx, Nat.shiftRight_eq_div_pow]
  constructor
  · intro h
    have d : t.toUInt64.toNat / 2 ^ n < 1 := by
      rw [h]
      decide
    have e := (Nat.div_lt_iff_lt_mul (Nat.two_pow_pos n)).mp d
    rw [Nat.one_mul] at e
    exact e
  · exact Nat.div_eq_of_lt
theorem cr_amt (s : Int64) : ∃ n, n < 64 ∧ s &&& 63 = lN n ∧ (s.toUInt64 &&& Int64.toUInt64 63).toNat % 64 = n := by
  have e : (s.toUInt64 &&& Int64.toUInt64 63).toNat = s.toUInt64.toNat % 2 ^ 6 := by
    rw [UInt64.toNat_and, show (Int64.toUInt64 63).toNat = 2 ^ 6 - 1 from by decide, Nat.and_two_pow_sub_one_eq_mod]
  refine ⟨s.toUInt64.toNat % 2 ^ 6, by omega, ?_, by omega⟩
  rw [← Int64.toBitVec_inj, ← BitVec.toNat_inj]
  show (s.toUInt64 &&& Int64.toUInt64 63).toNat = (BitVec.ofNat 64 (s.toUInt64.toNat % 2 ^ 6)).toNat
  rw [e, BitVec.toNat_ofNat]
  omega
end
section
/-! pure: rules, one symbol at one rule, streams, the reference's work on a word -/
abbrev rc_R : Type := Nat × Nat × Nat × Nat × Nat
abbrev rc_Q : Type := Nat × Nat × Nat
def rc_fit (ρ : rc_R) (b a : Nat) : Bool := ρ.2.2.2.1.testBit b && ρ.2.2.2.2.testBit a
def rc_ok (ρ : rc_R) : Prop := ρ.1 ≤ 2 ∧ ρ.2.1 ≤ 3 ∧ ρ.2.2.1 ≤ 3 ∧ ρ.2.2.2.1 < 32 ∧ ρ.2.2.2.2 < 32
def rc_e (ρ : rc_R) (b h a : Nat) : List Nat :=
  if ρ.1 = 2 then (if rc_fit ρ b a = true then [ρ.2.2.1] else []) ++ (if a = 4 then [] else [a])
  else if h = 5 then [] else if h = ρ.2.1 ∧ rc_fit ρ b a = true then (if ρ.1 = 0 then [ρ.2.2.1] else []) else [h]
def rc_nb (ρ : rc_R) (b h a : Nat) : Nat := if ρ.1 = 2 then a else if h = 5 then b else h
def rc_nh (ρ : rc_R) (h a : Nat) : Nat := if ρ.1 = 2 then h else if a = 4 then 5 else a
def rc_em (ρ : rc_R) : Nat → Nat → List Nat → List Nat
  | _, _, [] => []
  | b, h, a :: t => rc_e ρ b h a ++ rc_em ρ (rc_nb ρ b h a) (rc_nh ρ h a) t
def rc_sb (ρ : rc_R) : Nat → Nat → List Nat → Nat × Nat
  | b, h, [] => (b, h)
  | b, h, a :: t => rc_sb ρ (rc_nb ρ b h a) (rc_nh ρ h a) t
def rc_go (ρ : rc_R) : Nat → List Nat → List Nat
  | b, [] => if ρ.1 = 2 ∧ rc_fit ρ b 4 = true then [ρ.2.2.1] else []
  | b, a :: t => (if ρ.1 = 2 ∧ rc_fit ρ b a = true then [ρ.2.2.1] else []) ++ ((if ρ.1 < 2 ∧ a = ρ.2.1 ∧ rc_fit ρ b (t.headD 4) = true then (if ρ.1 = 0 then [ρ.2.2.1] else []) else [a]) ++ rc_go ρ a t)

theorem rc_em_app (ρ : rc_R) : ∀ (u v : List Nat) (b h : Nat), rc_em ρ b h (u ++ v) = rc_em ρ b h u ++ rc_em ρ (rc_sb ρ b h u).1 (rc_sb ρ b h u).2 v
  | [], v, b, h => rfl
  | a :: u, v, b, h => by
    show rc_e ρ b h a ++ rc_em ρ (rc_nb ρ b h a) (rc_nh ρ h a) (u ++ v) = (rc_e ρ b h a ++ rc_em ρ (rc_nb ρ b h a) (rc_nh ρ h a) u) ++ rc_em ρ (rc_sb ρ (rc_nb ρ b h a) (rc_nh ρ h a) u).1 (rc_sb ρ (rc_nb ρ b h a) (rc_nh ρ h a) u).2 v
    rw [rc_em_app ρ u v, List.append_assoc]
theorem rc_sb_app (ρ : rc_R) : ∀ (u v : List Nat) (b h : Nat), rc_sb ρ b h (u ++ v) = rc_sb ρ (rc_sb ρ b h u).1 (rc_sb ρ b h u).2 v
  | [], v, b, h => rfl
  | a :: u, v, b, h => by
    show rc_sb ρ (rc_nb ρ b h a) (rc_nh ρ h a) (u ++ v) = _
    rw [rc_sb_app ρ u v]; rfl
theorem rc_go2 (ρ : rc_R) (h2 : ρ.1 = 2) : ∀ (w : List Nat) (b h : Nat), (∀ a ∈ w, a ≤ 3) → rc_em ρ b h (w ++ [4]) = rc_go ρ b w
  | [], b, h, _ => by
    show rc_e ρ b h 4 ++ [] = rc_go ρ b []
    rw [List.append_nil]
    simp only [rc_e, rc_go, h2, if_true, true_and, List.append_nil]
  | a :: w, b, h, hw => by
    have ha : ¬ a = 4 := by have := hw a List.mem_cons_self; omega
    have ih := rc_go2 ρ h2 w a (rc_nh ρ h a) (fun x hx => hw x (List.mem_cons_of_mem _ hx))
    have hb : rc_nb ρ b h a = a := by simp only [rc_nb, h2, if_true]
    show rc_e ρ b h a ++ rc_em ρ (rc_nb ρ b h a) (rc_nh ρ h a) (w ++ [4]) = _
    rw [hb, ih]
    have hn : ¬ (2 : Nat) < 2 := by decide
    simp only [rc_e, rc_go, h2, if_true, true_and, ha, if_false, hn, false_and, List.append_assoc]
theorem rc_go01 (ρ : rc_R) (h2 : ρ.1 < 2) : ∀ (w : List Nat) (b h : Nat), (∀ a ∈ w, a ≤ 3) → h ≤ 3 → rc_em ρ b h (w ++ [4]) = rc_go ρ b (h :: w)
  | [], b, h, _, hh => by
    have n2 : ¬ ρ.1 = 2 := by omega
    have h5 : ¬ h = 5 := by omega
    show rc_e ρ b h 4 ++ [] = rc_go ρ b [h]
    simp only [rc_e, rc_go, n2, h5, h2, if_false, false_and, true_and, List.append_nil, List.nil_append, List.headD]
  | a :: w, b, h, hw, hh => by
    have n2 : ¬ ρ.1 = 2 := by omega
    have h5 : ¬ h = 5 := by omega
    have ha3 := hw a List.mem_cons_self
    have ha : ¬ a = 4 := by omega
    have ih := rc_go01 ρ h2 w h a (fun x hx => hw x (List.mem_cons_of_mem _ hx)) ha3
    have hb : rc_nb ρ b h a = h := by simp only [rc_nb, n2, h5, if_false]
    have hn : rc_nh ρ h a = a := by simp only [rc_nh, n2, ha, if_false]
    show rc_e ρ b h a ++ rc_em ρ (rc_nb ρ b h a) (rc_nh ρ h a) (w ++ [4]) = rc_go ρ b (h :: a :: w)
    rw [hb, hn, ih]
    conv => rhs; rw [rc_go]
    simp only [rc_e, n2, h5, h2, if_false, false_and, true_and, List.nil_append, List.headD]
theorem rc_em_go (ρ : rc_R) (h2 : ρ.1 ≤ 2) (w : List Nat) (hw : ∀ a ∈ w, a ≤ 3) : rc_em ρ 4 5 (w ++ [4]) = rc_go ρ 4 w := by
  rcases Nat.lt_or_ge ρ.1 2 with h | h
  · have n2 : ¬ ρ.1 = 2 := by omega
    cases w with
    | nil =>
      show rc_e ρ 4 5 4 ++ [] = rc_go ρ 4 []
      simp only [rc_e, rc_go, n2, if_false, if_true, false_and, List.append_nil]
    | cons a w =>
      have ha3 := hw a List.mem_cons_self
      have ha : ¬ a = 4 := by omega
      have hb : rc_nb ρ 4 5 a = 4 := by simp only [rc_nb, n2, if_false, if_true]
      have hn : rc_nh ρ 5 a = a := by simp only [rc_nh, n2, ha, if_false]
      have he : rc_e ρ 4 5 a = [] := by simp only [rc_e, n2, if_false, if_true]
      show rc_e ρ 4 5 a ++ rc_em ρ (rc_nb ρ 4 5 a) (rc_nh ρ 5 a) (w ++ [4]) = _
      rw [hb, hn, he, rc_go01 ρ h w 4 a (fun x hx => hw x (List.mem_cons_of_mem _ hx)) ha3]
      rfl
  · exact rc_go2 ρ (by omega) w 4 5 hw
theorem rc_go_le (ρ : rc_R) (hy : ρ.2.2.1 ≤ 3) : ∀ (w : List Nat) (b : Nat), (∀ a ∈ w, a ≤ 3) → ∀ a ∈ rc_go ρ b w, a ≤ 3
  | [], b, _, x, hx => by
    rw [rc_go] at hx
    split at hx
    · rw [List.mem_singleton] at hx; omega
    · exact absurd hx List.not_mem_nil
  | a :: w, b, hw, x, hx => by
    have ha3 := hw a List.mem_cons_self
    rw [rc_go, List.mem_append, List.mem_append] at hx
    rcases hx with hx | hx | hx
    · split at hx
      · rw [List.mem_singleton] at hx; omega
      · exact absurd hx List.not_mem_nil
    · split at hx
      · split at hx
        · rw [List.mem_singleton] at hx; omega
        · exact absurd hx List.not_mem_nil
      · rw [List.mem_singleton] at hx; omega
    · exact rc_go_le ρ hy w a (fun x hx => hw x (List.mem_cons_of_mem _ hx)) x hx
theorem rc_go_len (ρ : rc_R) : ∀ (w : List Nat) (b : Nat), (rc_go ρ b w).length ≤ 2 * w.length + 1
  | [], b => by
    rw [rc_go]
    split
    · exact Nat.le_refl 1
    · exact Nat.zero_le _
  | a :: w, b => by
    have ih := rc_go_len ρ w a
    rw [rc_go, List.length_append, List.length_append, List.length_cons]
    have h1 : (if ρ.1 = 2 ∧ rc_fit ρ b a = true then [ρ.2.2.1] else []).length ≤ 1 := by
      split
      · exact Nat.le_refl 1
      · exact Nat.zero_le _
    have h2 : (if ρ.1 < 2 ∧ a = ρ.2.1 ∧ rc_fit ρ b (w.headD 4) = true then (if ρ.1 = 0 then [ρ.2.2.1] else []) else [a]).length ≤ 1 := by
      split
      · split
        · exact Nat.le_refl 1
        · exact Nat.zero_le _
      · exact Nat.le_refl 1
    omega

/-! with the cap -/
def rc_ot (ρ : rc_R) (q : rc_Q) (as : List Nat) : List Nat := (rc_em ρ q.1 q.2.1 as).take (12 - q.2.2)
def rc_ns (ρ : rc_R) (q : rc_Q) (as : List Nat) : rc_Q := ((rc_sb ρ q.1 q.2.1 as).1, (rc_sb ρ q.1 q.2.1 as).2, q.2.2 + (rc_ot ρ q as).length)
def rc_in (last : Bool) (as : List Nat) : List Nat := if last = true then as ++ [4] else as
theorem rc_take_app (u v : List Nat) (c : Nat) : (u ++ v).take (12 - c) = u.take (12 - c) ++ v.take (12 - (c + (u.take (12 - c)).length)) := by
  rw [List.take_append, List.length_take]
  congr 2
  omega
theorem rc_ot_app (ρ : rc_R) (q : rc_Q) (u v : List Nat) : rc_ot ρ q (u ++ v) = rc_ot ρ q u ++ rc_ot ρ (rc_ns ρ q u) v := by
  show (rc_em ρ q.1 q.2.1 (u ++ v)).take (12 - q.2.2) = (rc_em ρ q.1 q.2.1 u).take (12 - q.2.2) ++ (rc_em ρ (rc_sb ρ q.1 q.2.1 u).1 (rc_sb ρ q.1 q.2.1 u).2 v).take (12 - (q.2.2 + ((rc_em ρ q.1 q.2.1 u).take (12 - q.2.2)).length))
  rw [rc_em_app, rc_take_app]
theorem rc_ns_app (ρ : rc_R) (q : rc_Q) (u v : List Nat) : rc_ns ρ q (u ++ v) = rc_ns ρ (rc_ns ρ q u) v := by
  have h := rc_ot_app ρ q u v
  have h2 := rc_sb_app ρ u v q.1 q.2.1
  show ((rc_sb ρ q.1 q.2.1 (u ++ v)).1, (rc_sb ρ q.1 q.2.1 (u ++ v)).2, q.2.2 + (rc_ot ρ q (u ++ v)).length) = ((rc_sb ρ (rc_sb ρ q.1 q.2.1 u).1 (rc_sb ρ q.1 q.2.1 u).2 v).1, (rc_sb ρ (rc_sb ρ q.1 q.2.1 u).1 (rc_sb ρ q.1 q.2.1 u).2 v).2, q.2.2 + (rc_ot ρ q u).length + (rc_ot ρ (rc_ns ρ q u) v).length)
  rw [h, h2, List.length_append, Nat.add_assoc]
theorem rc_ot_nil (ρ : rc_R) (q : rc_Q) : rc_ot ρ q [] = [] := by
  show List.take _ [] = []
  rw [List.take_nil]
theorem rc_ns_nil (ρ : rc_R) (q : rc_Q) : rc_ns ρ q [] = q := by
  show (q.1, q.2.1, q.2.2 + (rc_ot ρ q []).length) = q
  rw [rc_ot_nil]; rfl
theorem rc_in_app (last : Bool) (u v : List Nat) : rc_in last (u ++ v) = u ++ rc_in last v := by
  cases last
  · rfl
  · exact List.append_assoc u v [4]
def rc_ca (ρ : Nat → rc_R) (q : Nat → rc_Q) (last : Bool) (as : List Nat) : Nat → List Nat
  | 0 => as
  | s + 1 => rc_ot (ρ s) (q s) (rc_in last (rc_ca ρ q last as s))
def rc_nq (ρ : Nat → rc_R) (q : Nat → rc_Q) (last : Bool) (as : List Nat) (s : Nat) : rc_Q := rc_ns (ρ s) (q s) (rc_in last (rc_ca ρ q last as s))
theorem rc_ca_app (ρ : Nat → rc_R) (q : Nat → rc_Q) (last : Bool) (u v : List Nat) : ∀ s : Nat, rc_ca ρ q last (u ++ v) s = rc_ca ρ q false u s ++ rc_ca ρ (rc_nq ρ q false u) last v s
  | 0 => rfl
  | s + 1 => by
    show rc_ot (ρ s) (q s) (rc_in last (rc_ca ρ q last (u ++ v) s)) = rc_ot (ρ s) (q s) (rc_ca ρ q false u s) ++ rc_ot (ρ s) (rc_ns (ρ s) (q s) (rc_ca ρ q false u s)) (rc_in last (rc_ca ρ (rc_nq ρ q false u) last v s))
    rw [rc_ca_app ρ q last u v s, rc_in_app, rc_ot_app]
theorem rc_nq_app (ρ : Nat → rc_R) (q : Nat → rc_Q) (last : Bool) (u v : List Nat) : rc_nq ρ q last (u ++ v) = rc_nq ρ (rc_nq ρ q false u) last v := by
  funext s
  show rc_ns (ρ s) (q s) (rc_in last (rc_ca ρ q last (u ++ v) s)) = rc_ns (ρ s) (rc_ns (ρ s) (q s) (rc_ca ρ q false u s)) (rc_in last (rc_ca ρ (rc_nq ρ q false u) last v s))
  rw [rc_ca_app, rc_in_app, rc_ns_app]
theorem rc_ca_nil (ρ : Nat → rc_R) (q : Nat → rc_Q) : ∀ s : Nat, rc_ca ρ q false [] s = []
  | 0 => rfl
  | s + 1 => by
    show rc_ot (ρ s) (q s) (rc_ca ρ q false [] s) = []
    rw [rc_ca_nil ρ q s, rc_ot_nil]
theorem rc_nq_nil (ρ : Nat → rc_R) (q : Nat → rc_Q) : rc_nq ρ q false [] = q := by
  funext s
  show rc_ns (ρ s) (q s) (rc_ca ρ q false [] s) = q s
  rw [rc_ca_nil, rc_ns_nil]
theorem rc_ca_congr (ρ : Nat → rc_R) {q q' : Nat → rc_Q} {k : Nat} (h : ∀ s, s < k → q s = q' s) (last : Bool) (as : List Nat) : ∀ s : Nat, s ≤ k → rc_ca ρ q last as s = rc_ca ρ q' last as s
  | 0, _ => rfl
  | s + 1, hs => by
    show rc_ot (ρ s) (q s) (rc_in last (rc_ca ρ q last as s)) = rc_ot (ρ s) (q' s) (rc_in last (rc_ca ρ q' last as s))
    rw [rc_ca_congr ρ h last as s (by omega), h s (by omega)]
theorem rc_nq_congr (ρ : Nat → rc_R) {q q' : Nat → rc_Q} {k : Nat} (h : ∀ s, s < k → q s = q' s) (last : Bool) (as : List Nat) (s : Nat) (hs : s < k) : rc_nq ρ q last as s = rc_nq ρ q' last as s := by
  show rc_ns (ρ s) (q s) (rc_in last (rc_ca ρ q last as s)) = rc_ns (ρ s) (q' s) (rc_in last (rc_ca ρ q' last as s))
  rw [rc_ca_congr ρ h last as s (by omega), h s hs]

def rc_wk (ρ : rc_R) (w : List Nat) : List Nat := (rc_go ρ 4 w).take 12
def rc_wa (ρ : Nat → rc_R) (w : List Nat) : Nat → List Nat
  | 0 => w
  | s + 1 => rc_wk (ρ s) (rc_wa ρ w s)
def rc_q0 (_ : Nat) : rc_Q := (4, 5, 0)
theorem rc_wa_le (ρ : Nat → rc_R) {k : Nat} (hρ : ∀ s, s < k → rc_ok (ρ s)) (w : List Nat) (hw : ∀ a ∈ w, a ≤ 3) : ∀ s : Nat, s ≤ k → ∀ a ∈ rc_wa ρ w s, a ≤ 3
  | 0, _ => hw
  | s + 1, hs => fun a ha => by
    have ih := rc_wa_le ρ hρ w hw s (by omega)
    exact rc_go_le (ρ s) (hρ s (by omega)).2.2.1 (rc_wa ρ w s) 4 ih a (List.mem_of_mem_take ha)
theorem rc_wa_len (ρ : Nat → rc_R) (w : List Nat) (hw : w.length ≤ 12) : ∀ s : Nat, (rc_wa ρ w s).length ≤ 12
  | 0 => hw
  | s + 1 => by
    show ((rc_go (ρ s) 4 (rc_wa ρ w s)).take 12).length ≤ 12
    rw [List.length_take]; omega
theorem rc_ca_wa (ρ : Nat → rc_R) {k : Nat} (hρ : ∀ s, s < k → rc_ok (ρ s)) (w : List Nat) (hw : ∀ a ∈ w, a ≤ 3) : ∀ s : Nat, s ≤ k → rc_ca ρ rc_q0 true w s = rc_wa ρ w s
  | 0, _ => rfl
  | s + 1, hs => by
    have ih := rc_ca_wa ρ hρ w hw s (by omega)
    show rc_ot (ρ s) (4, 5, 0) (rc_ca ρ rc_q0 true w s ++ [4]) = rc_wk (ρ s) (rc_wa ρ w s)
    rw [ih]
    show (rc_em (ρ s) 4 5 (rc_wa ρ w s ++ [4])).take 12 = _
    rw [rc_em_go (ρ s) (hρ s (by omega)).1 _ (rc_wa_le ρ hρ w hw s (by omega))]
    rfl
theorem rc_wa_congr {ρ ρ' : Nat → rc_R} {k : Nat} (h : ∀ s, s < k → ρ s = ρ' s) (w : List Nat) : ∀ s : Nat, s ≤ k → rc_wa ρ w s = rc_wa ρ' w s
  | 0, _ => rfl
  | s + 1, hs => by
    show rc_wk (ρ s) (rc_wa ρ w s) = rc_wk (ρ' s) (rc_wa ρ' w s)
    rw [rc_wa_congr h w s (by omega), h s (by omega)]
/-- every stream behind some rules is short -/
theorem rc_ca_len (ρ : Nat → rc_R) (q : Nat → rc_Q) (last : Bool) (as : List Nat) (h : as.length ≤ 12) : ∀ s : Nat, (rc_ca ρ q last as s).length ≤ 12
  | 0 => h
  | s + 1 => by
    show (List.take _ _).length ≤ 12
    rw [List.length_take]; omega
end
section
/-! bounds of letters and memories -/
theorem rc_e_lt (ρ : rc_R) (hy : ρ.2.2.1 ≤ 3) {b h a : Nat} (hh : h < 8) (ha : a < 8) : ∀ x ∈ rc_e ρ b h a, x < 8 := by
  intro x hx
  unfold rc_e at hx
  split at hx
  · rw [List.mem_append] at hx
    rcases hx with hx | hx
    · split at hx
      · rw [List.mem_singleton] at hx; omega
      · exact absurd hx List.not_mem_nil
    · split at hx
      · exact absurd hx List.not_mem_nil
      · rw [List.mem_singleton] at hx; omega
  · split at hx
    · exact absurd hx List.not_mem_nil
    · split at hx
      · split at hx
        · rw [List.mem_singleton] at hx; omega
        · exact absurd hx List.not_mem_nil
      · rw [List.mem_singleton] at hx; omega
theorem rc_nb_lt (ρ : rc_R) {b h a : Nat} (hb : b < 8) (hh : h < 8) (ha : a < 8) : rc_nb ρ b h a < 8 := by
  unfold rc_nb
  split
  · exact ha
  · split
    · exact hb
    · exact hh
theorem rc_nh_lt (ρ : rc_R) {h a : Nat} (hh : h < 8) (ha : a < 8) : rc_nh ρ h a < 8 := by
  unfold rc_nh
  split
  · exact hh
  · split
    · omega
    · exact ha
theorem rc_em_lt (ρ : rc_R) (hy : ρ.2.2.1 ≤ 3) : ∀ (as : List Nat) (b h : Nat), b < 8 → h < 8 → (∀ a ∈ as, a < 8) → ∀ x ∈ rc_em ρ b h as, x < 8
  | [], b, h, _, _, _, x, hx => absurd hx List.not_mem_nil
  | a :: as, b, h, hb, hh, ha, x, hx => by
    have ha8 := ha a List.mem_cons_self
    rw [rc_em, List.mem_append] at hx
    rcases hx with hx | hx
    · exact rc_e_lt ρ hy hh ha8 x hx
    · exact rc_em_lt ρ hy as _ _ (rc_nb_lt ρ hb hh ha8) (rc_nh_lt ρ hh ha8) (fun x hx => ha x (List.mem_cons_of_mem _ hx)) x hx
theorem rc_sb_lt (ρ : rc_R) : ∀ (as : List Nat) (b h : Nat), b < 8 → h < 8 → (∀ a ∈ as, a < 8) → (rc_sb ρ b h as).1 < 8 ∧ (rc_sb ρ b h as).2 < 8
  | [], b, h, hb, hh, _ => ⟨hb, hh⟩
  | a :: as, b, h, hb, hh, ha => by
    have ha8 := ha a List.mem_cons_self
    exact rc_sb_lt ρ as _ _ (rc_nb_lt ρ hb hh ha8) (rc_nh_lt ρ hh ha8) (fun x hx => ha x (List.mem_cons_of_mem _ hx))
def rc_bq (q : rc_Q) : Prop := q.1 < 8 ∧ q.2.1 < 8 ∧ q.2.2 < 16
def rc_bd (k : Nat) (q : Nat → rc_Q) : Prop := ∀ s, s < k → rc_bq (q s)
def rc_L8 (as : List Nat) : Prop := ∀ a ∈ as, a < 8
theorem rc_in_lt (last : Bool) {as : List Nat} (h : rc_L8 as) : rc_L8 (rc_in last as) := by
  cases last
  · exact h
  · intro a ha
    rcases List.mem_append.mp ha with z | z
    · exact h a z
    · rw [List.mem_singleton] at z; omega
theorem rc_ot_lt (ρ : rc_R) (hy : ρ.2.2.1 ≤ 3) {q : rc_Q} (hq : rc_bq q) {as : List Nat} (h : rc_L8 as) : rc_L8 (rc_ot ρ q as) :=
  fun x hx => rc_em_lt ρ hy as _ _ hq.1 hq.2.1 h x (List.mem_of_mem_take hx)
theorem rc_ns_lt (ρ : rc_R) {q : rc_Q} (hq : rc_bq q) {as : List Nat} (h : rc_L8 as) : rc_bq (rc_ns ρ q as) := by
  have a := rc_sb_lt ρ as _ _ hq.1 hq.2.1 h
  refine ⟨a.1, a.2, ?_⟩
  show q.2.2 + (List.take _ _).length < 16
  have := hq.2.2
  rw [List.length_take]; omega
theorem rc_ca_lt (ρ : Nat → rc_R) {k : Nat} (hρ : ∀ s, s < k → rc_ok (ρ s)) {q : Nat → rc_Q} (hq : rc_bd k q) (last : Bool) {as : List Nat} (h : rc_L8 as) : ∀ s : Nat, s ≤ k → rc_L8 (rc_ca ρ q last as s)
  | 0, _ => h
  | s + 1, hs => rc_ot_lt (ρ s) (hρ s (by omega)).2.2.1 (hq s (by omega)) (rc_in_lt last (rc_ca_lt ρ hρ hq last h s (by omega)))
theorem rc_nq_lt (ρ : Nat → rc_R) {k : Nat} (hρ : ∀ s, s < k → rc_ok (ρ s)) {q : Nat → rc_Q} (hq : rc_bd k q) (last : Bool) {as : List Nat} (h : rc_L8 as) : rc_bd k (rc_nq ρ q last as) :=
  fun s hs => rc_ns_lt (ρ s) (hq s hs) (rc_in_lt last (rc_ca_lt ρ hρ hq last h s (by omega)))

/-! the result's count and whether it is still as the word -/
def rc_fs (W : List Nat) (z : Nat × Bool) (a : Nat) : Nat × Bool :=
  if z.1 < 12 then (z.1 + 1, z.2 && (decide (z.1 < W.length) && decide (W.getD z.1 0 = a))) else z
def rc_ff (W : List Nat) : Nat × Bool → List Nat → Nat × Bool
  | z, [] => z
  | z, a :: t => rc_ff W (rc_fs W z a) t
theorem rc_ff_app (W : List Nat) : ∀ (u v : List Nat) (z : Nat × Bool), rc_ff W z (u ++ v) = rc_ff W (rc_ff W z u) v
  | [], _, _ => rfl
  | a :: u, v, z => rc_ff_app W u v (rc_fs W z a)
theorem rc_ff_1 (W : List Nat) : ∀ (u : List Nat) (z : Nat × Bool), z.1 + u.length ≤ 12 → (rc_ff W z u).1 = z.1 + u.length
  | [], _, _ => rfl
  | a :: u, z, h => by
    rw [List.length_cons] at h ⊢
    have e : (rc_fs W z a).1 = z.1 + 1 := by unfold rc_fs; rw [if_pos (by omega)]
    show (rc_ff W (rc_fs W z a) u).1 = _
    rw [rc_ff_1 W u _ (by rw [e]; omega), e]; omega
theorem rc_ff_16 (W : List Nat) : ∀ (u : List Nat) (z : Nat × Bool), z.1 < 16 → (rc_ff W z u).1 < 16
  | [], _, h => h
  | a :: u, z, h => by
    refine rc_ff_16 W u _ ?_
    unfold rc_fs
    split
    · show z.1 + 1 < 16; omega
    · exact h
theorem rc_ff_f (W : List Nat) : ∀ (u : List Nat) (z : Nat × Bool), z.2 = false → (rc_ff W z u).2 = false
  | [], _, h => h
  | a :: u, z, h => by
    refine rc_ff_f W u _ ?_
    unfold rc_fs
    split
    · show (z.2 && _) = false
      rw [h]; rfl
    · exact h
theorem rc_drop : ∀ (W : List Nat) (n : Nat), n < W.length → W.drop n = W.getD n 0 :: W.drop (n + 1)
  | [], n, h => absurd h (Nat.not_lt_zero n)
  | _ :: _, 0, _ => rfl
  | _ :: W, n + 1, h => rc_drop W n (Nat.lt_of_succ_lt_succ h)
theorem rc_ff_t (W : List Nat) : ∀ (u : List Nat) (n : Nat), n + u.length ≤ 12 → ((rc_ff W (n, true) u).2 = true ∧ n + u.length = W.length ↔ u = W.drop n ∧ n ≤ W.length)
  | [], n, _ => by
    show ((true : Bool) = true ∧ n + 0 = W.length) ↔ _
    constructor
    · intro h
      have e : W.length ≤ n := by omega
      exact ⟨(List.drop_eq_nil_of_le e).symm, by omega⟩
    · intro h
      have := congrArg List.length h.1
      rw [List.length_drop] at this
      have h3 : 0 = W.length - n := this
      exact ⟨rfl, by have := h.2; omega⟩
  | a :: u, n, h => by
    rw [List.length_cons] at h ⊢
    show ((rc_ff W (rc_fs W (n, true) a) u).2 = true ∧ _) ↔ _
    have e : rc_fs W (n, true) a = (n + 1, decide (n < W.length) && decide (W.getD n 0 = a)) := by
      unfold rc_fs; rw [if_pos (by show n < 12; omega)]; rfl
    rw [e]
    rcases Nat.lt_or_ge n W.length with hn | hn
    · have ed : W.drop n = W.getD n 0 :: W.drop (n + 1) := rc_drop W n hn
      rcases Classical.em (W.getD n 0 = a) with ha | ha
      · rw [decide_eq_true hn, decide_eq_true ha]
        have ih := rc_ff_t W u (n + 1) (by omega)
        show ((rc_ff W (n + 1, true) u).2 = true ∧ _) ↔ _
        rw [ed, ha]
        constructor
        · intro z
          have := ih.mp ⟨z.1, by omega⟩
          exact ⟨by rw [this.1], by omega⟩
        · intro z
          have := ih.mpr ⟨(List.cons.inj z.1).2, by omega⟩
          exact ⟨this.1, by omega⟩
      · rw [decide_eq_false ha, Bool.and_false]
        constructor
        · intro z
          rw [rc_ff_f W u _ rfl] at z
          exact absurd z.1 (by decide)
        · intro z
          rw [ed] at z
          exact absurd (List.cons.inj z.1).1.symm ha
    · rw [decide_eq_false (Nat.not_lt.mpr hn), Bool.false_and]
      constructor
      · intro z
        rw [rc_ff_f W u _ rfl] at z
        exact absurd z.1 (by decide)
      · intro z
        have e : W.drop n = [] := List.drop_eq_nil_of_le hn
        rw [e] at z
        exact absurd z.1 (by simp)

/-! acceptance and counts -/
def rc_zz (W : List Nat) (z : Nat × Bool) : Bool := z.2 && decide (z.1 = W.length)
def rc_ac (ρ : Nat → rc_R) (k : Nat) (W : List Nat) : (Nat → rc_Q) → Nat → List Nat → Bool
  | q, res, [] => rc_zz W (rc_ff W (res, true) (rc_ca ρ q true [] k))
  | q, res, l :: t => (rc_ff W (res, true) (rc_ca ρ q false [l] k)).2 && rc_ac ρ k W (rc_nq ρ q false [l]) (rc_ff W (res, true) (rc_ca ρ q false [l] k)).1 t
theorem rc_ac_eq (ρ : Nat → rc_R) (k : Nat) (W : List Nat) : ∀ (t : List Nat) (q : Nat → rc_Q) (res : Nat), rc_ac ρ k W q res t = rc_zz W (rc_ff W (res, true) (rc_ca ρ q true t k))
  | [], _, _ => rfl
  | l :: t, q, res => by
    show ((rc_ff W (res, true) (rc_ca ρ q false [l] k)).2 && rc_ac ρ k W (rc_nq ρ q false [l]) (rc_ff W (res, true) (rc_ca ρ q false [l] k)).1 t) = rc_zz W (rc_ff W (res, true) (rc_ca ρ q true ([l] ++ t) k))
    rw [rc_ca_app, rc_ff_app, rc_ac_eq ρ k W t]
    generalize rc_ff W (res, true) (rc_ca ρ q false [l] k) = z
    obtain ⟨n, b⟩ := z
    cases b
    · show false = rc_zz W (rc_ff W (n, false) _)
      unfold rc_zz
      rw [rc_ff_f W _ _ rfl]; rfl
    · rfl
theorem rc_ac_wa (ρ : Nat → rc_R) {k : Nat} (hρ : ∀ s, s < k → rc_ok (ρ s)) (W w : List Nat) (hw : ∀ a ∈ w, a ≤ 3) (hl : w.length ≤ 12) : rc_ac ρ k W rc_q0 0 w = true ↔ rc_wa ρ w k = W := by
  have e := rc_ca_wa ρ hρ w hw k (Nat.le_refl k)
  have l := rc_wa_len ρ w hl k
  rw [rc_ac_eq, e]
  have h1 := rc_ff_1 W (rc_wa ρ w k) (0, true) (by show 0 + _ ≤ 12; omega)
  have h2 := rc_ff_t W (rc_wa ρ w k) 0 (by omega)
  unfold rc_zz
  rw [Bool.and_eq_true, decide_eq_true_iff, h1]
  rw [List.drop_zero] at h2
  constructor
  · intro z; exact (h2.mp z).1
  · intro z; exact h2.mpr ⟨z, Nat.zero_le _⟩
theorem rc_ac_congr (ρ : Nat → rc_R) (k : Nat) (W : List Nat) {q q' : Nat → rc_Q} (h : ∀ s, s < k → q s = q' s) (res : Nat) (t : List Nat) : rc_ac ρ k W q res t = rc_ac ρ k W q' res t := by
  rw [rc_ac_eq, rc_ac_eq, rc_ca_congr ρ h true t k (Nat.le_refl k)]

def rc_sm (f : Nat → Nat) : Nat → Nat
  | 0 => 0
  | n + 1 => rc_sm f n + f n
theorem rc_sm_congr {f g : Nat → Nat} : ∀ n : Nat, (∀ i, i < n → f i = g i) → rc_sm f n = rc_sm g n
  | 0, _ => rfl
  | n + 1, h => by
    show rc_sm f n + f n = rc_sm g n + g n
    rw [rc_sm_congr n (fun i hi => h i (by omega)), h n (by omega)]
def rc_cn (P : Nat → Bool) : Nat → Nat
  | 0 => 0
  | n + 1 => rc_cn P n + (if P n = true then 1 else 0)
theorem rc_cn_congr {P P' : Nat → Bool} : ∀ n : Nat, (∀ i, i < n → P i = P' i) → rc_cn P n = rc_cn P' n
  | 0, _ => rfl
  | n + 1, h => by
    show rc_cn P n + (if P n = true then 1 else 0) = rc_cn P' n + (if P' n = true then 1 else 0)
    rw [rc_cn_congr n (fun i hi => h i (by omega)), h n (by omega)]
theorem rc_cn_le (P : Nat → Bool) : ∀ n : Nat, rc_cn P n ≤ n
  | 0 => Nat.le_refl 0
  | n + 1 => by
    have := rc_cn_le P n
    show rc_cn P n + (if P n = true then 1 else 0) ≤ n + 1
    split <;> omega
theorem rc_cn_mono (P : Nat → Bool) {a : Nat} : ∀ {b : Nat}, a ≤ b → rc_cn P a ≤ rc_cn P b
  | 0, h => by
    have : a = 0 := by omega
    rw [this]; exact Nat.le_refl _
  | b + 1, h => by
    rcases Nat.lt_or_ge a (b + 1) with z | z
    · have := rc_cn_mono P (a := a) (b := b) (by omega)
      show rc_cn P a ≤ rc_cn P b + (if P b = true then 1 else 0)
      omega
    · have : a = b + 1 := by omega
      rw [this]; exact Nat.le_refl _
theorem rc_cn_add (P : Nat → Bool) (a : Nat) : ∀ b : Nat, rc_cn P (a + b) = rc_cn P a + rc_cn (fun v => P (a + v)) b
  | 0 => rfl
  | b + 1 => by
    show rc_cn P (a + b) + (if P (a + b) = true then 1 else 0) = rc_cn P a + (rc_cn (fun v => P (a + v)) b + (if P (a + b) = true then 1 else 0))
    rw [rc_cn_add P a b, Nat.add_assoc]
theorem rc_cn_mul (P : Nat → Bool) (B : Nat) : ∀ m : Nat, rc_cn P (m * B) = rc_sm (fun l => rc_cn (fun v => P (l * B + v)) B) m
  | 0 => by rw [Nat.zero_mul]; rfl
  | m + 1 => by
    show _ = rc_sm (fun l => rc_cn (fun v => P (l * B + v)) B) m + rc_cn (fun v => P (m * B + v)) B
    rw [Nat.succ_mul, rc_cn_add, rc_cn_mul P B m]
theorem rc_cn_false : ∀ n : Nat, rc_cn (fun _ => false) n = 0
  | 0 => rfl
  | n + 1 => by
    show rc_cn (fun _ => false) n + 0 = 0
    rw [rc_cn_false n]

/-! numbers of words -/
def rc_dg : Nat → Nat → List Nat
  | 0, _ => []
  | n + 1, w => (w / 4 ^ n % 4) :: rc_dg n w
theorem rc_dg_len : ∀ n w : Nat, (rc_dg n w).length = n
  | 0, _ => rfl
  | n + 1, w => congrArg (· + 1) (rc_dg_len n w)
theorem rc_dg_le : ∀ n w : Nat, ∀ a ∈ rc_dg n w, a ≤ 3
  | 0, _, a, h => absurd h List.not_mem_nil
  | n + 1, w, a, h => by
    rcases List.mem_cons.mp h with z | z
    · rw [z]; omega
    · exact rc_dg_le n w a z
theorem rc_dg_hi (n l v : Nat) : ∀ i : Nat, i ≤ n → rc_dg i (l * 4 ^ n + v) = rc_dg i v
  | 0, _ => rfl
  | i + 1, h => by
    show ((l * 4 ^ n + v) / 4 ^ i % 4) :: rc_dg i (l * 4 ^ n + v) = (v / 4 ^ i % 4) :: rc_dg i v
    rw [rc_dg_hi n l v i (by omega)]
    congr 1
    have e : l * 4 ^ n = (l * 4 ^ (n - i - 1) * 4) * 4 ^ i := by
      have : (4 : Nat) ^ n = 4 ^ (n - i - 1) * 4 * 4 ^ i := by
        rw [← Nat.pow_succ, ← Nat.pow_add]; congr 1; omega
      rw [this]; simp only [Nat.mul_assoc]
    rw [e, Nat.add_comm, Nat.add_mul_div_right _ _ (Nat.pow_pos (by decide)), Nat.add_mul_mod_self_right]
theorem rc_dg_cons {n l v : Nat} (hl : l < 4) (hv : v < 4 ^ n) : rc_dg (n + 1) (l * 4 ^ n + v) = l :: rc_dg n v := by
  show ((l * 4 ^ n + v) / 4 ^ n % 4) :: rc_dg n (l * 4 ^ n + v) = _
  rw [rc_dg_hi n l v n (Nat.le_refl n), Nat.add_comm, Nat.add_mul_div_right _ _ (Nat.pow_pos (by decide)), Nat.div_eq_of_lt hv, Nat.zero_add, Nat.mod_eq_of_lt hl]
theorem rc_dg_get : ∀ (n w i : Nat), i < n → (rc_dg n w).getD i 0 = w / 4 ^ (n - 1 - i) % 4
  | 0, _, i, h => by omega
  | n + 1, w, 0, _ => by
    show w / 4 ^ n % 4 = w / 4 ^ (n + 1 - 1 - 0) % 4
    rfl
  | n + 1, w, i + 1, h => by
    show (rc_dg n w).getD i 0 = _
    rw [rc_dg_get n w i (by omega)]
    congr 3; omega
def rc_cf (c : Nat) : List Nat → Nat
  | [] => c
  | a :: t => rc_cf (4 * c + a) t
def rc_cd (l : List Nat) : Nat := rc_cf 1 l
theorem rc_cf_app : ∀ (u v : List Nat) (c : Nat), rc_cf c (u ++ v) = rc_cf (rc_cf c u) v
  | [], _, _ => rfl
  | a :: u, v, c => rc_cf_app u v (4 * c + a)
theorem rc_cf_dg : ∀ (n w c : Nat), rc_cf c (rc_dg n w) = c * 4 ^ n + w % 4 ^ n
  | 0, w, c => by
    show c = c * 1 + w % 1
    omega
  | n + 1, w, c => by
    show rc_cf (4 * c + w / 4 ^ n % 4) (rc_dg n w) = _
    rw [rc_cf_dg n w, Nat.mod_pow_succ, Nat.pow_succ, Nat.add_mul]
    have e1 : 4 * c * 4 ^ n = c * (4 ^ n * 4) := by
      rw [Nat.mul_comm 4 c, Nat.mul_assoc, Nat.mul_comm 4]
    rw [e1, Nat.mul_comm (w / 4 ^ n % 4), Nat.add_assoc, Nat.add_comm (4 ^ n * _)]
theorem rc_cd_dg {n w : Nat} (h : w < 4 ^ n) : rc_cd (rc_dg n w) = 4 ^ n + w := by
  show rc_cf 1 _ = _
  rw [rc_cf_dg, Nat.one_mul, Nat.mod_eq_of_lt h]
theorem rc_cf_bd : ∀ (l : List Nat) (c : Nat), (∀ a ∈ l, a ≤ 3) → c * 4 ^ l.length ≤ rc_cf c l ∧ rc_cf c l < (c + 1) * 4 ^ l.length
  | [], c, _ => by
    show c * 1 ≤ c ∧ c < (c + 1) * 1
    omega
  | a :: t, c, h => by
    have ha := h a List.mem_cons_self
    have ih := rc_cf_bd t (4 * c + a) (fun x hx => h x (List.mem_cons_of_mem _ hx))
    rw [List.length_cons, Nat.pow_succ]
    show _ ≤ rc_cf (4 * c + a) t ∧ rc_cf (4 * c + a) t < _
    have h1 : c * (4 ^ t.length * 4) ≤ (4 * c + a) * 4 ^ t.length := by
      rw [Nat.mul_comm (4 ^ t.length) 4, ← Nat.mul_assoc]
      exact Nat.mul_le_mul_right _ (by omega)
    have h2 : (4 * c + a + 1) * 4 ^ t.length ≤ (c + 1) * (4 ^ t.length * 4) := by
      rw [Nat.mul_comm (4 ^ t.length) 4, ← Nat.mul_assoc]
      exact Nat.mul_le_mul_right _ (by omega)
    exact ⟨Nat.le_trans h1 ih.1, Nat.lt_of_lt_of_le ih.2 h2⟩
theorem rc_cf_inj : ∀ (u v : List Nat) (c d : Nat), u.length = v.length → (∀ a ∈ u, a ≤ 3) → (∀ a ∈ v, a ≤ 3) → rc_cf c u = rc_cf d v → c = d ∧ u = v
  | [], [], c, d, _, _, _, h => ⟨h, rfl⟩
  | [], b :: v, _, _, h, _, _, _ => by simp at h
  | a :: u, [], _, _, h, _, _, _ => by simp at h
  | a :: u, b :: v, c, d, h, hu, hv, e => by
    have ha := hu a List.mem_cons_self
    have hb := hv b List.mem_cons_self
    have ih := rc_cf_inj u v (4 * c + a) (4 * d + b) (by simpa using h) (fun x hx => hu x (List.mem_cons_of_mem _ hx)) (fun x hx => hv x (List.mem_cons_of_mem _ hx)) e
    have e1 : a = b := by omega
    exact ⟨by omega, by rw [e1, ih.2]⟩
theorem rc_cd_lt {l : List Nat} (h : ∀ a ∈ l, a ≤ 3) (hl : l.length ≤ 12) : rc_cd l < 33554432 := by
  have a := (rc_cf_bd l 1 h).2
  have b : (4 : Nat) ^ l.length ≤ 4 ^ 12 := Nat.pow_le_pow_right (by decide) hl
  have c : (4 : Nat) ^ 12 = 16777216 := by decide
  show rc_cf 1 l < _
  omega
theorem rc_cd_inj {u v : List Nat} (hu : ∀ a ∈ u, a ≤ 3) (hv : ∀ a ∈ v, a ≤ 3) (e : rc_cd u = rc_cd v) : u = v := by
  have a := rc_cf_bd u 1 hu
  have b := rc_cf_bd v 1 hv
  have e' : rc_cf 1 u = rc_cf 1 v := e
  have hl : u.length = v.length := by
    rcases Nat.lt_trichotomy u.length v.length with z | z | z
    · have p : (4 : Nat) ^ (u.length + 1) ≤ 4 ^ v.length := Nat.pow_le_pow_right (by decide) z
      rw [Nat.pow_succ] at p
      have := Nat.pow_pos (n := u.length) (show 0 < 4 by decide)
      omega
    · exact z
    · have p : (4 : Nat) ^ (v.length + 1) ≤ 4 ^ u.length := Nat.pow_le_pow_right (by decide) z
      rw [Nat.pow_succ] at p
      have := Nat.pow_pos (n := v.length) (show 0 < 4 by decide)
      omega
  exact (rc_cf_inj u v 1 1 hl hu hv e').2

/-! the count by memories -/
def rc_zl (ρ : Nat → rc_R) (k : Nat) (W : List Nat) (q : Nat → rc_Q) (res l : Nat) : Nat × Bool := rc_ff W (res, true) (rc_ca ρ q false [l] k)
def rc_ct (ρ : Nat → rc_R) (k : Nat) (W : List Nat) : Nat → (Nat → rc_Q) → Nat → Nat
  | 0, q, res => if rc_zz W (rc_ff W (res, true) (rc_ca ρ q true [] k)) = true then 1 else 0
  | i + 1, q, res => rc_sm (fun l => if (rc_zl ρ k W q res l).2 = true then rc_ct ρ k W i (rc_nq ρ q false [l]) (rc_zl ρ k W q res l).1 else 0) 4
/-- the part of the count behind one letter -/
def rc_cl (ρ : Nat → rc_R) (k : Nat) (W : List Nat) (i : Nat) (q : Nat → rc_Q) (res l : Nat) : Nat :=
  if (rc_zl ρ k W q res l).2 = true then rc_ct ρ k W i (rc_nq ρ q false [l]) (rc_zl ρ k W q res l).1 else 0
theorem rc_ct_cn (ρ : Nat → rc_R) (k : Nat) (W : List Nat) : ∀ (i : Nat) (q : Nat → rc_Q) (res : Nat), rc_ct ρ k W i q res = rc_cn (fun v => rc_ac ρ k W q res (rc_dg i v)) (4 ^ i)
  | 0, q, res => by
    show (if rc_zz W (rc_ff W (res, true) (rc_ca ρ q true [] k)) = true then 1 else 0) = 0 + (if rc_zz W (rc_ff W (res, true) (rc_ca ρ q true [] k)) = true then 1 else 0)
    rw [Nat.zero_add]
  | i + 1, q, res => by
    have e : (4 : Nat) ^ (i + 1) = 4 * 4 ^ i := by rw [Nat.pow_succ, Nat.mul_comm]
    rw [e, rc_cn_mul]
    show rc_sm _ 4 = _
    refine rc_sm_congr 4 fun l hl => ?_
    have h : rc_cn (fun v => rc_ac ρ k W q res (rc_dg (i + 1) (l * 4 ^ i + v))) (4 ^ i) = rc_cn (fun v => (rc_zl ρ k W q res l).2 && rc_ac ρ k W (rc_nq ρ q false [l]) (rc_zl ρ k W q res l).1 (rc_dg i v)) (4 ^ i) := by
      refine rc_cn_congr _ fun v hv => ?_
      show rc_ac ρ k W q res (rc_dg (i + 1) (l * 4 ^ i + v)) = _
      rw [rc_dg_cons hl hv]
      rfl
    rw [h]
    rcases hz : (rc_zl ρ k W q res l).2 with _ | _
    · show 0 = rc_cn (fun v => false) (4 ^ i)
      rw [rc_cn_false]
    · show rc_ct ρ k W i (rc_nq ρ q false [l]) (rc_zl ρ k W q res l).1 = rc_cn (fun v => rc_ac ρ k W (rc_nq ρ q false [l]) (rc_zl ρ k W q res l).1 (rc_dg i v)) (4 ^ i)
      exact rc_ct_cn ρ k W i _ _
theorem rc_ct_congr (ρ : Nat → rc_R) (k : Nat) (W : List Nat) {q q' : Nat → rc_Q} (h : ∀ s, s < k → q s = q' s) (i res : Nat) : rc_ct ρ k W i q res = rc_ct ρ k W i q' res := by
  rw [rc_ct_cn, rc_ct_cn]
  exact rc_cn_congr _ fun v _ => rc_ac_congr ρ k W h res (rc_dg i v)
theorem rc_ct_s (ρ : Nat → rc_R) (k : Nat) (W : List Nat) (i : Nat) (q : Nat → rc_Q) (res : Nat) : rc_ct ρ k W (i + 1) q res = rc_sm (rc_cl ρ k W i q res) 4 := rfl

/-! memories as numbers -/
def rc_en (q : rc_Q) : Nat := q.1 + 8 * q.2.1 + 64 * q.2.2
def rc_pk (q : Nat → rc_Q) (res : Nat) : Nat → Nat
  | 0 => res
  | s + 1 => rc_pk q res s * 1024 + rc_en (q s)
def rc_de (d : Nat) : rc_Q := (d % 8, d / 8 % 8, d / 64)
def rc_un (m k s : Nat) : rc_Q := rc_de (m / 1024 ^ (k - 1 - s) % 1024)
theorem rc_en_lt {q : rc_Q} (h : rc_bq q) : rc_en q < 1024 := by
  have := h.1; have := h.2.1; have := h.2.2
  unfold rc_en; omega
theorem rc_de_en {q : rc_Q} (h : rc_bq q) : rc_de (rc_en q) = q := by
  obtain ⟨b, c, d⟩ := q
  have h1 : b < 8 := h.1
  have h2 : c < 8 := h.2.1
  have h3 : d < 16 := h.2.2
  show ((b + 8 * c + 64 * d) % 8, (b + 8 * c + 64 * d) / 8 % 8, (b + 8 * c + 64 * d) / 64) = (b, c, d)
  have e1 : (b + 8 * c + 64 * d) % 8 = b := by omega
  have e2 : (b + 8 * c + 64 * d) / 8 % 8 = c := by omega
  have e3 : (b + 8 * c + 64 * d) / 64 = d := by omega
  rw [e1, e2, e3]
theorem rc_de_b {d : Nat} (h : d < 1024) : rc_bq (rc_de d) := by
  show d % 8 < 8 ∧ d / 8 % 8 < 8 ∧ d / 64 < 16
  omega
theorem rc_un_b (m k : Nat) : rc_bd k (rc_un m k) := fun s _ => rc_de_b (Nat.mod_lt _ (by decide))
theorem rc_pk_lt {q : Nat → rc_Q} {res : Nat} (hr : res < 16) : ∀ s : Nat, rc_bd s q → rc_pk q res s < 16 * 1024 ^ s
  | 0, _ => by
    show res < 16 * 1
    omega
  | s + 1, h => by
    have ih := rc_pk_lt hr s (fun j hj => h j (by omega))
    have := rc_en_lt (h s (by omega))
    show rc_pk q res s * 1024 + rc_en (q s) < _
    rw [Nat.pow_succ]
    omega
theorem rc_pk_hi {q : Nat → rc_Q} {res : Nat} : ∀ (d s : Nat), rc_bd (s + d) q → rc_pk q res (s + d) / 1024 ^ d = rc_pk q res s
  | 0, s, _ => by
    show rc_pk q res s / 1 = _
    rw [Nat.div_one]
  | d + 1, s, h => by
    have := rc_en_lt (h (s + d) (by omega))
    have e : (rc_pk q res (s + d) * 1024 + rc_en (q (s + d))) / 1024 = rc_pk q res (s + d) := by omega
    show (rc_pk q res (s + d) * 1024 + rc_en (q (s + d))) / 1024 ^ (d + 1) = _
    rw [Nat.pow_succ, Nat.mul_comm (1024 ^ d) 1024, ← Nat.div_div_eq_div_mul, e]
    exact rc_pk_hi d s (fun j hj => h j (by omega))
theorem rc_un_pk {q : Nat → rc_Q} {res k : Nat} (h : rc_bd k q) (s : Nat) (hs : s < k) : rc_un (rc_pk q res k) k s = q s := by
  have e : rc_pk q res k / 1024 ^ (k - 1 - s) = rc_pk q res (s + 1) := by
    have := rc_pk_hi (q := q) (res := res) (k - 1 - s) (s + 1) (by rw [show s + 1 + (k - 1 - s) = k by omega]; exact h)
    rw [show s + 1 + (k - 1 - s) = k by omega] at this
    exact this
  have := rc_en_lt (h s hs)
  unfold rc_un
  rw [e]
  show rc_de ((rc_pk q res s * 1024 + rc_en (q s)) % 1024) = q s
  rw [show (rc_pk q res s * 1024 + rc_en (q s)) % 1024 = rc_en (q s) by omega]
  exact rc_de_en (h s hs)
theorem rc_ur_pk {q : Nat → rc_Q} {res k : Nat} (h : rc_bd k q) : rc_pk q res k / 1024 ^ k = res := by
  have := rc_pk_hi (q := q) (res := res) k 0 (by rw [Nat.zero_add]; exact h)
  rw [Nat.zero_add] at this
  exact this
theorem rc_ct_pk (ρ : Nat → rc_R) (W : List Nat) {q : Nat → rc_Q} {res k : Nat} (h : rc_bd k q) (i : Nat) : rc_ct ρ k W i (rc_un (rc_pk q res k) k) (rc_pk q res k / 1024 ^ k) = rc_ct ρ k W i q res := by
  rw [rc_ur_pk h]
  exact rc_ct_congr ρ k W (fun s hs => rc_un_pk h s hs) i res
end
section
/-! small facts on ints -/
def rc_b2 (b : Bool) : Int32 := if b = true then 1 else 0
theorem rc_by0 : ∀ a, a < 128 → (nI a).toInt8.toInt32 = nI a := by decide +kernel
theorem rc_by {a : Nat} (h : a < 128) : vp_nar .byte (nI a).toInt8.toInt32 = nI a := by
  rw [vp_nar_byte, rc_by0 a h, rc_by0 a h]
theorem rc_by' {a : Nat} (h : a < 128) : vp_nar .byte (nI a) = nI a := by
  rw [vp_nar_byte, rc_by0 a h]
theorem rc_bit0 : ∀ l, l < 32 → ∀ b, b < 8 → (decide (((nI l >>> (nI b &&& 31)) &&& 1) = 1) = l.testBit b) := by decide +kernel
theorem rc_bit {l b : Nat} (hl : l < 32) (hb : b < 8) : ((nI l >>> (nI b &&& 31)) &&& 1) = 1 ↔ l.testBit b = true := by
  rw [← rc_bit0 l hl b hb, decide_eq_true_iff]
theorem rc_enc0 : ∀ b, b < 8 → ∀ h, h < 8 → ∀ c, c < 16 → (nI b ||| (nI h <<< ((3 : Int32) &&& 31))) ||| (nI c <<< ((6 : Int32) &&& 31)) = nI (b + 8 * h + 64 * c) := by decide +kernel
theorem rc_dec0 : ∀ d, d < 1024 → ((nI d &&& 7).toInt8.toInt32 = nI (d % 8) ∧ ((nI d >>> ((3 : Int32) &&& 31)) &&& 7).toInt8.toInt32 = nI (d / 8 % 8) ∧ (nI d >>> ((6 : Int32) &&& 31)).toInt8.toInt32 = nI (d / 64)) := by decide +kernel
theorem rc_pow5 : ∀ n, n ≤ 5 → ((1 : Int32) <<< ((2 * nI n) &&& 31)) = nI (4 ^ n) := by decide +kernel
theorem rc_4n : ∀ n, n ≤ 5 → 4 ^ n ≤ 1024 := by decide
theorem rc_nI8 {a b : Nat} (ha : a < 2 ^ 31) (hb : b < 2 ^ 31) (h : nI a = nI b) : a = b := (nI_eq ha hb).mp h
theorem rc_b2_t : rc_b2 true = 1 := rfl
theorem rc_b2_f : rc_b2 false = 0 := rfl
theorem rc_b2_n (b : Bool) : narrow .boolean (.int (rc_b2 b)) = .int (rc_b2 b) := by cases b <;> rfl
theorem rc_b2_0 {A B : Prop} (b : Bool) (f : b = false → A) (g : b = true → B) : (rc_b2 b = 0 → A) ∧ (¬ rc_b2 b = 0 → B) := by
  cases b
  · exact br_t rfl (f rfl)
  · exact br_f (by decide) (g rfl)

/-! lists in arrays -/
def rc_A (a : Nat → Int32) (l : List Nat) : Prop := ∀ i, i < l.length → a i = nI (l.getD i 0)
theorem rc_gl : ∀ (u v : List Nat) (i : Nat), i < u.length → (u ++ v).getD i 0 = u.getD i 0
  | [], _, i, h => by exact absurd h (Nat.not_lt_zero i)
  | _ :: _, _, 0, _ => rfl
  | _ :: u, v, i + 1, h => rc_gl u v i (Nat.lt_of_succ_lt_succ h)
theorem rc_gr : ∀ (u v : List Nat) (i : Nat), (u ++ v).getD (u.length + i) 0 = v.getD i 0
  | [], v, i => by
    show v.getD (0 + i) 0 = _
    rw [Nat.zero_add]
  | a :: u, v, i => by
    show (a :: (u ++ v)).getD (u.length + 1 + i) 0 = _
    rw [show u.length + 1 + i = (u.length + i) + 1 by omega]
    exact rc_gr u v i
theorem rc_gm : ∀ (u : List Nat) (i : Nat), i < u.length → u.getD i 0 ∈ u
  | [], i, h => absurd h (Nat.not_lt_zero i)
  | a :: _, 0, _ => List.mem_cons_self
  | _ :: u, i + 1, h => List.mem_cons_of_mem _ (rc_gm u i (Nat.lt_of_succ_lt_succ h))
theorem rc_g_ext : ∀ (u v : List Nat), u.length = v.length → (∀ i, i < u.length → u.getD i 0 = v.getD i 0) → u = v
  | [], [], _, _ => rfl
  | [], _ :: _, h, _ => by simp at h
  | _ :: _, [], h, _ => by simp at h
  | a :: u, b :: v, h, e => by
    have h0 : a = b := e 0 (Nat.succ_pos _)
    rw [h0, rc_g_ext u v (Nat.succ.inj h) (fun i hi => e (i + 1) (Nat.succ_lt_succ hi))]
theorem rc_A_nil (a : Nat → Int32) : rc_A a [] := fun i h => absurd h (Nat.not_lt_zero i)
theorem rc_A_push {a : Nat → Int32} {l : List Nat} (h : rc_A a l) (x : Nat) : rc_A (upd a l.length (nI x)) (l ++ [x]) := by
  intro i hi
  rw [List.length_append] at hi
  rcases Nat.lt_or_ge i l.length with z | z
  · rw [pk_un (by omega), rc_gl l [x] i z]; exact h i z
  · have e : i = l.length + 0 := by simp at hi; omega
    rw [e, rc_gr]; exact pk_us
theorem rc_A_pre {a : Nat → Int32} {u v : List Nat} (h : rc_A a (u ++ v)) : rc_A a u := fun i hi => by
  rw [h i (by rw [List.length_append]; omega), rc_gl u v i hi]
theorem rc_A_take {a : Nat → Int32} {u : List Nat} (h : rc_A a u) (n : Nat) : rc_A a (u.take n) := by
  have e := List.take_append_drop n u
  rw [← e] at h
  exact rc_A_pre h
theorem rc_A_app {a : Nat → Int32} {u v : List Nat} (hu : rc_A a u) (hv : ∀ j, j < v.length → a (u.length + j) = nI (v.getD j 0)) : rc_A a (u ++ v) := by
  intro i hi
  rw [List.length_append] at hi
  rcases Nat.lt_or_ge i u.length with z | z
  · rw [rc_gl u v i z]; exact hu i z
  · obtain ⟨j, rfl⟩ : ∃ j, i = u.length + j := ⟨i - u.length, by omega⟩
    rw [rc_gr]; exact hv j (by omega)
theorem rc_A_uniq {a : Nat → Int32} {u v : List Nat} (hu : rc_A a u) (hv : rc_A a v) (h : u.length = v.length) (bu : ∀ x ∈ u, x < 2 ^ 31) (bv : ∀ x ∈ v, x < 2 ^ 31) : u = v := by
  refine rc_g_ext u v h fun i hi => ?_
  have e := (hu i hi).symm.trans (hv i (by omega))
  exact (nI_eq (bu _ (rc_gm u i hi)) (bv _ (rc_gm v i (by omega)))).mp e

/-! the rules and the memories in the arrays -/
def rc_RA (aK aF aI aL aR : Nat → Int32) (r : Nat) (ρ : rc_R) : Prop := aK r = nI ρ.1 ∧ aF r = nI ρ.2.1 ∧ aI r = nI ρ.2.2.1 ∧ aL r = nI ρ.2.2.2.1 ∧ aR r = nI ρ.2.2.2.2 ∧ rc_ok ρ
def rc_LA (k : Nat) (ρ : Nat → rc_R) (aK aF aI aL aR aT : Nat → Int32) : Prop := ∀ s, s < k → ∃ r, r < 5 ∧ aT s = nI r ∧ rc_RA aK aF aI aL aR r (ρ s)
theorem rc_LA_ok {k : Nat} {ρ : Nat → rc_R} {aK aF aI aL aR aT : Nat → Int32} (h : rc_LA k ρ aK aF aI aL aR aT) : ∀ s, s < k → rc_ok (ρ s) := fun s hs => by
  obtain ⟨r, _, _, z⟩ := h s hs
  exact z.2.2.2.2.2
def rc_SA (aB aH aN : Nat → Int32) (s : Nat) (q : rc_Q) : Prop := aB s = nI q.1 ∧ aH s = nI q.2.1 ∧ aN s = nI q.2.2
def rc_FR (s : Nat) (aB aH aN aB' aH' aN' : Nat → Int32) : Prop := ∀ j, j ≠ s → aB' j = aB j ∧ aH' j = aH j ∧ aN' j = aN j
theorem rc_FR_r (s : Nat) (aB aH aN : Nat → Int32) : rc_FR s aB aH aN aB aH aN := fun _ _ => ⟨rfl, rfl, rfl⟩
theorem rc_FR_t {s : Nat} {aB aH aN aB' aH' aN' aB2 aH2 aN2 : Nat → Int32} (h : rc_FR s aB aH aN aB' aH' aN') (h2 : rc_FR s aB' aH' aN' aB2 aH2 aN2) : rc_FR s aB aH aN aB2 aH2 aN2 := fun j hj => ⟨(h2 j hj).1.trans (h j hj).1, (h2 j hj).2.1.trans (h j hj).2.1, (h2 j hj).2.2.trans (h j hj).2.2⟩
def rc_DA (k : Nat) (q : Nat → rc_Q) (aB aH aN : Nat → Int32) : Prop := ∀ s, s < k → rc_SA aB aH aN s (q s)
end
section
section
variable {fR : Int32} {fS : Int32} {fL : Int32} {fC : Int32} {fG : Int32} {fE : Int32} {fW : Int32} {fF : Int32} {fA : Int32} {aK : Nat → Int32} {aF : Nat → Int32} {aI : Nat → Int32} {aL : Nat → Int32} {aR : Nat → Int32} {aW : Nat → Int32} {aT : Nat → Int32} {aB : Nat → Int32} {aH : Nat → Int32} {aN : Nat → Int32} {aC : Nat → Int32} {aG : Nat → Int32} {aO : Nat → Int32} {aM : Nat → Int64} {aY : Nat → Int32} {aP : Nat → Int64} {aQ : Nat → Int32} {aD : Nat → Int32}
theorem rx_hand {post : SX → Prop} {s c a : Nat} {g : List Nat} (hs : s < 5) (hc : aN s = nI c) (hc16 : c < 16) (ha : a < 8) (hg : rc_A aG g) (hgc : g.length ≤ c)
    (K : ∀ (aN' : Nat → Int32) (aG' : Nat → Int32), rc_A aG' (g ++ [a].take (12 - c)) → aN' s = nI (c + ([a].take (12 - c)).length) → (∀ j, j ≠ s → aN' j = aN j) → post (fR, fS, fL, fC, nI (g ++ [a].take (12 - c)).length, fE, fW, fF, fA, aK, aF, aI, aL, aR, aW, aT, aB, aH, aN', aC, aG', aO, aM, aY, aP, aQ, aD)) :
    wpX_handOn post (fR, fS, fL, fC, nI g.length, fE, fW, fF, fA, aK, aF, aI, aL, aR, aW, aT, aB, aH, aN, aC, aG, aO, aM, aY, aP, aQ, aD) (nI s) (nI a) := by
  have e5 : (nI s).toNatClampNeg = s := nI_clamp (by omega)
  have eg : (nI g.length).toNatClampNeg = g.length := nI_clamp (by omega)
  have hin : vp_in (nI s) 5 := vp_in_nI hs (by omega)
  unfold wpX_handOn
  simp only [e5, hc, eg, rc_by (show a < 128 by omega)]
  by_cases h12 : 12 ≤ c
  · have et : [a].take (12 - c) = [] := by rw [show 12 - c = 0 by omega]; rfl
    rw [et, List.append_nil] at K
    exact ⟨hin, br_t (nI_le (a := 12) h12 (by omega)) (K aN aG hg hc (fun _ _ => rfl))⟩
  · have et : [a].take (12 - c) = [a] := List.take_of_length_le (by show 1 ≤ 12 - c; omega)
    rw [et] at K
    have ec : vp_nar .byte (nI c + 1).toInt8.toInt32 = nI (c + 1) := by rw [nI_1]; exact rc_by (by omega)
    have el : nI g.length + 1 = nI (g ++ [a]).length := by rw [nI_1, List.length_append]; rfl
    refine ⟨hin, br_f (nI_ge (b := 12) (by omega) (by decide)) ⟨vp_in_nI (by omega) (by decide), nm_e (nm_r el ⟨hin, hin, nm_r (congrArg _ ec) ?_⟩)⟩⟩
    exact K _ _ (rc_A_push hg a) pk_us (fun j hj => pk_un hj)
theorem rx_allow {post : Int32 → Prop} {l b : Nat} (hl : l < 32) (hb : b < 8) (K : post (rc_b2 (l.testBit b))) : wpX_allows post (fR, fS, fL, fC, fG, fE, fW, fF, fA, aK, aF, aI, aL, aR, aW, aT, aB, aH, aN, aC, aG, aO, aM, aY, aP, aQ, aD) (nI l) (nI b) := by
  unfold wpX_allows
  have h := rc_bit hl hb
  rcases hz : l.testBit b with _ | _
  · rw [hz] at K
    exact br_f (fun z => by rw [h, hz] at z; exact absurd z (by decide)) K
  · rw [hz] at K
    exact br_t (h.mpr hz) K
theorem rx_m61 {post : SX → Prop} {s c a : Nat} {g : List Nat} (hs : s < 5) (hc : aN s = nI c) (hc16 : c < 16) (ha : a < 8) (hg : rc_A aG g) (hgc : g.length ≤ c)
    (K : ∀ (aB' : Nat → Int32) (aN' : Nat → Int32) (aG' : Nat → Int32), rc_A aG' (g ++ (if a = 4 then [] else [a]).take (12 - c)) → aB' s = nI a → (∀ j, j ≠ s → aB' j = aB j) → aN' s = nI (c + ((if a = 4 then [] else [a]).take (12 - c)).length) → (∀ j, j ≠ s → aN' j = aN j) → post (fR, fS, fL, fC, nI (g ++ (if a = 4 then [] else [a]).take (12 - c)).length, fE, fW, fF, fA, aK, aF, aI, aL, aR, aW, aT, aB', aH, aN', aC, aG', aO, aM, aY, aP, aQ, aD)) :
    wX_meet_61 post (nI s) (nI a) fR fS fL fC (nI g.length) fE fW fF fA aK aF aI aL aR aW aT aB aH aN aC aG aO aM aY aP aQ aD := by
  have e5 : (nI s).toNatClampNeg = s := nI_clamp (by omega)
  have hin : vp_in (nI s) 5 := vp_in_nI hs (by omega)
  unfold wX_meet_61
  by_cases h4 : a = 4
  · rw [if_pos h4, List.take_nil, List.append_nil] at K
    refine br_t (by rw [h4]; rfl) ⟨hin, nm_e ?_⟩
    rw [e5, rc_by (show a < 128 by omega)]
    exact K _ _ _ hg pk_us (fun j hj => pk_un hj) hc (fun _ _ => rfl)
  · rw [if_neg h4] at K
    refine br_f (fun z => h4 (rc_nI8 (by omega) (by decide) z)) ?_
    refine rx_hand hs hc hc16 ha hg hgc ?_
    intro aN' aG' k1 k2 k3
    refine ⟨hin, nm_e ?_⟩
    rw [e5, rc_by (show a < 128 by omega)]
    exact K _ _ _ k1 pk_us (fun j hj => pk_un hj) k2 k3
theorem rx_m190 {post : SX → Prop} {s a : Nat} (hs : s < 5) (ha : a < 8)
    (K : ∀ (aH' : Nat → Int32), aH' s = nI (if a = 4 then 5 else a) → (∀ j, j ≠ s → aH' j = aH j) → post (fR, fS, fL, fC, fG, fE, fW, fF, fA, aK, aF, aI, aL, aR, aW, aT, aB, aH', aN, aC, aG, aO, aM, aY, aP, aQ, aD)) :
    wX_meet_190 post (nI s) (nI a) fR fS fL fC fG fE fW fF fA aK aF aI aL aR aW aT aB aH aN aC aG aO aM aY aP aQ aD := by
  have e5 : (nI s).toNatClampNeg = s := nI_clamp (by omega)
  have hin : vp_in (nI s) 5 := vp_in_nI hs (by omega)
  unfold wX_meet_190
  by_cases h4 : a = 4
  · rw [if_pos h4] at K
    refine br_t (by rw [h4]; rfl) ⟨hin, nm_e ?_⟩
    rw [e5, show (5 : Int32) = nI 5 from rfl, rc_by (show 5 < 128 by omega)]
    exact K _ pk_us (fun j hj => pk_un hj)
  · rw [if_neg h4] at K
    refine br_f (fun z => h4 (rc_nI8 (by omega) (by decide) z)) ⟨hin, nm_e ?_⟩
    rw [e5, rc_by (show a < 128 by omega)]
    exact K _ pk_us (fun j hj => pk_un hj)
theorem rx_m181 {post : SX → Prop} {s a h : Nat} (hs : s < 5) (ha : a < 8) (hh : h < 8)
    (K : ∀ (aB' : Nat → Int32) (aH' : Nat → Int32), aB' s = nI h → (∀ j, j ≠ s → aB' j = aB j) → aH' s = nI (if a = 4 then 5 else a) → (∀ j, j ≠ s → aH' j = aH j) → post (fR, fS, fL, fC, fG, fE, fW, fF, fA, aK, aF, aI, aL, aR, aW, aT, aB', aH', aN, aC, aG, aO, aM, aY, aP, aQ, aD)) :
    wX_meet_181 post (nI s) (nI a) (nI h) fR fS fL fC fG fE fW fF fA aK aF aI aL aR aW aT aB aH aN aC aG aO aM aY aP aQ aD := by
  have e5 : (nI s).toNatClampNeg = s := nI_clamp (by omega)
  have hin : vp_in (nI s) 5 := vp_in_nI hs (by omega)
  unfold wX_meet_181
  refine ⟨hin, nm_e ?_⟩
  rw [e5, rc_by (show h < 128 by omega)]
  exact rx_m190 hs ha fun aH' k1 k2 => K _ _ pk_us (fun j hj => pk_un hj) k1 k2
/-- what is handed on when the held letter isn't hit, or is -/
def rc_e2 (ρ : rc_R) (h : Nat) (z : Bool) : List Nat := if z = true then (if ρ.1 = 0 then [ρ.2.2.1] else []) else [h]
theorem rx_m144 {post : SX → Prop} {s r a h c : Nat} {ρ : rc_R} {g : List Nat} {z : Bool} (hs : s < 5) (hr : r < 5) (hρ : rc_RA aK aF aI aL aR r ρ) (ha : a < 8) (hh : h < 8) (hc : aN s = nI c) (hc16 : c < 16) (hg : rc_A aG g) (hgc : g.length ≤ c)
    (K : ∀ (aB' : Nat → Int32) (aH' : Nat → Int32) (aN' : Nat → Int32) (aG' : Nat → Int32), rc_A aG' (g ++ (rc_e2 ρ h z).take (12 - c)) → aB' s = nI h → (∀ j, j ≠ s → aB' j = aB j) → aH' s = nI (if a = 4 then 5 else a) → (∀ j, j ≠ s → aH' j = aH j) → aN' s = nI (c + ((rc_e2 ρ h z).take (12 - c)).length) → (∀ j, j ≠ s → aN' j = aN j) → post (fR, fS, fL, fC, nI (g ++ (rc_e2 ρ h z).take (12 - c)).length, fE, fW, fF, fA, aK, aF, aI, aL, aR, aW, aT, aB', aH', aN', aC, aG', aO, aM, aY, aP, aQ, aD)) :
    wX_meet_144 post (nI s) (nI a) (nI r) (nI h) (rc_b2 z) fR fS fL fC (nI g.length) fE fW fF fA aK aF aI aL aR aW aT aB aH aN aC aG aO aM aY aP aQ aD := by
  have er : (nI r).toNatClampNeg = r := nI_clamp (by omega)
  have hir : vp_in (nI r) 5 := vp_in_nI hr (by omega)
  obtain ⟨hK, _, hI, _, _, ok⟩ := hρ
  have ok1 := ok.1
  have ok3 := ok.2.2.1
  unfold wX_meet_144
  cases z
  · refine br_t rfl (rx_hand hs hc hc16 hh hg hgc ?_)
    intro aN' aG' k1 k2 k3
    exact rx_m181 hs ha hh fun aB' aH' m1 m2 m3 m4 => K _ _ _ _ k1 m1 m2 m3 m4 k2 k3
  · refine br_f (by decide) ⟨hir, ?_⟩
    rw [er, hK, hI]
    by_cases k0 : ρ.1 = 0
    · have e : rc_e2 ρ h true = [ρ.2.2.1] := by unfold rc_e2; rw [if_pos rfl, if_pos k0]
      rw [e] at K
      refine br_t (by rw [k0]; rfl) ⟨hir, rx_hand hs hc hc16 (by omega) hg hgc ?_⟩
      intro aN' aG' k1 k2 k3
      exact rx_m181 hs ha hh fun aB' aH' m1 m2 m3 m4 => K _ _ _ _ k1 m1 m2 m3 m4 k2 k3
    · have e : rc_e2 ρ h true = [] := by unfold rc_e2; rw [if_pos rfl, if_neg k0]
      rw [e, List.take_nil, List.append_nil] at K
      refine br_f (fun z => k0 (rc_nI8 (by omega) (by decide) z)) ?_
      exact rx_m181 hs ha hh fun aB' aH' m1 m2 m3 m4 => K _ _ _ _ hg m1 m2 m3 m4 hc (fun _ _ => rfl)
theorem rx_meet {post : SX → Prop} {s r a b h c : Nat} {ρ : rc_R} {g : List Nat} (hs : s < 5) (hr : r < 5) (hT : aT s = nI r) (hρ : rc_RA aK aF aI aL aR r ρ) (hS : rc_SA aB aH aN s (b, h, c)) (hq : rc_bq (b, h, c)) (ha : a < 8) (hg : rc_A aG g) (hgc : g.length ≤ c)
    (K : ∀ (aB' : Nat → Int32) (aH' : Nat → Int32) (aN' : Nat → Int32) (aG' : Nat → Int32), rc_A aG' (g ++ (rc_e ρ b h a).take (12 - c)) → rc_SA aB' aH' aN' s (rc_nb ρ b h a, rc_nh ρ h a, c + ((rc_e ρ b h a).take (12 - c)).length) → rc_FR s aB aH aN aB' aH' aN' → post (fR, fS, fL, fC, nI (g ++ (rc_e ρ b h a).take (12 - c)).length, fE, fW, fF, fA, aK, aF, aI, aL, aR, aW, aT, aB', aH', aN', aC, aG', aO, aM, aY, aP, aQ, aD)) :
    wpX_meet post (fR, fS, fL, fC, nI g.length, fE, fW, fF, fA, aK, aF, aI, aL, aR, aW, aT, aB, aH, aN, aC, aG, aO, aM, aY, aP, aQ, aD) (nI s) (nI a) := by
  have e5 : (nI s).toNatClampNeg = s := nI_clamp (by omega)
  have hin : vp_in (nI s) 5 := vp_in_nI hs (by omega)
  have er : (nI r).toNatClampNeg = r := nI_clamp (by omega)
  have hir : vp_in (nI r) 5 := vp_in_nI hr (by omega)
  have hρ' := hρ
  obtain ⟨hK, hF, hI, hL, hR, ok⟩ := hρ
  obtain ⟨ok1, ok2, ok3, ok4, ok5⟩ := ok
  obtain ⟨hB, hH, hN⟩ := hS
  replace hB : aB s = nI b := hB
  replace hH : aH s = nI h := hH
  replace hN : aN s = nI c := hN
  obtain ⟨qb, qh, qc⟩ := hq
  replace qb : b < 8 := qb
  replace qh : h < 8 := qh
  replace qc : c < 16 := qc
  unfold wpX_meet
  refine ⟨hin, nm_r (e' := nI r) (by rw [e5]; exact hT) ⟨hir, ?_⟩⟩
  simp only [er, e5, hK, hF, hI, hL, hR, hB, hH]
  by_cases k2 : ρ.1 = 2
  · have eb : rc_nb ρ b h a = a := by unfold rc_nb; rw [if_pos k2]
    have eh : rc_nh ρ h a = h := by unfold rc_nh; rw [if_pos k2]
    have ee : rc_e ρ b h a = (if rc_fit ρ b a = true then [ρ.2.2.1] else []) ++ (if a = 4 then [] else [a]) := by unfold rc_e; rw [if_pos k2]
    rw [eb, eh, ee] at K
    refine br_t (by rw [k2]; rfl) ⟨hir, hin, ?_⟩
    have nofit : rc_fit ρ b a = false → wX_meet_61 post (nI s) (nI a) fR fS fL fC (nI g.length) fE fW fF fA aK aF aI aL aR aW aT aB aH aN aC aG aO aM aY aP aQ aD := by
      intro hf
      rw [hf, if_neg (by decide), List.nil_append] at K
      exact rx_m61 hs hN qc ha hg hgc fun aB' aN' aG' k1 k3 k4 k5 k6 => K aB' aH aN' aG' k1 ⟨k3, hH, k5⟩ (fun j hj => ⟨k4 j hj, rfl, k6 j hj⟩)
    refine rx_allow ok4 qb (rc_b2_0 _ ?_ ?_)
    · intro t1
      exact nofit (by unfold rc_fit; rw [t1]; rfl)
    · intro t1
      refine ⟨hir, rx_allow ok5 ha (rc_b2_0 _ ?_ ?_)⟩
      · intro t2
        exact nofit (by unfold rc_fit; rw [t1, t2]; rfl)
      · intro t2
        have hf : rc_fit ρ b a = true := by unfold rc_fit; rw [t1, t2]; rfl
        rw [hf, if_pos rfl, rc_take_app, ← List.append_assoc] at K
        refine ⟨hir, rx_hand hs hN qc (by omega) hg hgc ?_⟩
        intro aN' aG' k1 k2 k3
        refine rx_m61 hs k2 (by rw [List.length_take]; simp only [List.length_cons, List.length_nil]; omega) ha k1 (by rw [List.length_append]; omega) ?_
        intro aB' aN2 aG2 m1 m2 m3 m4 m5
        refine K aB' aH aN2 aG2 m1 ⟨m2, hH, ?_⟩ (fun j hj => ⟨m3 j hj, rfl, (m5 j hj).trans (k3 j hj)⟩)
        rw [m4, List.length_append, Nat.add_assoc]
  · have ea : rc_nh ρ h a = if a = 4 then 5 else a := by unfold rc_nh; rw [if_neg k2]
    refine br_f (fun z => k2 (rc_nI8 (by omega) (by decide) z)) ⟨hin, nm_e ?_⟩
    by_cases h5 : h = 5
    · have eb : rc_nb ρ b h a = b := by unfold rc_nb; rw [if_neg k2, if_pos h5]
      have ee : rc_e ρ b h a = [] := by unfold rc_e; rw [if_neg k2, if_pos h5]
      rw [eb, ea, ee, List.take_nil, List.append_nil] at K
      refine br_t (by rw [h5]; rfl) ?_
      exact rx_m190 hs ha fun aH' k1 k2 => K aB aH' aN aG hg ⟨hB, k1, hN⟩ (fun j hj => ⟨rfl, k2 j hj, rfl⟩)
    · have eb : rc_nb ρ b h a = h := by unfold rc_nb; rw [if_neg k2, if_neg h5]
      have ee : ∀ z : Bool, (z = true ↔ h = ρ.2.1 ∧ rc_fit ρ b a = true) → rc_e ρ b h a = rc_e2 ρ h z := by
        intro z hz
        unfold rc_e rc_e2
        rw [if_neg k2, if_neg h5]
        by_cases hh : h = ρ.2.1 ∧ rc_fit ρ b a = true
        · rw [if_pos hh, if_pos (hz.mpr hh)]
        · rw [if_neg hh, if_neg (fun y => hh (hz.mp y))]
      have go : ∀ z : Bool, (z = true ↔ h = ρ.2.1 ∧ rc_fit ρ b a = true) → wX_meet_144 post (nI s) (nI a) (nI r) (nI h) (rc_b2 z) fR fS fL fC (nI g.length) fE fW fF fA aK aF aI aL aR aW aT aB aH aN aC aG aO aM aY aP aQ aD := by
        intro z hz
        rw [eb, ea, ee z hz] at K
        exact rx_m144 hs hr hρ' ha qh hN qc hg hgc fun aB' aH' aN' aG' k1 k2 k3 k4 k5 k6 k7 => K aB' aH' aN' aG' k1 ⟨k2, k4, k6⟩ (fun j hj => ⟨k3 j hj, k5 j hj, k7 j hj⟩)
      refine br_f (fun z => h5 (rc_nI8 (by omega) (by decide) z)) ⟨hir, ?_⟩
      by_cases hx : h = ρ.2.1
      · refine br_t (by rw [hx]) ⟨hir, hin, rx_allow ok4 qb (rc_b2_0 _ ?_ ?_)⟩
        · intro t1
          exact go false ⟨fun y => absurd y (by decide), fun y => by have := y.2; unfold rc_fit at this; rw [t1, Bool.false_and] at this; exact absurd this (by decide)⟩
        · intro t1
          refine ⟨hir, rx_allow ok5 ha (rc_b2_0 _ ?_ ?_)⟩
          · intro t2
            exact go false ⟨fun y => absurd y (by decide), fun y => by have := y.2; unfold rc_fit at this; rw [t1, t2] at this; exact absurd this (by decide)⟩
          · intro t2
            exact go true ⟨fun _ => ⟨hx, by unfold rc_fit; rw [t1, t2]; rfl⟩, fun _ => rfl⟩
      · refine br_f (fun z => hx (rc_nI8 (by omega) (by omega) z)) ?_
        exact go false ⟨fun y => absurd y (by decide), fun y => absurd y.1 hx⟩
end
end
section
section
variable {fR : Int32} {fS : Int32} {fL : Int32} {fC : Int32} {fG : Int32} {fE : Int32} {fW : Int32} {fF : Int32} {fA : Int32} {aK : Nat → Int32} {aF : Nat → Int32} {aI : Nat → Int32} {aL : Nat → Int32} {aR : Nat → Int32} {aW : Nat → Int32} {aT : Nat → Int32} {aB : Nat → Int32} {aH : Nat → Int32} {aN : Nat → Int32} {aC : Nat → Int32} {aG : Nat → Int32} {aO : Nat → Int32} {aM : Nat → Int64} {aY : Nat → Int32} {aP : Nat → Int64} {aQ : Nat → Int32} {aD : Nat → Int32}
theorem rx_ex2 {post : SX → Prop} {g : List Nat} (hg : rc_A aG g) (h8 : rc_L8 g) (hl : g.length ≤ 80) (K : ∀ (aC' : Nat → Int32), rc_A aC' g → post (fR, fS, fL, nI g.length, nI g.length, fE, fW, fF, fA, aK, aF, aI, aL, aR, aW, aT, aB, aH, aN, aC', aG, aO, aM, aY, aP, aQ, aD)) :
    ∀ (d i n : Nat) (aC : Nat → Int32), i + d = g.length → d < n → (∀ j, j < i → aC j = nI (g.getD j 0)) → wX_exchangeWays_2 post fR fS fL fC (nI g.length) fE fW fF fA n (nI i) aK aF aI aL aR aW aT aB aH aN aC aG aO aM aY aP aQ aD := by
  intro d
  induction d with
  | zero =>
    intro i n aC hi hn hc
    obtain ⟨m, rfl⟩ : ∃ m, n = m + 1 := ⟨n - 1, by omega⟩
    exact br_t (nI_le (by omega) (by omega)) (K aC (fun j hj => hc j (by omega)))
  | succ d ih =>
    intro i n aC hi hn hc
    obtain ⟨m, rfl⟩ : ∃ m, n = m + 1 := ⟨n - 1, by omega⟩
    have hin : vp_in (nI i) 80 := vp_in_nI (by omega) (by decide)
    have e : (nI i).toNatClampNeg = i := nI_clamp (by omega)
    have h8i := h8 _ (rc_gm g i (by omega))
    refine br_f (nI_ge (by omega) (by omega)) ⟨hin, hin, nm_e (nm_r (nI_1 i) ?_)⟩
    rw [e, hg i (by omega), rc_by' (by omega)]
    refine ih (i + 1) m _ (by omega) (by omega) ?_
    intro j hj
    rcases Nat.lt_or_ge j i with z | z
    · rw [pk_un (by omega)]; exact hc j z
    · have : j = i := by omega
      rw [this]; exact pk_us
theorem rx_p42 {post : SX → Prop} {g : List Nat} (hg : rc_A aG g) (h8 : rc_L8 g) (hl : g.length ≤ 80) (K : ∀ (aC' : Nat → Int32), rc_A aC' g → post (fR, fS, fL, nI g.length, nI g.length, fE, fW, fF, fA, aK, aF, aI, aL, aR, aW, aT, aB, aH, aN, aC', aG, aO, aM, aY, aP, aQ, aD)) :
    wX_passRule_42 post fR fS fL fC (nI g.length) fE fW fF fA aK aF aI aL aR aW aT aB aH aN aC aG aO aM aY aP aQ aD := by
  unfold wX_passRule_42 wpX_exchangeWays
  exact ⟨g.length + 1, rx_ex2 (post := fun u => post u) hg h8 hl K g.length 0 _ aC (by omega) (by omega) (fun j hj => absurd hj (Nat.not_lt_zero j))⟩
theorem rc_ot1 (ρ : rc_R) (b h c a : Nat) : rc_ot ρ (b, h, c) [a] = (rc_e ρ b h a).take (12 - c) := by
  show (rc_e ρ b h a ++ []).take (12 - c) = _
  rw [List.append_nil]
theorem rc_ns1 (ρ : rc_R) (b h c a : Nat) : rc_ns ρ (b, h, c) [a] = (rc_nb ρ b h a, rc_nh ρ h a, c + ((rc_e ρ b h a).take (12 - c)).length) := by
  show (rc_nb ρ b h a, rc_nh ρ h a, c + (rc_ot ρ (b, h, c) [a]).length) = _
  rw [rc_ot1]
theorem rc_in_cons (last : Bool) (a : Nat) (as : List Nat) : rc_in last (a :: as) = [a] ++ rc_in last as := rc_in_app last [a] as
theorem rc_ot_len (ρ : rc_R) (q : rc_Q) (as : List Nat) : (rc_ot ρ q as).length ≤ 12 - q.2.2 := by
  unfold rc_ot
  rw [List.length_take]; omega
theorem rc_L8_app {u v : List Nat} (hu : rc_L8 u) (hv : rc_L8 v) : rc_L8 (u ++ v) := fun x hx => by
  rcases List.mem_append.mp hx with z | z
  · exact hu x z
  · exact hv x z
theorem rx_pass7 {post : SX → Prop} {s r : Nat} {ρ : rc_R} {last : Bool} (hs : s < 5) (hr : r < 5) (hT : aT s = nI r) (hρ : rc_RA aK aF aI aL aR r ρ) :
    ∀ (as : List Nat) (i n : Nat) (q : rc_Q) (g : List Nat) (aB : Nat → Int32) (aH : Nat → Int32) (aN : Nat → Int32) (aG : Nat → Int32), as.length < n → i + as.length ≤ 80 → rc_L8 as → (∀ j, j < as.length → aC (i + j) = nI (as.getD j 0)) → rc_SA aB aH aN s q → rc_bq q → rc_A aG g → rc_L8 g → g.length ≤ q.2.2 →
    (∀ (aB' : Nat → Int32) (aH' : Nat → Int32) (aN' : Nat → Int32) (aC' : Nat → Int32) (aG' : Nat → Int32), rc_A aC' (g ++ rc_ot ρ q (rc_in last as)) → rc_SA aB' aH' aN' s (rc_ns ρ q (rc_in last as)) → rc_FR s aB aH aN aB' aH' aN' → post (fR, fS, fL, nI (g ++ rc_ot ρ q (rc_in last as)).length, nI (g ++ rc_ot ρ q (rc_in last as)).length, fE, fW, fF, fA, aK, aF, aI, aL, aR, aW, aT, aB', aH', aN', aC', aG', aO, aM, aY, aP, aQ, aD)) →
    wX_passRule_7 post (nI s) (rc_b2 last) n (nI i) fR fS fL (nI (i + as.length)) (nI g.length) fE fW fF fA aK aF aI aL aR aW aT aB aH aN aC aG aO aM aY aP aQ aD := by
  have hy : ρ.2.2.1 ≤ 3 := hρ.2.2.2.2.2.2.2.1
  intro as
  induction as with
  | nil =>
    intro i n q g aB aH aN aG hn hi h8 hC hS hq hg hg8 hgc K
    obtain ⟨m, rfl⟩ : ∃ m, n = m + 1 := ⟨n - 1, by omega⟩
    have hle : nI (i + ([] : List Nat).length) ≤ nI i := nI_le (Nat.le_refl i) (by have : i + 0 ≤ 80 := hi; omega)
    have hc16 := hq.2.2
    cases last
    · have e1 : rc_in false [] = [] := rfl
      rw [e1, rc_ot_nil, rc_ns_nil, List.append_nil] at K
      refine br_t hle (br_t rfl ?_)
      exact rx_p42 hg hg8 (by omega) fun aC' k => K aB aH aN aC' aG k hS (rc_FR_r s aB aH aN)
    · have e1 : rc_in true [] = [4] := rfl
      obtain ⟨b, h, c⟩ := q
      replace hgc : g.length ≤ c := hgc
      replace hc16 : c < 16 := hc16
      have h8o := rc_ot_lt ρ hy hq (as := [4]) (fun x hx => by rw [List.mem_singleton] at hx; omega)
      have hlo := rc_ot_len ρ (b, h, c) [4]
      replace hlo : (rc_ot ρ (b, h, c) [4]).length ≤ 12 - c := hlo
      rw [rc_ot1] at h8o hlo
      rw [e1, rc_ot1, rc_ns1] at K
      refine br_t hle (br_f (by decide) ?_)
      refine rx_meet (a := 4) hs hr hT hρ hS hq (by decide) hg hgc ?_
      intro aB' aH' aN' aG' k1 k2 k3
      exact rx_p42 k1 (rc_L8_app hg8 h8o) (by rw [List.length_append]; omega) fun aC' k => K aB' aH' aN' aC' aG' k k2 k3
  | cons a as ih =>
    intro i n q g aB aH aN aG hn hi h8 hC hS hq hg hg8 hgc K
    obtain ⟨m, rfl⟩ : ∃ m, n = m + 1 := ⟨n - 1, by omega⟩
    rw [List.length_cons] at hn hi
    have ha : a < 8 := h8 a List.mem_cons_self
    have el : i + (a :: as).length = i + 1 + as.length := by rw [List.length_cons]; omega
    have e : (nI i).toNatClampNeg = i := nI_clamp (by omega)
    have hC0 : aC i = nI a := hC 0 (by rw [List.length_cons]; omega)
    obtain ⟨b, h, c⟩ := q
    replace hgc : g.length ≤ c := hgc
    have hlo := rc_ot_len ρ (b, h, c) [a]
    have h8o := rc_ot_lt ρ hy hq (as := [a]) (fun x hx => by rw [List.mem_singleton] at hx; omega)
    have hq' := rc_ns_lt ρ hq (as := [a]) (fun x hx => by rw [List.mem_singleton] at hx; omega)
    rw [rc_in_cons, rc_ot_app, rc_ns_app, ← List.append_assoc] at K
    rw [el]
    refine br_f (nI_ge (by omega) (by omega)) ⟨vp_in_nI (by omega) (by decide), ?_⟩
    rw [e, hC0]
    refine rx_meet hs hr hT hρ hS hq ha hg hgc ?_
    rw [← rc_ns1, ← rc_ot1]
    intro aB' aH' aN' aG' k1 k2 k3
    refine nm_r (nI_1 i) ?_
    refine ih (i + 1) m (rc_ns ρ (b, h, c) [a]) (g ++ rc_ot ρ (b, h, c) [a]) aB' aH' aN' aG' (by omega) (by omega) (fun x hx => h8 x (List.mem_cons_of_mem _ hx)) ?_ k2 hq' k1 (rc_L8_app hg8 h8o) ?_ ?_
    · intro j hj
      have := hC (j + 1) (by rw [List.length_cons]; omega)
      rw [show i + 1 + j = i + (j + 1) by omega]
      exact this
    · show (g ++ rc_ot ρ (b, h, c) [a]).length ≤ c + (rc_ot ρ (b, h, c) [a]).length
      rw [List.length_append]; omega
    · intro aB2 aH2 aN2 aC2 aG2 m1 m2 m3
      exact K aB2 aH2 aN2 aC2 aG2 m1 m2 (rc_FR_t k3 m3)
theorem rx_pass {post : SX → Prop} {s r : Nat} {ρ : rc_R} {last : Bool} {as : List Nat} {q : rc_Q} (hs : s < 5) (hr : r < 5) (hT : aT s = nI r) (hρ : rc_RA aK aF aI aL aR r ρ) (hl : as.length ≤ 80) (h8 : rc_L8 as) (hC : rc_A aC as) (hS : rc_SA aB aH aN s q) (hq : rc_bq q)
    (K : ∀ (aB' : Nat → Int32) (aH' : Nat → Int32) (aN' : Nat → Int32) (aC' : Nat → Int32) (aG' : Nat → Int32), rc_A aC' (rc_ot ρ q (rc_in last as)) → rc_SA aB' aH' aN' s (rc_ns ρ q (rc_in last as)) → rc_FR s aB aH aN aB' aH' aN' → post (fR, fS, fL, nI (rc_ot ρ q (rc_in last as)).length, nI (rc_ot ρ q (rc_in last as)).length, fE, fW, fF, fA, aK, aF, aI, aL, aR, aW, aT, aB', aH', aN', aC', aG', aO, aM, aY, aP, aQ, aD)) :
    wpX_passRule post (fR, fS, fL, nI as.length, fG, fE, fW, fF, fA, aK, aF, aI, aL, aR, aW, aT, aB, aH, aN, aC, aG, aO, aM, aY, aP, aQ, aD) (nI s) (rc_b2 last) := by
  unfold wpX_passRule
  have h := rx_pass7 (post := post) (last := last) (aC := aC) (fR := fR) (fS := fS) (fL := fL) (fE := fE) (fW := fW) (fF := fF) (fA := fA) (aW := aW) (aO := aO) (aM := aM) (aY := aY) (aP := aP) (aQ := aQ) (aD := aD) hs hr hT hρ as 0 (as.length + 1) q [] aB aH aN aG (by omega) (by omega) h8 (fun j hj => by rw [Nat.zero_add]; exact hC j hj) hS hq (rc_A_nil aG) (fun x hx => absurd hx List.not_mem_nil) (Nat.zero_le _) K
  rw [Nat.zero_add] at h
  exact ⟨as.length + 1, h⟩
def rc_OA (aO aO' : Nat → Int32) (res : Nat) (O : List Nat) : Prop := (∀ j, j < res → aO' j = aO j) ∧ (∀ j, j < O.length → res + j < 12 → aO' (res + j) = nI (O.getD j 0))
theorem rc_b2_fit (b : Bool) : fits .boolean (.int (rc_b2 b)) = true := by cases b <;> rfl
theorem rx_feed56 {post : SX → Prop} {W : List Nat} (hW : rc_A aW W) (hWl : W.length ≤ 12) (hW8 : rc_L8 W) :
    ∀ (O : List Nat) (i n : Nat) (z : Nat × Bool) (aO : Nat → Int32), O.length < n → i + O.length ≤ 80 → rc_L8 O → (∀ j, j < O.length → aC (i + j) = nI (O.getD j 0)) → z.1 < 16 →
    (∀ (aO' : Nat → Int32), rc_OA aO aO' z.1 O → post (fR, nI W.length, fL, nI (i + O.length), fG, nI (rc_ff W z O).1, rc_b2 (rc_ff W z O).2, fF, fA, aK, aF, aI, aL, aR, aW, aT, aB, aH, aN, aC, aG, aO', aM, aY, aP, aQ, aD)) →
    wX_feed_56 post fR (nI W.length) fL (nI (i + O.length)) fG fF fA n (nI i) (nI z.1) (rc_b2 z.2) aK aF aI aL aR aW aT aB aH aN aC aG aO aM aY aP aQ aD := by
  intro O
  induction O with
  | nil =>
    intro i n z aO hn hi h8 hC hz K
    obtain ⟨m, rfl⟩ : ∃ m, n = m + 1 := ⟨n - 1, by omega⟩
    exact br_t (nI_le (Nat.le_refl i) (by have : i + 0 ≤ 80 := hi; omega)) (K aO ⟨fun _ _ => rfl, fun j hj => absurd hj (Nat.not_lt_zero j)⟩)
  | cons a O ih =>
    intro i n z aO hn hi h8 hC hz K
    obtain ⟨m, rfl⟩ : ∃ m, n = m + 1 := ⟨n - 1, by omega⟩
    rw [List.length_cons] at hn hi
    have ha : a < 8 := h8 a List.mem_cons_self
    have el : i + (a :: O).length = i + 1 + O.length := by rw [List.length_cons]; omega
    have e : (nI i).toNatClampNeg = i := nI_clamp (by omega)
    have ez : (nI z.1).toNatClampNeg = z.1 := nI_clamp (by omega)
    have hC0 : aC i = nI a := hC 0 (by rw [List.length_cons]; omega)
    have hC1 : ∀ j, j < O.length → aC (i + 1 + j) = nI (O.getD j 0) := by
      intro j hj
      have := hC (j + 1) (by rw [List.length_cons]; omega)
      rw [show i + 1 + j = i + (j + 1) by omega]
      exact this
    have h8' : rc_L8 O := fun x hx => h8 x (List.mem_cons_of_mem _ hx)
    have eff : rc_ff W z (a :: O) = rc_ff W (rc_fs W z a) O := rfl
    rw [el, eff] at K
    rw [el]
    refine br_f (nI_ge (by omega) (by omega)) ?_
    by_cases h12 : 12 ≤ z.1
    · have efs : rc_fs W z a = z := by unfold rc_fs; rw [if_neg (by omega)]
      rw [efs] at K
      refine br_t (nI_le (a := 12) h12 (by omega)) (nm_r (nI_1 i) ?_)
      refine ih (i + 1) m z aO (by omega) (by omega) h8' hC1 hz ?_
      intro aO' k
      exact K aO' ⟨k.1, fun j _ hj => absurd hj (by omega)⟩
    · have efs : rc_fs W z a = (z.1 + 1, z.2 && (decide (z.1 < W.length) && decide (W.getD z.1 0 = a))) := by unfold rc_fs; rw [if_pos (by omega)]
      rw [efs] at K
      refine br_f (nI_ge (b := 12) (by omega) (by decide)) ⟨vp_in_nI (by omega) (by decide), vp_in_nI (by omega) (by decide), nm_e ?_⟩
      rw [ez, e, hC0, rc_by' (show a < 128 by omega)]
      have key : ∀ b : Bool, b = (z.2 && (decide (z.1 < W.length) && decide (W.getD z.1 0 = a))) → wX_feed_130 post (wX_feed_56 post fR (nI W.length) fL (nI (i + 1 + O.length)) fG fF fA m) (nI i) (rc_b2 b) fR (nI W.length) fL (nI (i + 1 + O.length)) fG (nI z.1) (rc_b2 z.2) fF fA aK aF aI aL aR aW aT aB aH aN aC aG (upd aO z.1 (nI a)) aM aY aP aQ aD := by
        intro b hb
        unfold wX_feed_130
        refine ⟨rc_b2_n b, rc_b2_fit b, nm_r (nI_1 z.1) (nm_r (nI_1 i) ?_)⟩
        rw [← hb] at K
        refine ih (i + 1) m (z.1 + 1, b) (upd aO z.1 (nI a)) (by omega) (by omega) h8' hC1 (by show z.1 + 1 < 16; omega) ?_
        intro aO' k
        refine K aO' ⟨fun j hj => ?_, fun j hj hj2 => ?_⟩
        · rw [k.1 j (by show j < z.1 + 1; omega), pk_un (by omega)]
        · cases j with
          | zero =>
            rw [k.1 (z.1 + 0) (by show z.1 + 0 < z.1 + 1; omega)]
            exact pk_us
          | succ j =>
            have := k.2 j (by rw [List.length_cons] at hj; omega) (by show z.1 + 1 + j < 12; omega)
            rw [show z.1 + (j + 1) = z.1 + 1 + j by omega]
            exact this
      obtain ⟨zn, zb⟩ := z
      replace h12 : ¬ 12 ≤ zn := h12
      cases zb
      · exact br_t rfl (key false rfl)
      · refine br_f (show ¬ rc_b2 true = 0 by decide) ?_
        by_cases hw : zn < W.length
        · have ew : aW zn = nI (W.getD zn 0) := hW zn hw
          have w8 := hW8 _ (rc_gm W zn hw)
          refine br_f (nI_ge hw (by omega)) ⟨vp_in_nI (by omega) (by decide), vp_in_nI (by omega) (by decide), ?_⟩
          rw [ew]
          by_cases hwa : W.getD zn 0 = a
          · exact br_t (by rw [hwa]) (key true (by show true = (true && (decide (zn < W.length) && decide (W.getD zn 0 = a))); rw [decide_eq_true hw, decide_eq_true hwa]; rfl))
          · exact br_f (fun y => hwa (rc_nI8 (by omega) (by omega) y)) (key false (by show false = (true && (decide (zn < W.length) && decide (W.getD zn 0 = a))); rw [decide_eq_true hw, decide_eq_false hwa]; rfl))
        · exact br_t (nI_le (by omega) (by omega)) (key false (by show false = (true && (decide (zn < W.length) && decide (W.getD zn 0 = a))); rw [decide_eq_false hw]; rfl))
theorem rx_feed25 {post : SX → Prop} {k : Nat} {ρ : Nat → rc_R} {q : Nat → rc_Q} {last : Bool} {as : List Nat} {x1 : Int32} (hx : (last = true ∧ x1 = 4) ∨ (last = false ∧ ¬ x1 = 4)) (hk : k ≤ 5) (hLA : rc_LA k ρ aK aF aI aL aR aT) (hq : rc_bd k q) (h8 : rc_L8 as) (hl : as.length ≤ 12)
    (K : ∀ (fG : Int32) (aB : Nat → Int32) (aH : Nat → Int32) (aN : Nat → Int32) (aC : Nat → Int32) (aG : Nat → Int32), rc_DA k (rc_nq ρ q last as) aB aH aN → rc_A aC (rc_ca ρ q last as k) → ∃ n56, wX_feed_56 post fR fS (nI k) (nI (rc_ca ρ q last as k).length) fG fF fA n56 0 fE fW aK aF aI aL aR aW aT aB aH aN aC aG aO aM aY aP aQ aD) :
    ∀ (d s n : Nat) (fG : Int32) (aB : Nat → Int32) (aH : Nat → Int32) (aN : Nat → Int32) (aC : Nat → Int32) (aG : Nat → Int32), s + d = k → d < n → (∀ j, j < s → rc_SA aB aH aN j (rc_nq ρ q last as j)) → (∀ j, s ≤ j → j < k → rc_SA aB aH aN j (q j)) → rc_A aC (rc_ca ρ q last as s) → wX_feed_25 post x1 n (nI s) fR fS (nI k) (nI (rc_ca ρ q last as s).length) fG fE fW fF fA aK aF aI aL aR aW aT aB aH aN aC aG aO aM aY aP aQ aD := by
  intro d
  induction d with
  | zero =>
    intro s n fG aB aH aN aC aG hs hn h1 h2 hC
    obtain ⟨m, rfl⟩ : ∃ m, n = m + 1 := ⟨n - 1, by omega⟩
    have e : s = k := hs
    subst e
    exact br_t (nI_le (Nat.le_refl s) (by omega)) (K fG aB aH aN aC aG h1 hC)
  | succ d ih =>
    intro s n fG aB aH aN aC aG hs hn h1 h2 hC
    obtain ⟨m, rfl⟩ : ∃ m, n = m + 1 := ⟨n - 1, by omega⟩
    refine br_f (nI_ge (by omega) (by omega)) ?_
    have key : wX_feed_45 post (wX_feed_25 post x1 m) x1 (nI s) (rc_b2 last) (nI s) fR fS (nI k) (nI (rc_ca ρ q last as s).length) fG fE fW fF fA aK aF aI aL aR aW aT aB aH aN aC aG aO aM aY aP aQ aD := by
      unfold wX_feed_45
      obtain ⟨r, hr, hT, hρ⟩ := hLA s (by omega)
      have l12 := rc_ca_len ρ q last as hl s
      have c8 := rc_ca_lt ρ (rc_LA_ok hLA) hq last h8 s (by omega)
      refine rx_pass (by omega) hr hT hρ (by omega) c8 hC (h2 s (Nat.le_refl s) (by omega)) (hq s (by omega)) ?_
      intro aB' aH' aN' aC' aG' k1 k2 k3
      refine nm_r (nI_1 s) ?_
      refine ih (s + 1) m _ aB' aH' aN' aC' aG' (by omega) (by omega) ?_ ?_ k1
      · intro j hj
        by_cases hjs : j = s
        · rw [hjs]; exact k2
        · have a := h1 j (by omega)
          have b := k3 j hjs
          exact ⟨b.1.trans a.1, b.2.1.trans a.2.1, b.2.2.trans a.2.2⟩
      · intro j hj hjk
        have a := h2 j (by omega) hjk
        have b := k3 j (by omega)
        exact ⟨b.1.trans a.1, b.2.1.trans a.2.1, b.2.2.trans a.2.2⟩
    rcases hx with ⟨hl', hx'⟩ | ⟨hl', hx'⟩
    · rw [hl'] at key ⊢
      exact br_t hx' key
    · rw [hl'] at key ⊢
      exact br_f hx' key
/-- one symbol goes in: a letter (last = false, as = [a]) or the edge (last = true, as = []) -/
theorem rx_feed0 {post : SX → Prop} {k res : Nat} {wa last : Bool} {ρ : Nat → rc_R} {q : Nat → rc_Q} {as W : List Nat} {x1 : Int32} (hx : (last = true ∧ x1 = 4) ∨ (last = false ∧ ¬ x1 = 4)) (hk : k ≤ 5) (hLA : rc_LA k ρ aK aF aI aL aR aT) (hDA : rc_DA k q aB aH aN) (hq : rc_bd k q) (h8 : rc_L8 as) (hl : as.length ≤ 12) (hC : rc_A aC as) (hW : rc_A aW W) (hWl : W.length ≤ 12) (hW8 : rc_L8 W) (hr : res < 16)
    (K : ∀ (fC' : Int32) (fG' : Int32) (aB' : Nat → Int32) (aH' : Nat → Int32) (aN' : Nat → Int32) (aC' : Nat → Int32) (aG' : Nat → Int32) (aO' : Nat → Int32), rc_DA k (rc_nq ρ q last as) aB' aH' aN' → rc_OA aO aO' res (rc_ca ρ q last as k) → post (fR, nI W.length, nI k, fC', fG', nI (rc_ff W (res, wa) (rc_ca ρ q last as k)).1, rc_b2 (rc_ff W (res, wa) (rc_ca ρ q last as k)).2, fF, fA, aK, aF, aI, aL, aR, aW, aT, aB', aH', aN', aC', aG', aO', aM, aY, aP, aQ, aD)) :
    ∃ n25, wX_feed_25 post x1 n25 0 fR (nI W.length) (nI k) (nI as.length) fG (nI res) (rc_b2 wa) fF fA aK aF aI aL aR aW aT aB aH aN aC aG aO aM aY aP aQ aD := by
  refine ⟨k + 1, ?_⟩
  refine rx_feed25 hx hk hLA hq h8 hl ?_ k 0 (k + 1) fG aB aH aN aC aG (by omega) (by omega) (fun j hj => absurd hj (Nat.not_lt_zero j)) (fun j _ hj => hDA j hj) hC
  intro fG aB aH aN aC aG k1 k2
  have l12 := rc_ca_len ρ q last as hl k
  have c8 := rc_ca_lt ρ (rc_LA_ok hLA) hq last h8 k (Nat.le_refl k)
  refine ⟨(rc_ca ρ q last as k).length + 1, ?_⟩
  have h := rx_feed56 (post := post) (fR := fR) (fL := nI k) (fG := fG) (fF := fF) (fA := fA) (aK := aK) (aF := aF) (aI := aI) (aL := aL) (aR := aR) (aT := aT) (aB := aB) (aH := aH) (aN := aN) (aC := aC) (aG := aG) (aM := aM) (aY := aY) (aP := aP) (aQ := aQ) (aD := aD) hW hWl hW8 (rc_ca ρ q last as k) 0 ((rc_ca ρ q last as k).length + 1) (res, wa) aO (by omega) (by omega) c8 (fun j hj => by rw [Nat.zero_add]; exact k2 j hj) hr (fun aO' m => K _ fG aB aH aN aC aG aO' k1 m)
  rw [Nat.zero_add] at h
  exact h
theorem rx_feedL {post : SX → Prop} {k res a : Nat} {wa : Bool} {ρ : Nat → rc_R} {q : Nat → rc_Q} {W : List Nat} (ha : a < 8) (ha4 : ¬ a = 4) (hk : k ≤ 5) (hLA : rc_LA k ρ aK aF aI aL aR aT) (hDA : rc_DA k q aB aH aN) (hq : rc_bd k q) (hW : rc_A aW W) (hWl : W.length ≤ 12) (hW8 : rc_L8 W) (hr : res < 16)
    (K : ∀ (fC' : Int32) (fG' : Int32) (aB' : Nat → Int32) (aH' : Nat → Int32) (aN' : Nat → Int32) (aC' : Nat → Int32) (aG' : Nat → Int32) (aO' : Nat → Int32), rc_DA k (rc_nq ρ q false [a]) aB' aH' aN' → rc_OA aO aO' res (rc_ca ρ q false [a] k) → post (fR, nI W.length, nI k, fC', fG', nI (rc_ff W (res, wa) (rc_ca ρ q false [a] k)).1, rc_b2 (rc_ff W (res, wa) (rc_ca ρ q false [a] k)).2, fF, fA, aK, aF, aI, aL, aR, aW, aT, aB', aH', aN', aC', aG', aO', aM, aY, aP, aQ, aD)) :
    wpX_feed post (fR, nI W.length, nI k, fC, fG, nI res, rc_b2 wa, fF, fA, aK, aF, aI, aL, aR, aW, aT, aB, aH, aN, aC, aG, aO, aM, aY, aP, aQ, aD) (nI a) := by
  unfold wpX_feed
  have h4 : ¬ nI a = 4 := fun z => ha4 (rc_nI8 (by omega) (by decide) z)
  refine br_f h4 (nm_e ?_)
  rw [rc_by (show a < 128 by omega)]
  refine rx_feed0 (as := [a]) (last := false) (Or.inr ⟨rfl, h4⟩) hk hLA hDA hq (fun x hx => by rw [List.mem_singleton] at hx; omega) (by show 1 ≤ 12; omega) ?_ hW hWl hW8 hr K
  intro i hi
  have : i = 0 := by simp at hi; omega
  rw [this]; exact pk_us
theorem rx_feedE {post : SX → Prop} {k res : Nat} {wa : Bool} {ρ : Nat → rc_R} {q : Nat → rc_Q} {W : List Nat} (hk : k ≤ 5) (hLA : rc_LA k ρ aK aF aI aL aR aT) (hDA : rc_DA k q aB aH aN) (hq : rc_bd k q) (hW : rc_A aW W) (hWl : W.length ≤ 12) (hW8 : rc_L8 W) (hr : res < 16)
    (K : ∀ (fC' : Int32) (fG' : Int32) (aB' : Nat → Int32) (aH' : Nat → Int32) (aN' : Nat → Int32) (aC' : Nat → Int32) (aG' : Nat → Int32) (aO' : Nat → Int32), rc_DA k (rc_nq ρ q true []) aB' aH' aN' → rc_OA aO aO' res (rc_ca ρ q true [] k) → post (fR, nI W.length, nI k, fC', fG', nI (rc_ff W (res, wa) (rc_ca ρ q true [] k)).1, rc_b2 (rc_ff W (res, wa) (rc_ca ρ q true [] k)).2, fF, fA, aK, aF, aI, aL, aR, aW, aT, aB', aH', aN', aC', aG', aO', aM, aY, aP, aQ, aD)) :
    wpX_feed post (fR, nI W.length, nI k, fC, fG, nI res, rc_b2 wa, fF, fA, aK, aF, aI, aL, aR, aW, aT, aB, aH, aN, aC, aG, aO, aM, aY, aP, aQ, aD) 4 := by
  unfold wpX_feed
  refine br_t rfl ?_
  exact rx_feed0 (as := []) (last := true) (Or.inl ⟨rfl, rfl⟩) hk hLA hDA hq (fun x hx => absurd hx List.not_mem_nil) (by show 0 ≤ 12; omega) (rc_A_nil aC) hW hWl hW8 hr K
end
end
section
theorem rc_OA_A {aO aO' : Nat → Int32} {o O : List Nat} (h : rc_A aO o) (k : rc_OA aO aO' o.length O) (hl : (o ++ O).length ≤ 12) : rc_A aO' (o ++ O) := by
  rw [List.length_append] at hl
  exact rc_A_app (fun i hi => (k.1 i hi).trans (h i hi)) (fun j hj => k.2 j hj (by omega))
theorem rc_bd0 (k : Nat) : rc_bd k rc_q0 := fun _ _ => show 4 < 8 ∧ 5 < 8 ∧ 0 < 16 from by decide
theorem rc_3_8 {w : List Nat} (h : ∀ a ∈ w, a ≤ 3) : rc_L8 w := fun a ha => by have := h a ha; omega
theorem rc_dig0 : ∀ i, i < 5 → (((2 * nI i) &&& 31 : Int32).toBitVec.smod 32).toNat = 2 * i := by decide +kernel
theorem rc_dig {w i : Nat} (hw : w < 2 ^ 31) (hi : i < 5) : ((nI w >>> ((2 * nI i) &&& 31)) &&& 3) = nI (w / 4 ^ i % 4) := by
  rw [pk_shrN hw _ (2 * i) (rc_dig0 i hi), pk_andN (Nat.lt_of_le_of_lt (Nat.div_le_self _ _) (by omega)) 2 (by decide), Nat.pow_mul]
section
variable {fR : Int32} {fS : Int32} {fL : Int32} {fC : Int32} {fG : Int32} {fE : Int32} {fW : Int32} {fF : Int32} {fA : Int32} {aK : Nat → Int32} {aF : Nat → Int32} {aI : Nat → Int32} {aL : Nat → Int32} {aR : Nat → Int32} {aW : Nat → Int32} {aT : Nat → Int32} {aB : Nat → Int32} {aH : Nat → Int32} {aN : Nat → Int32} {aC : Nat → Int32} {aG : Nat → Int32} {aO : Nat → Int32} {aM : Nat → Int64} {aY : Nat → Int32} {aP : Nat → Int64} {aQ : Nat → Int32} {aD : Nat → Int32}
theorem rx_use7 {post : SX → Prop} {k : Nat} (hk : k ≤ 5) (K : ∀ (aT' : Nat → Int32), (∀ s, s < k → aT' s = nI s) → post (fR, fS, nI k, fC, fG, fE, fW, fF, fA, aK, aF, aI, aL, aR, aW, aT', aB, aH, aN, aC, aG, aO, aM, aY, aP, aQ, aD)) :
    ∀ (d i n : Nat) (aT : Nat → Int32), i + d = k → d < n → (∀ s, s < i → aT s = nI s) → wX_useFirst_7 post (nI k) fR fS (nI k) fC fG fE fW fF fA n (nI i) aK aF aI aL aR aW aT aB aH aN aC aG aO aM aY aP aQ aD := by
  intro d
  induction d with
  | zero =>
    intro i n aT hi hn h
    obtain ⟨m, rfl⟩ : ∃ m, n = m + 1 := ⟨n - 1, by omega⟩
    exact br_t (nI_le (by omega) (by omega)) (K aT (fun s hs => h s (by omega)))
  | succ d ih =>
    intro i n aT hi hn h
    obtain ⟨m, rfl⟩ : ∃ m, n = m + 1 := ⟨n - 1, by omega⟩
    have e : (nI i).toNatClampNeg = i := nI_clamp (by omega)
    refine br_f (nI_ge (by omega) (by omega)) ⟨vp_in_nI (by omega) (by decide), nm_e (nm_r (nI_1 i) ?_)⟩
    rw [e, rc_by (by omega)]
    refine ih (i + 1) m _ (by omega) (by omega) ?_
    intro s hs
    by_cases hsi : s = i
    · rw [hsi]; exact pk_us
    · rw [pk_un hsi]; exact h s (by omega)
theorem rx_use {post : SX → Prop} {k : Nat} (hk : k ≤ 5) (K : ∀ (aT' : Nat → Int32), (∀ s, s < k → aT' s = nI s) → post (fR, fS, nI k, fC, fG, fE, fW, fF, fA, aK, aF, aI, aL, aR, aW, aT', aB, aH, aN, aC, aG, aO, aM, aY, aP, aQ, aD)) : wpX_useFirst post (fR, fS, fL, fC, fG, fE, fW, fF, fA, aK, aF, aI, aL, aR, aW, aT, aB, aH, aN, aC, aG, aO, aM, aY, aP, aQ, aD) (nI k) := by
  unfold wpX_useFirst
  exact ⟨k + 1, rx_use7 hk K k 0 _ aT (by omega) (by omega) (fun s hs => absurd hs (Nat.not_lt_zero s))⟩
theorem rx_begin2 {post : SX → Prop} (K : ∀ (aB' : Nat → Int32) (aH' : Nat → Int32) (aN' : Nat → Int32), (∀ s, s < 5 → rc_SA aB' aH' aN' s (4, 5, 0)) → post (fR, fS, fL, fC, fG, nI 0, rc_b2 true, fF, fA, aK, aF, aI, aL, aR, aW, aT, aB', aH', aN', aC, aG, aO, aM, aY, aP, aQ, aD)) :
    ∀ (d i n : Nat) (aB : Nat → Int32) (aH : Nat → Int32) (aN : Nat → Int32), i + d = 5 → d < n → (∀ s, s < i → rc_SA aB aH aN s (4, 5, 0)) → wX_begin_2 post fR fS fL fC fG fE fW fF fA n (nI i) aK aF aI aL aR aW aT aB aH aN aC aG aO aM aY aP aQ aD := by
  intro d
  induction d with
  | zero =>
    intro i n aB aH aN hi hn h
    obtain ⟨m, rfl⟩ : ∃ m, n = m + 1 := ⟨n - 1, by omega⟩
    exact br_t (nI_le (a := 5) (by omega) (by omega)) (K aB aH aN (fun s hs => h s (by omega)))
  | succ d ih =>
    intro i n aB aH aN hi hn h
    obtain ⟨m, rfl⟩ : ∃ m, n = m + 1 := ⟨n - 1, by omega⟩
    have e : (nI i).toNatClampNeg = i := nI_clamp (by omega)
    have hin : vp_in (nI i) 5 := vp_in_nI (by omega) (by decide)
    refine br_f (nI_ge (b := 5) (by omega) (by decide)) ⟨hin, nm_e ⟨hin, nm_e ⟨hin, nm_e (nm_r (nI_1 i) ?_)⟩⟩⟩
    rw [e, show (4 : Int32) = nI 4 from rfl, show (5 : Int32) = nI 5 from rfl, show (0 : Int32) = nI 0 from rfl, rc_by' (a := 4) (by omega), rc_by' (a := 5) (by omega), rc_by' (a := 0) (by omega)]
    refine ih (i + 1) m _ _ _ (by omega) (by omega) ?_
    intro s hs
    by_cases hsi : s = i
    · rw [hsi]; exact ⟨pk_us, pk_us, pk_us⟩
    · have := h s (by omega)
      exact ⟨(pk_un hsi).trans this.1, (pk_un hsi).trans this.2.1, (pk_un hsi).trans this.2.2⟩
theorem rx_begin {post : SX → Prop} (K : ∀ (aB' : Nat → Int32) (aH' : Nat → Int32) (aN' : Nat → Int32), (∀ s, s < 5 → rc_SA aB' aH' aN' s (4, 5, 0)) → post (fR, fS, fL, fC, fG, nI 0, rc_b2 true, fF, fA, aK, aF, aI, aL, aR, aW, aT, aB', aH', aN', aC, aG, aO, aM, aY, aP, aQ, aD)) : wpX_begin post (fR, fS, fL, fC, fG, fE, fW, fF, fA, aK, aF, aI, aL, aR, aW, aT, aB, aH, aN, aC, aG, aO, aM, aY, aP, aQ, aD) := by
  unfold wpX_begin
  exact ⟨6, rx_begin2 K 5 0 _ aB aH aN (by omega) (by omega) (fun s hs => absurd hs (Nat.not_lt_zero s))⟩
theorem rx_code4 {post : Int32 → Prop} : ∀ (v : List Nat) (i c n : Nat), v.length < n → i + v.length ≤ 12 → (∀ j, j < v.length → aO (i + j) = nI (v.getD j 0)) → post (nI (rc_cf c v)) → wX_codeOfResult_4 post fR fS fL fC fG (nI (i + v.length)) fW fF fA aK aF aI aL aR aW aT aB aH aN aC aG aO aM aY aP aQ aD n (nI c) (nI i) := by
  intro v
  induction v with
  | nil =>
    intro i c n hn hi hA K
    obtain ⟨m, rfl⟩ : ∃ m, n = m + 1 := ⟨n - 1, by omega⟩
    exact br_t (nI_le (Nat.le_refl i) (by have : i + 0 ≤ 12 := hi; omega)) K
  | cons a v ih =>
    intro i c n hn hi hA K
    obtain ⟨m, rfl⟩ : ∃ m, n = m + 1 := ⟨n - 1, by omega⟩
    rw [List.length_cons] at hn hi
    have el : i + (a :: v).length = i + 1 + v.length := by rw [List.length_cons]; omega
    have e : (nI i).toNatClampNeg = i := nI_clamp (by omega)
    have h0 : aO i = nI a := hA 0 (by rw [List.length_cons]; omega)
    have ec : 4 * nI c + aO (nI i).toNatClampNeg = nI (4 * c + a) := by
      rw [e, h0, show (4 : Int32) = nI 4 from rfl, pk_mul, nI_add]
    rw [el]
    refine br_f (nI_ge (by omega) (by omega)) ⟨vp_in_nI (by omega) (by decide), nm_r ec (nm_r (nI_1 i) ?_)⟩
    refine ih (i + 1) (4 * c + a) m (by omega) (by omega) ?_ K
    intro j hj
    have := hA (j + 1) (by rw [List.length_cons]; omega)
    rw [show i + 1 + j = i + (j + 1) by omega]
    exact this
theorem rx_code {post : Int32 → Prop} {o : List Nat} (hl : o.length ≤ 12) (hA : rc_A aO o) (K : post (nI (rc_cd o))) : wpX_codeOfResult post (fR, fS, fL, fC, fG, nI o.length, fW, fF, fA, aK, aF, aI, aL, aR, aW, aT, aB, aH, aN, aC, aG, aO, aM, aY, aP, aQ, aD) := by
  unfold wpX_codeOfResult
  have h := rx_code4 (post := post) (fR := fR) (fS := fS) (fL := fL) (fC := fC) (fG := fG) (fW := fW) (fF := fF) (fA := fA) (aK := aK) (aF := aF) (aI := aI) (aL := aL) (aR := aR) (aW := aW) (aT := aT) (aB := aB) (aH := aH) (aN := aN) (aC := aC) (aG := aG) (aO := aO) (aM := aM) (aY := aY) (aP := aP) (aQ := aQ) (aD := aD) o 0 1 (o.length + 1) (by omega) (by omega) (fun j hj => by rw [Nat.zero_add]; exact hA j hj) K
  rw [Nat.zero_add] at h
  exact ⟨o.length + 1, h⟩
/-- the step of a run: one letter more -/
theorem rx_stepL {post : SX → Prop} {k a : Nat} {wa : Bool} {ρ : Nat → rc_R} {u W : List Nat} (ha : a ≤ 3) (hk : k ≤ 5) (hLA : rc_LA k ρ aK aF aI aL aR aT) (hDA : rc_DA k (rc_nq ρ rc_q0 false u) aB aH aN) (hO : rc_A aO (rc_ca ρ rc_q0 false u k)) (hu : ∀ a ∈ u, a ≤ 3) (hl : u.length < 12) (hW : rc_A aW W) (hWl : W.length ≤ 12) (hW8 : rc_L8 W)
    (K : ∀ (wa' : Bool) (fC' : Int32) (fG' : Int32) (aB' : Nat → Int32) (aH' : Nat → Int32) (aN' : Nat → Int32) (aC' : Nat → Int32) (aG' : Nat → Int32) (aO' : Nat → Int32), rc_DA k (rc_nq ρ rc_q0 false (u ++ [a])) aB' aH' aN' → rc_A aO' (rc_ca ρ rc_q0 false (u ++ [a]) k) → post (fR, nI W.length, nI k, fC', fG', nI (rc_ca ρ rc_q0 false (u ++ [a]) k).length, rc_b2 wa', fF, fA, aK, aF, aI, aL, aR, aW, aT, aB', aH', aN', aC', aG', aO', aM, aY, aP, aQ, aD)) :
    wpX_feed post (fR, nI W.length, nI k, fC, fG, nI (rc_ca ρ rc_q0 false u k).length, rc_b2 wa, fF, fA, aK, aF, aI, aL, aR, aW, aT, aB, aH, aN, aC, aG, aO, aM, aY, aP, aQ, aD) (nI a) := by
  have hρ := rc_LA_ok hLA
  have l1 := rc_ca_len ρ rc_q0 false u (by omega) k
  have l2 := rc_ca_len ρ rc_q0 false (u ++ [a]) (by rw [List.length_append]; show u.length + 1 ≤ 12; omega) k
  have e := rc_ca_app ρ rc_q0 false u [a] k
  refine rx_feedL (by omega) (by omega) hk hLA hDA (rc_nq_lt ρ hρ (rc_bd0 k) false (rc_3_8 hu)) hW hWl hW8 (by omega) ?_
  intro fC' fG' aB' aH' aN' aC' aG' aO' k1 k2
  rw [rc_ff_1 W _ _ (by rw [← List.length_append, ← e]; exact l2)]
  rw [← rc_nq_app] at k1
  have k3 := rc_OA_A hO k2 (by rw [← e]; exact l2)
  show post (fR, nI W.length, nI k, fC', fG', nI ((rc_ca ρ rc_q0 false u k).length + (rc_ca ρ (rc_nq ρ rc_q0 false u) false [a] k).length), rc_b2 (rc_ff W ((rc_ca ρ rc_q0 false u k).length, wa) (rc_ca ρ (rc_nq ρ rc_q0 false u) false [a] k)).2, fF, fA, aK, aF, aI, aL, aR, aW, aT, aB', aH', aN', aC', aG', aO', aM, aY, aP, aQ, aD)
  rw [← List.length_append]
  rw [← e] at k3 ⊢
  exact K _ fC' fG' aB' aH' aN' aC' aG' aO' k1 k3
theorem rx_stepE {post : SX → Prop} {k : Nat} {wa : Bool} {ρ : Nat → rc_R} {u W : List Nat} (hk : k ≤ 5) (hLA : rc_LA k ρ aK aF aI aL aR aT) (hDA : rc_DA k (rc_nq ρ rc_q0 false u) aB aH aN) (hO : rc_A aO (rc_ca ρ rc_q0 false u k)) (hu : ∀ a ∈ u, a ≤ 3) (hl : u.length ≤ 12) (hW : rc_A aW W) (hWl : W.length ≤ 12) (hW8 : rc_L8 W)
    (K : ∀ (fC' : Int32) (fG' : Int32) (fW' : Int32) (aB' : Nat → Int32) (aH' : Nat → Int32) (aN' : Nat → Int32) (aC' : Nat → Int32) (aG' : Nat → Int32) (aO' : Nat → Int32), rc_A aO' (rc_wa ρ u k) → post (fR, nI W.length, nI k, fC', fG', nI (rc_wa ρ u k).length, fW', fF, fA, aK, aF, aI, aL, aR, aW, aT, aB', aH', aN', aC', aG', aO', aM, aY, aP, aQ, aD)) :
    wpX_feed post (fR, nI W.length, nI k, fC, fG, nI (rc_ca ρ rc_q0 false u k).length, rc_b2 wa, fF, fA, aK, aF, aI, aL, aR, aW, aT, aB, aH, aN, aC, aG, aO, aM, aY, aP, aQ, aD) 4 := by
  have hρ := rc_LA_ok hLA
  have l1 := rc_ca_len ρ rc_q0 false u hl k
  have l2 := rc_ca_len ρ rc_q0 true u hl k
  have e : rc_ca ρ rc_q0 true u k = rc_ca ρ rc_q0 false u k ++ rc_ca ρ (rc_nq ρ rc_q0 false u) true [] k := by
    rw [← rc_ca_app, List.append_nil]
  refine rx_feedE hk hLA hDA (rc_nq_lt ρ hρ (rc_bd0 k) false (rc_3_8 hu)) hW hWl hW8 (by omega) ?_
  intro fC' fG' aB' aH' aN' aC' aG' aO' k1 k2
  rw [rc_ff_1 W _ _ (by rw [← List.length_append, ← e]; exact l2)]
  have k3 := rc_OA_A hO k2 (by rw [← e]; exact l2)
  show post (fR, nI W.length, nI k, fC', fG', nI ((rc_ca ρ rc_q0 false u k).length + (rc_ca ρ (rc_nq ρ rc_q0 false u) true [] k).length), rc_b2 (rc_ff W ((rc_ca ρ rc_q0 false u k).length, wa) (rc_ca ρ (rc_nq ρ rc_q0 false u) true [] k)).2, fF, fA, aK, aF, aI, aL, aR, aW, aT, aB', aH', aN', aC', aG', aO', aM, aY, aP, aQ, aD)
  rw [← List.length_append]
  rw [← e] at k3 ⊢
  rw [rc_ca_wa ρ hρ u hu k (Nat.le_refl k)] at k3 ⊢
  exact K fC' fG' _ aB' aH' aN' aC' aG' aO' k3
theorem rx_run11 {post : SX → Prop} {k : Nat} {ρ : Nat → rc_R} {W : List Nat} (hk : k ≤ 5) (hLA : rc_LA k ρ aK aF aI aL aR aT) (hW : rc_A aW W) (hWl : W.length ≤ 12) (hW3 : ∀ a ∈ W, a ≤ 3)
    (K : ∀ (fC' : Int32) (fG' : Int32) (fW' : Int32) (aB' : Nat → Int32) (aH' : Nat → Int32) (aN' : Nat → Int32) (aC' : Nat → Int32) (aG' : Nat → Int32) (aO' : Nat → Int32), rc_A aO' (rc_wa ρ W k) → post (fR, nI W.length, nI k, fC', fG', nI (rc_wa ρ W k).length, fW', fF, fA, aK, aF, aI, aL, aR, aW, aT, aB', aH', aN', aC', aG', aO', aM, aY, aP, aQ, aD)) :
    ∀ (v u : List Nat) (n : Nat) (wa : Bool) (fC : Int32) (fG : Int32) (aB : Nat → Int32) (aH : Nat → Int32) (aN : Nat → Int32) (aC : Nat → Int32) (aG : Nat → Int32) (aO : Nat → Int32), W = u ++ v → v.length < n → rc_DA k (rc_nq ρ rc_q0 false u) aB aH aN → rc_A aO (rc_ca ρ rc_q0 false u k) → wX_runWord_11 post n (nI u.length) fR (nI W.length) (nI k) fC fG (nI (rc_ca ρ rc_q0 false u k).length) (rc_b2 wa) fF fA aK aF aI aL aR aW aT aB aH aN aC aG aO aM aY aP aQ aD := by
  intro v
  induction v with
  | nil =>
    intro u n wa fC fG aB aH aN aC aG aO hv hn hDA hO
    obtain ⟨m, rfl⟩ : ∃ m, n = m + 1 := ⟨n - 1, by omega⟩
    rw [List.append_nil] at hv
    subst hv
    exact br_t (nI_le (Nat.le_refl _) (by omega)) (rx_stepE hk hLA hDA hO hW3 hWl hW hWl (rc_3_8 hW3) K)
  | cons a v ih =>
    intro u n wa fC fG aB aH aN aC aG aO hv hn hDA hO
    obtain ⟨m, rfl⟩ : ∃ m, n = m + 1 := ⟨n - 1, by omega⟩
    have hlen : W.length = u.length + (v.length + 1) := by rw [hv, List.length_append, List.length_cons]
    rw [List.length_cons] at hn
    have e : (nI u.length).toNatClampNeg = u.length := nI_clamp (by omega)
    have hm : ∀ x ∈ u ++ (a :: v), x ≤ 3 := by rw [← hv]; exact hW3
    have ha : a ≤ 3 := hm a (List.mem_append_right _ List.mem_cons_self)
    have hu : ∀ x ∈ u, x ≤ 3 := fun x hx => hm x (List.mem_append_left _ hx)
    have eg : W.getD u.length 0 = a := by
      have := rc_gr u (a :: v) 0
      rw [← hv, Nat.add_zero] at this
      exact this
    have ea : aW u.length = nI a := by rw [hW u.length (by omega), eg]
    refine br_f (nI_ge (by omega) (by omega)) ⟨vp_in_nI (by omega) (by decide), ?_⟩
    rw [e, ea]
    refine rx_stepL ha hk hLA hDA hO hu (by omega) hW hWl (rc_3_8 hW3) ?_
    intro wa' fC' fG' aB' aH' aN' aC' aG' aO' k1 k2
    have el : nI u.length + 1 = nI (u ++ [a]).length := by rw [nI_1, List.length_append]; rfl
    refine nm_r el ?_
    exact ih (u ++ [a]) m wa' fC' fG' aB' aH' aN' aC' aG' aO' (by rw [hv, List.append_assoc]; rfl) (by omega) k1 k2
theorem rx_word {post : SX → Prop} {k : Nat} {ρ : Nat → rc_R} {W : List Nat} (hk : k ≤ 5) (hRA : ∀ r, r < k → rc_RA aK aF aI aL aR r (ρ r)) (hW : rc_A aW W) (hWl : W.length ≤ 12) (hW3 : ∀ a ∈ W, a ≤ 3)
    (K : ∀ (fC' : Int32) (fG' : Int32) (fW' : Int32) (aT' : Nat → Int32) (aB' : Nat → Int32) (aH' : Nat → Int32) (aN' : Nat → Int32) (aC' : Nat → Int32) (aG' : Nat → Int32) (aO' : Nat → Int32), rc_A aO' (rc_wa ρ W k) → post (fR, nI W.length, nI k, fC', fG', nI (rc_wa ρ W k).length, fW', fF, fA, aK, aF, aI, aL, aR, aW, aT', aB', aH', aN', aC', aG', aO', aM, aY, aP, aQ, aD)) :
    wpX_runWord post (fR, nI W.length, fL, fC, fG, fE, fW, fF, fA, aK, aF, aI, aL, aR, aW, aT, aB, aH, aN, aC, aG, aO, aM, aY, aP, aQ, aD) (nI k) := by
  unfold wpX_runWord
  refine rx_use hk ?_
  intro aT' kT
  have hLA : rc_LA k ρ aK aF aI aL aR aT' := fun s hs => ⟨s, by omega, kT s hs, hRA s hs⟩
  refine rx_begin ?_
  intro aB' aH' aN' kB
  refine ⟨W.length + 1, ?_⟩
  have e0 : rc_nq ρ rc_q0 false [] = rc_q0 := rc_nq_nil ρ rc_q0
  have e1 : rc_ca ρ rc_q0 false [] k = [] := rc_ca_nil ρ rc_q0 k
  have h := rx_run11 (post := post) (fR := fR) (fF := fF) (fA := fA) (aM := aM) (aY := aY) (aP := aP) (aQ := aQ) (aD := aD) hk hLA hW hWl hW3 (fun fC' fG' fW' aB' aH' aN' aC' aG' aO' h => K fC' fG' fW' aT' aB' aH' aN' aC' aG' aO' h) W [] (W.length + 1) true fC fG aB' aH' aN' aC aG aO rfl (by omega) (by rw [e0]; exact fun s hs => kB s (by omega)) (by rw [e1]; exact rc_A_nil aO)
  rw [e1] at h
  exact h
theorem rx_num8 {post : Int32 → SX → Prop} {k N w : Nat} {ρ : Nat → rc_R} {W : List Nat} (hk : k ≤ 5) (hLA : rc_LA k ρ aK aF aI aL aR aT) (hW : rc_A aW W) (hWl : W.length ≤ 12) (hW3 : ∀ a ∈ W, a ≤ 3) (hN : N ≤ 5) (hw : w < 2 ^ 31)
    (K : ∀ (fC' : Int32) (fG' : Int32) (fE' : Int32) (fW' : Int32) (aB' : Nat → Int32) (aH' : Nat → Int32) (aN' : Nat → Int32) (aC' : Nat → Int32) (aG' : Nat → Int32) (aO' : Nat → Int32), post (nI (rc_cd (rc_wa ρ (rc_dg N w) k))) (fR, nI W.length, nI k, fC', fG', fE', fW', fF, fA, aK, aF, aI, aL, aR, aW, aT, aB', aH', aN', aC', aG', aO', aM, aY, aP, aQ, aD)) :
    ∀ (i : Nat) (u : List Nat) (n : Nat) (wa : Bool) (fC : Int32) (fG : Int32) (aB : Nat → Int32) (aH : Nat → Int32) (aN : Nat → Int32) (aC : Nat → Int32) (aG : Nat → Int32) (aO : Nat → Int32), rc_dg N w = u ++ rc_dg i w → i < n → rc_DA k (rc_nq ρ rc_q0 false u) aB aH aN → rc_A aO (rc_ca ρ rc_q0 false u k) → wX_runNumber_8 post (nI w) n (nI i - 1) fR (nI W.length) (nI k) fC fG (nI (rc_ca ρ rc_q0 false u k).length) (rc_b2 wa) fF fA aK aF aI aL aR aW aT aB aH aN aC aG aO aM aY aP aQ aD := by
  intro i
  have d3 := rc_dg_le N w
  have dl := rc_dg_len N w
  induction i with
  | zero =>
    intro u n wa fC fG aB aH aN aC aG aO hv hn hDA hO
    obtain ⟨m, rfl⟩ : ∃ m, n = m + 1 := ⟨n - 1, by omega⟩
    replace hv : rc_dg N w = u ++ [] := hv
    rw [List.append_nil] at hv
    rw [hv] at d3 dl K
    refine br_t (by decide) (rx_stepE hk hLA hDA hO d3 (by omega) hW hWl (rc_3_8 hW3) ?_)
    intro fC' fG' fW' aB' aH' aN' aC' aG' aO' k1
    refine rx_code (rc_wa_len ρ u (by omega) k) k1 ?_
    exact K _ _ _ _ _ _ _ _ _ _
  | succ i ih =>
    intro u n wa fC fG aB aH aN aC aG aO hv hn hDA hO
    obtain ⟨m, rfl⟩ : ∃ m, n = m + 1 := ⟨n - 1, by omega⟩
    replace hv : rc_dg N w = u ++ ((w / 4 ^ i % 4) :: rc_dg i w) := hv
    have hlen : N = u.length + (i + 1) := by
      have := congrArg List.length hv
      rw [List.length_append, List.length_cons, rc_dg_len, rc_dg_len] at this
      exact this
    have hm : ∀ x ∈ u ++ ((w / 4 ^ i % 4) :: rc_dg i w), x ≤ 3 := by rw [← hv]; exact d3
    have hu : ∀ x ∈ u, x ≤ 3 := fun x hx => hm x (List.mem_append_left _ hx)
    rw [nI_pred]
    refine br_f (nI_pos (by omega)) ?_
    rw [rc_dig hw (by omega)]
    refine rx_stepL (by omega) hk hLA hDA hO hu (by omega) hW hWl (rc_3_8 hW3) ?_
    intro wa' fC' fG' aB' aH' aN' aC' aG' aO' k1 k2
    refine nm_r (Int32.sub_eq_add_neg (nI i) 1).symm ?_
    exact ih (u ++ [w / 4 ^ i % 4]) m wa' fC' fG' aB' aH' aN' aC' aG' aO' (by rw [hv, List.append_assoc]; rfl) (by omega) k1 k2
theorem rx_num {post : Int32 → SX → Prop} {k N w : Nat} {ρ : Nat → rc_R} {W : List Nat} (hk : k ≤ 5) (hLA : rc_LA k ρ aK aF aI aL aR aT) (hW : rc_A aW W) (hWl : W.length ≤ 12) (hW3 : ∀ a ∈ W, a ≤ 3) (hN : N ≤ 5) (hw : w < 2 ^ 31)
    (K : ∀ (fC' : Int32) (fG' : Int32) (fE' : Int32) (fW' : Int32) (aB' : Nat → Int32) (aH' : Nat → Int32) (aN' : Nat → Int32) (aC' : Nat → Int32) (aG' : Nat → Int32) (aO' : Nat → Int32), post (nI (rc_cd (rc_wa ρ (rc_dg N w) k))) (fR, nI W.length, nI k, fC', fG', fE', fW', fF, fA, aK, aF, aI, aL, aR, aW, aT, aB', aH', aN', aC', aG', aO', aM, aY, aP, aQ, aD)) :
    wpX_runNumber post (fR, nI W.length, nI k, fC, fG, fE, fW, fF, fA, aK, aF, aI, aL, aR, aW, aT, aB, aH, aN, aC, aG, aO, aM, aY, aP, aQ, aD) (nI w) (nI N) := by
  unfold wpX_runNumber
  refine rx_begin ?_
  intro aB' aH' aN' kB
  refine nm_e ⟨N + 1, ?_⟩
  have e0 : rc_nq ρ rc_q0 false [] = rc_q0 := rc_nq_nil ρ rc_q0
  have e1 : rc_ca ρ rc_q0 false [] k = [] := rc_ca_nil ρ rc_q0 k
  have h := rx_num8 (post := post) (fR := fR) (fF := fF) (fA := fA) (aM := aM) (aY := aY) (aP := aP) (aQ := aQ) (aD := aD) hk hLA hW hWl hW3 hN hw K N [] (N + 1) true fC fG aB' aH' aN' aC aG aO rfl (by omega) (by rw [e0]; exact fun s hs => kB s (by omega)) (by rw [e1]; exact rc_A_nil aO)
  rw [e1] at h
  exact h
end
end
section
def rc_RY (bK bX bY bS : Nat → Int32) (r : Nat) (ρ : rc_R) : Prop := bK r = nI ρ.1 ∧ (ρ.1 < 2 → bX r = nI ρ.2.1) ∧ (ρ.1 ≠ 1 → bY r = nI ρ.2.2.1) ∧ bS r = nI (ρ.2.2.2.1 + 32 * ρ.2.2.2.2) ∧ rc_ok ρ
/-- what stands at a place of a word, for a letter that isn't inserted -/
def rc_p2 (ρ : rc_R) (b a c : Nat) : List Nat := if ρ.1 < 2 ∧ a = ρ.2.1 ∧ rc_fit ρ b c = true then (if ρ.1 = 0 then [ρ.2.2.1] else []) else [a]
def rc_p1 (ρ : rc_R) (b a : Nat) : List Nat := if ρ.1 = 2 ∧ rc_fit ρ b a = true then [ρ.2.2.1] else []
theorem rc_go_c (ρ : rc_R) (b a : Nat) (t : List Nat) : rc_go ρ b (a :: t) = rc_p1 ρ b a ++ (rc_p2 ρ b a (t.headD 4) ++ rc_go ρ a t) := rfl
theorem rc_go_n (ρ : rc_R) (b : Nat) : rc_go ρ b [] = rc_p1 ρ b 4 := rfl
section
variable {gC : Int32} {gL : Int32} {gS : Int32} {gM : Int32} {bK : Nat → Int32} {bX : Nat → Int32} {bY : Nat → Int32} {bS : Nat → Int32} {bW : Nat → Int32} {bR : Nat → Int32} {bM : Nat → Int32} {bD : Nat → Int32}
theorem ry_at {post : Int32 → Prop} {w : List Nat} {i : Nat} (hl : w.length ≤ 12) (hi : i < 1000) (hA : rc_A bR w) (K : post (nI ((w.drop i).headD 4))) : wpY_at post (gC, gL, nI w.length, gM, bK, bX, bY, bS, bW, bR, bM, bD) (nI i) := by
  unfold wpY_at
  have e : (nI i).toNatClampNeg = i := nI_clamp (by omega)
  refine br_f (nI_pos (by omega)) ?_
  by_cases h : i < w.length
  · refine br_t (nI_lt h (by omega)) ⟨vp_in_nI (by omega) (by decide), ?_⟩
    rw [rc_drop w i h] at K
    rw [e, hA i h]
    exact K
  · refine br_f (nI_nlt (by omega) (by omega)) ?_
    rw [List.drop_eq_nil_of_le (by omega)] at K
    exact K
theorem ry_atM {post : Int32 → Prop} (K : post 4) : wpY_at post (gC, gL, gS, gM, bK, bX, bY, bS, bW, bR, bM, bD) (nI 0 - 1) := by
  unfold wpY_at
  exact br_t (by decide) K
theorem ry_fits {post : Int32 → Prop} {r a b : Nat} {ρ : rc_R} (hr : r < 5) (hS : bS r = nI (ρ.2.2.2.1 + 32 * ρ.2.2.2.2)) (ok : rc_ok ρ) (hb : b < 8) (ha : a < 8) (K : post (rc_b2 (rc_fit ρ b a))) : wpY_fits post (gC, gL, gS, gM, bK, bX, bY, bS, bW, bR, bM, bD) (nI r) (nI b) (nI a) := by
  obtain ⟨ok1, ok2, ok3, ok4, ok5⟩ := ok
  have er : (nI r).toNatClampNeg = r := nI_clamp (by omega)
  have hin : vp_in (nI r) 5 := vp_in_nI hr (by decide)
  have e1 : bS (nI r).toNatClampNeg - bS (nI r).toNatClampNeg / 32 * 32 = nI ρ.2.2.2.1 := by
    rw [er, hS, show (32 : Int32) = nI 32 from rfl, pk_rem (by omega) (by omega) (by omega)]
    congr 1; omega
  have e2 : bS (nI r).toNatClampNeg / 32 = nI ρ.2.2.2.2 := by
    rw [er, hS, show (32 : Int32) = nI 32 from rfl, pk_div (by omega) (by omega) (by omega)]
    congr 1; omega
  unfold wpY_fits
  refine ⟨hin, by decide, nm_r e1 ⟨hin, by decide, nm_r e2 ?_⟩⟩
  have h1 := rc_bit ok4 hb
  have h2 := rc_bit ok5 ha
  unfold rc_fit at K
  rcases z1 : ρ.2.2.2.1.testBit b with _ | _
  · rw [z1, Bool.false_and] at K
    exact br_f (fun y => by rw [h1, z1] at y; exact absurd y (by decide)) K
  · rw [z1, Bool.true_and] at K
    refine br_t (h1.mpr z1) ?_
    rcases z2 : ρ.2.2.2.2.testBit a with _ | _
    · rw [z2] at K
      exact br_f (fun y => by rw [h2, z2] at y; exact absurd y (by decide)) K
    · rw [z2] at K
      exact br_t (h2.mpr z2) K
theorem ry_put {post : SY → Prop} {m : List Nat} {x : Nat} (hM : rc_A bM m) (hl : m.length < 26) (K : ∀ (bM' : Nat → Int32), rc_A bM' (m ++ [x]) → post (gC, gL, gS, nI (m ++ [x]).length, bK, bX, bY, bS, bW, bR, bM', bD)) : wpY_put post (gC, gL, gS, nI m.length, bK, bX, bY, bS, bW, bR, bM, bD) (nI x) := by
  unfold wpY_put
  have e : (nI m.length).toNatClampNeg = m.length := nI_clamp (by omega)
  have el : nI m.length + 1 = nI (m ++ [x]).length := by rw [nI_1, List.length_append]; rfl
  refine ⟨vp_in_nI hl (by decide), nm_e (nm_r el ?_)⟩
  rw [e]
  exact K _ (rc_A_push hM x)
theorem ry_w181 {post : SY → Prop} {g : List Nat} (hM : rc_A bM g) (hl : g.length ≤ 12) (K : ∀ (bR' : Nat → Int32), rc_A bR' g → post (gC, gL, nI g.length, gM, bK, bX, bY, bS, bW, bR', bM, bD)) :
    ∀ (d i n : Nat) (bR : Nat → Int32), i + d = g.length → d < n → (∀ j, j < i → bR j = nI (g.getD j 0)) → wY_work_181 post gC gL (nI g.length) gM n (nI i) bK bX bY bS bW bR bM bD := by
  intro d
  induction d with
  | zero =>
    intro i n bR hi hn hc
    obtain ⟨m, rfl⟩ : ∃ m, n = m + 1 := ⟨n - 1, by omega⟩
    exact br_t (nI_le (by omega) (by omega)) (K bR (fun j hj => hc j (by omega)))
  | succ d ih =>
    intro i n bR hi hn hc
    obtain ⟨m, rfl⟩ : ∃ m, n = m + 1 := ⟨n - 1, by omega⟩
    have hin : vp_in (nI i) 26 := vp_in_nI (by omega) (by decide)
    have e : (nI i).toNatClampNeg = i := nI_clamp (by omega)
    refine br_f (nI_ge (by omega) (by omega)) ⟨hin, hin, nm_e (nm_r (nI_1 i) ?_)⟩
    rw [e, hM i (by omega)]
    refine ih (i + 1) m _ (by omega) (by omega) ?_
    intro j hj
    by_cases z : j = i
    · rw [z]; exact pk_us
    · rw [pk_un z]; exact hc j (by omega)
theorem ry_w70 {post : SY → Prop} {J7 : _} {r a b c i sz : Nat} {ρ : rc_R} {m : List Nat} (hr : r < 5) (hρ : rc_RY bK bX bY bS r ρ) (ha : a < 8) (hb : b < 8) (hc : c < 8) (hi : i < sz) (hz : sz ≤ 12) (hM : rc_A bM m) (hm : m.length < 26)
    (K : ∀ (bM' : Nat → Int32), rc_A bM' (m ++ rc_p2 ρ b a c) → J7 (nI (i + 1)) gC gL (nI sz) (nI (m ++ rc_p2 ρ b a c).length) bK bX bY bS bW bR bM' bD) :
    wY_work_70 post J7 (nI r) (nI i) (nI a) (nI b) (nI c) gC gL (nI sz) (nI m.length) bK bX bY bS bW bR bM bD := by
  have er : (nI r).toNatClampNeg = r := nI_clamp (by omega)
  have hin : vp_in (nI r) 5 := vp_in_nI hr (by decide)
  obtain ⟨hK, hX, hY, hS, ok⟩ := hρ
  have ok1 := ok.1
  have ok2 := ok.2.1
  have ok3 := ok.2.2.1
  have k114 : rc_p2 ρ b a c = [a] → wY_work_114 post J7 (nI r) (nI i) (nI a) gC gL (nI sz) (nI m.length) bK bX bY bS bW bR bM bD := by
    intro hp
    rw [hp] at K
    unfold wY_work_114 wY_work_115
    refine br_t rfl ?_
    unfold wY_work_141
    refine br_t rfl (ry_put hM hm ?_)
    intro bM' k
    exact nm_r (nI_1 i) (K bM' k)
  unfold wY_work_70
  refine br_f (nI_ge hi (by omega)) ⟨hin, ?_⟩
  rw [er, hK]
  by_cases h2 : 2 ≤ ρ.1
  · refine br_t (nI_le (a := 2) h2 (by omega)) (k114 ?_)
    unfold rc_p2
    rw [if_neg (fun y => by have := y.1; omega)]
  · refine br_f (nI_ge (b := 2) (by omega) (by decide)) ⟨hin, ?_⟩
    rw [hX (by omega)]
    by_cases hx : a = ρ.2.1
    · refine br_t (by rw [hx]) (ry_fits hr hS ok hb hc (rc_b2_0 _ ?_ ?_))
      · intro hf
        refine k114 ?_
        unfold rc_p2
        rw [if_neg (fun y => by have := y.2.2; rw [hf] at this; exact absurd this (by decide))]
      · intro hf
        have hp : rc_p2 ρ b a c = if ρ.1 = 0 then [ρ.2.2.1] else [] := by
          unfold rc_p2
          rw [if_pos ⟨by omega, hx, hf⟩]
        unfold wY_work_115
        refine br_f (by decide) ⟨hin, ?_⟩
        rw [er, hK]
        by_cases h0 : ρ.1 = 0
        · rw [hp, if_pos h0] at K
          refine br_t (by rw [h0]; rfl) ⟨hin, ?_⟩
          rw [hY (by omega)]
          refine ry_put hM hm ?_
          intro bM' k
          show wY_work_141 post J7 (nI r) (nI i) (nI a) 1 gC gL (nI sz) (nI (m ++ [ρ.2.2.1]).length) bK bX bY bS bW bR bM' bD
          unfold wY_work_141
          exact br_f (by decide) (nm_r (nI_1 i) (K bM' k))
        · rw [hp, if_neg h0, List.append_nil] at K
          refine br_f (fun y => h0 (rc_nI8 (by omega) (by decide) y)) ?_
          unfold wY_work_141
          exact br_f (by decide) (nm_r (nI_1 i) (K bM hM))
    · refine br_f (fun y => hx (rc_nI8 (by omega) (by omega) y)) (k114 ?_)
      unfold rc_p2
      rw [if_neg (fun y => hx y.2.1)]
theorem ry_w70e {post : SY → Prop} {J7 : _} {x1 x3 x4 x5 gM : Int32} {i : Nat} (hi : i < 1000)
    (K : J7 (nI (i + 1)) gC gL (nI i) gM bK bX bY bS bW bR bM bD) :
    wY_work_70 post J7 x1 (nI i) x3 x4 x5 gC gL (nI i) gM bK bX bY bS bW bR bM bD := by
  unfold wY_work_70
  exact br_t (nI_le (Nat.le_refl i) (by omega)) (nm_r (nI_1 i) K)
/-- the insertion ahead of a place -/
theorem ry_ins {post : SY → Prop} {J7 : _} {r a b : Nat} {ρ : rc_R} {x2 x5 : Int32} {m : List Nat} (hr : r < 5) (hρ : rc_RY bK bX bY bS r ρ) (ha : a < 8) (hb : b < 8) (hM : rc_A bM m) (hm : m.length < 26)
    (K : ∀ (bM' : Nat → Int32), rc_A bM' (m ++ rc_p1 ρ b a) → wY_work_70 post J7 (nI r) x2 (nI a) (nI b) x5 gC gL gS (nI (m ++ rc_p1 ρ b a).length) bK bX bY bS bW bR bM' bD) :
    ((bK (nI r).toNatClampNeg = 2 → (wpY_fits (fun r_102 => (((r_102 = 0 → (wY_work_70 post J7 (nI r) x2 (nI a) (nI b) x5 gC gL gS (nI m.length) bK bX bY bS bW bR bM bD)) ∧ (¬ r_102 = 0 → (vp_in (nI r) 5 ∧ (wpY_put (fun u => match u with | (gC, gL, gS, gM, bK, bX, bY, bS, bW, bR, bM, bD) => (wY_work_70 post J7 (nI r) x2 (nI a) (nI b) x5 gC gL gS gM bK bX bY bS bW bR bM bD)) (gC, gL, gS, nI m.length, bK, bX, bY, bS, bW, bR, bM, bD) (bY (nI r).toNatClampNeg))))))) (gC, gL, gS, nI m.length, bK, bX, bY, bS, bW, bR, bM, bD) (nI r) (nI b) (nI a))) ∧ (¬ bK (nI r).toNatClampNeg = 2 → (wY_work_70 post J7 (nI r) x2 (nI a) (nI b) x5 gC gL gS (nI m.length) bK bX bY bS bW bR bM bD))) := by
  have er : (nI r).toNatClampNeg = r := nI_clamp (by omega)
  have hin : vp_in (nI r) 5 := vp_in_nI hr (by decide)
  obtain ⟨hK, hX, hY, hS, ok⟩ := hρ
  have ok1 := ok.1
  have ok3 := ok.2.2.1
  rw [er, hK]
  by_cases h2 : ρ.1 = 2
  · refine br_t (by rw [h2]; rfl) (ry_fits hr hS ok hb ha (rc_b2_0 _ ?_ ?_))
    · intro hf
      have hp : rc_p1 ρ b a = [] := by
        unfold rc_p1
        rw [if_neg (fun y => by have := y.2; rw [hf] at this; exact absurd this (by decide))]
      rw [hp, List.append_nil] at K
      exact K bM hM
    · intro hf
      have hp : rc_p1 ρ b a = [ρ.2.2.1] := by
        unfold rc_p1
        rw [if_pos ⟨h2, hf⟩]
      rw [hp] at K
      rw [hY (by omega)]
      refine ⟨hin, ry_put hM hm ?_⟩
      intro bM' k
      exact K bM' k
  · have hp : rc_p1 ρ b a = [] := by
      unfold rc_p1
      rw [if_neg (fun y => h2 y.1)]
    rw [hp, List.append_nil] at K
    exact br_f (fun y => h2 (rc_nI8 (by omega) (by decide) y)) (K bM hM)
theorem rc_p1_len (ρ : rc_R) (b a : Nat) : (rc_p1 ρ b a).length ≤ 1 := by
  unfold rc_p1
  split
  · exact Nat.le_refl 1
  · exact Nat.zero_le _
theorem rc_p2_len (ρ : rc_R) (b a c : Nat) : (rc_p2 ρ b a c).length ≤ 1 := by
  unfold rc_p2
  split
  · split
    · exact Nat.le_refl 1
    · exact Nat.zero_le _
  · exact Nat.le_refl 1
theorem rc_hd8 {v : List Nat} (h : ∀ a ∈ v, a ≤ 3) : v.headD 4 < 8 := by
  cases v with
  | nil => decide
  | cons a v =>
    have := h a List.mem_cons_self
    show a < 8
    omega
theorem ry_work7 {post : SY → Prop} {r : Nat} {ρ : rc_R} {w : List Nat} (hr : r < 5) (hρ : rc_RY bK bX bY bS r ρ) (hA : rc_A bR w) (hl : w.length ≤ 12) (h3 : ∀ a ∈ w, a ≤ 3)
    (K : ∀ (gM' : Int32) (bM' : Nat → Int32) (bR' : Nat → Int32), rc_A bR' (rc_wk ρ w) → post (gC, gL, nI (rc_wk ρ w).length, gM', bK, bX, bY, bS, bW, bR', bM', bD)) :
    ∀ (v u : List Nat) (n b : Nat) (m : List Nat) (bM : Nat → Int32), w = u ++ v → v.length + 1 < n → ((u = [] ∧ b = 4) ∨ ∃ u', u = u' ++ [b]) → rc_A bM m → m.length ≤ 2 * u.length → m ++ rc_go ρ b v = rc_go ρ 4 w → wY_work_7 post (nI r) n (nI u.length) gC gL (nI w.length) (nI m.length) bK bX bY bS bW bR bM bD := by
  have hin : vp_in (nI r) 5 := vp_in_nI hr (by decide)
  intro v
  induction v with
  | nil =>
    intro u n b m bM hw hn hb hM hm hgo
    obtain ⟨n, rfl⟩ : ∃ n', n = n' + 2 := ⟨n - 2, by simp at hn; omega⟩
    rw [List.append_nil] at hw
    subst hw
    have hb8 : b < 8 := by
      rcases hb with ⟨_, z⟩ | ⟨u', z⟩
      · omega
      · have := h3 b (by rw [z]; exact List.mem_append_right _ List.mem_cons_self); omega
    have lp := rc_p1_len ρ b 4
    refine br_f (nI_nlt (Nat.le_refl _) (by omega)) ?_
    refine ry_at hl (by omega) hA ?_
    rw [List.drop_eq_nil_of_le (Nat.le_refl _)]
    have cont : ∀ x5 : Int32, ((bK (nI r).toNatClampNeg = 2 → (wpY_fits (fun r_102 => (((r_102 = 0 → (wY_work_70 post (wY_work_7 post (nI r) (n + 1)) (nI r) (nI w.length) (nI 4) (nI b) x5 gC gL (nI w.length) (nI m.length) bK bX bY bS bW bR bM bD)) ∧ (¬ r_102 = 0 → (vp_in (nI r) 5 ∧ (wpY_put (fun u => match u with | (gC, gL, gS, gM, bK, bX, bY, bS, bW, bR, bM, bD) => (wY_work_70 post (wY_work_7 post (nI r) (n + 1)) (nI r) (nI w.length) (nI 4) (nI b) x5 gC gL gS gM bK bX bY bS bW bR bM bD)) (gC, gL, nI w.length, nI m.length, bK, bX, bY, bS, bW, bR, bM, bD) (bY (nI r).toNatClampNeg))))))) (gC, gL, nI w.length, nI m.length, bK, bX, bY, bS, bW, bR, bM, bD) (nI r) (nI b) (nI 4))) ∧ (¬ bK (nI r).toNatClampNeg = 2 → (wY_work_70 post (wY_work_7 post (nI r) (n + 1)) (nI r) (nI w.length) (nI 4) (nI b) x5 gC gL (nI w.length) (nI m.length) bK bX bY bS bW bR bM bD))) := by
      intro x5
      refine ry_ins hr hρ (by decide) hb8 hM (by omega) ?_
      intro bM' k
      refine ry_w70e (by omega) ?_
      rw [rc_go_n] at hgo
      rw [hgo] at k ⊢
      have gl := rc_go_len ρ w 4
      have ew : rc_wk ρ w = (rc_go ρ 4 w).take 12 := rfl
      have kt : rc_A bM' (rc_wk ρ w) := rc_A_take k 12
      have el : (rc_wk ρ w).length = min 12 (rc_go ρ 4 w).length := by rw [ew, List.length_take]
      have fin : ∃ n181, wY_work_181 post gC gL (nI (rc_wk ρ w).length) (nI (rc_go ρ 4 w).length) n181 0 bK bX bY bS bW bR bM' bD :=
        ⟨(rc_wk ρ w).length + 1, ry_w181 kt (by omega) (fun bR' k => K _ bM' bR' k) (rc_wk ρ w).length 0 _ bR (by omega) (by omega) (fun j hj => absurd hj (Nat.not_lt_zero j))⟩
      refine br_t (nI_lt (by omega) (by omega)) ?_
      by_cases h12 : (rc_go ρ 4 w).length ≤ 12
      · rw [show (rc_wk ρ w).length = (rc_go ρ 4 w).length by omega] at fin
        exact br_t (nI_le (b := 12) h12 (by decide)) fin
      · rw [show (rc_wk ρ w).length = 12 by omega] at fin
        exact br_f (nI_ge (a := 12) (by omega) (by omega)) fin
    rcases hb with ⟨hu, hb4⟩ | ⟨u', hu⟩
    · subst hb4
      have e0 : nI w.length - 1 = nI 0 - 1 := by rw [hu]; rfl
      rw [e0]
      refine ry_atM ?_
      rw [nI_1]
      refine ry_at hl (by omega) hA ?_
      exact ⟨hin, cont _⟩
    · have e0 : nI w.length - 1 = nI u'.length := by rw [hu, List.length_append]; exact nI_pred _
      rw [e0]
      refine ry_at hl (by rw [hu, List.length_append] at hl; omega) hA ?_
      have e1 : (w.drop u'.length).headD 4 = b := by
        rw [hu, List.drop_left]; rfl
      rw [e1, nI_1]
      refine ry_at hl (by omega) hA ?_
      exact ⟨hin, cont _⟩
  | cons a v ih =>
    intro u n b m bM hw hn hb hM hm hgo
    obtain ⟨n, rfl⟩ : ∃ n', n = n' + 1 := ⟨n - 1, by simp at hn; omega⟩
    have hlen : w.length = u.length + (v.length + 1) := by rw [hw, List.length_append, List.length_cons]
    rw [List.length_cons] at hn
    have hm3 : ∀ x ∈ u ++ (a :: v), x ≤ 3 := by rw [← hw]; exact h3
    have ha : a ≤ 3 := hm3 a (List.mem_append_right _ List.mem_cons_self)
    have hv3 : ∀ x ∈ v, x ≤ 3 := fun x hx => hm3 x (List.mem_append_right _ (List.mem_cons_of_mem _ hx))
    have hb8 : b < 8 := by
      rcases hb with ⟨_, z⟩ | ⟨u', z⟩
      · omega
      · have := hm3 b (List.mem_append_left _ (by rw [z]; exact List.mem_append_right _ List.mem_cons_self)); omega
    have lp := rc_p1_len ρ b a
    have lp2 := rc_p2_len ρ b a (v.headD 4)
    have ed : w.drop u.length = a :: v := by rw [hw, List.drop_left]
    have ed2 : w.drop (u.length + 1) = v := by rw [← List.drop_drop, ed]; rfl
    refine br_f (nI_nlt (by omega) (by omega)) ?_
    refine ry_at hl (by omega) hA ?_
    rw [ed]
    have cont : ((bK (nI r).toNatClampNeg = 2 → (wpY_fits (fun r_102 => (((r_102 = 0 → (wY_work_70 post (wY_work_7 post (nI r) n) (nI r) (nI u.length) (nI a) (nI b) (nI (v.headD 4)) gC gL (nI w.length) (nI m.length) bK bX bY bS bW bR bM bD)) ∧ (¬ r_102 = 0 → (vp_in (nI r) 5 ∧ (wpY_put (fun u_1 => match u_1 with | (gC, gL, gS, gM, bK, bX, bY, bS, bW, bR, bM, bD) => (wY_work_70 post (wY_work_7 post (nI r) n) (nI r) (nI u.length) (nI a) (nI b) (nI (v.headD 4)) gC gL gS gM bK bX bY bS bW bR bM bD)) (gC, gL, nI w.length, nI m.length, bK, bX, bY, bS, bW, bR, bM, bD) (bY (nI r).toNatClampNeg))))))) (gC, gL, nI w.length, nI m.length, bK, bX, bY, bS, bW, bR, bM, bD) (nI r) (nI b) (nI a))) ∧ (¬ bK (nI r).toNatClampNeg = 2 → (wY_work_70 post (wY_work_7 post (nI r) n) (nI r) (nI u.length) (nI a) (nI b) (nI (v.headD 4)) gC gL (nI w.length) (nI m.length) bK bX bY bS bW bR bM bD))) := by
      refine ry_ins hr hρ (by omega) hb8 hM (by omega) ?_
      intro bM' k
      refine ry_w70 hr hρ (by omega) hb8 (rc_hd8 hv3) (by omega) hl k (by rw [List.length_append]; omega) ?_
      intro bM2 k2
      have h := ih (u ++ [a]) n a (m ++ rc_p1 ρ b a ++ rc_p2 ρ b a (v.headD 4)) bM2 (by rw [hw, List.append_assoc]; rfl) (by omega) (Or.inr ⟨u, rfl⟩) k2 (by rw [List.length_append, List.length_append, List.length_append]; show _ ≤ 2 * (u.length + 1); omega) (by rw [← hgo, rc_go_c, List.append_assoc, List.append_assoc])
      rw [List.length_append] at h
      exact h
    rcases hb with ⟨hu, hb4⟩ | ⟨u', hu⟩
    · subst hb4
      have e0 : nI u.length - 1 = nI 0 - 1 := by rw [hu]; rfl
      rw [e0]
      refine ry_atM ?_
      rw [nI_1]
      refine ry_at hl (by omega) hA ?_
      rw [ed2]
      exact ⟨hin, cont⟩
    · have e0 : nI u.length - 1 = nI u'.length := by rw [hu, List.length_append]; exact nI_pred _
      rw [e0]
      refine ry_at hl (by have := congrArg List.length hu; rw [List.length_append] at this; omega) hA ?_
      have e1 : (w.drop u'.length).headD 4 = b := by
        rw [hw, hu, List.append_assoc, List.drop_left]; rfl
      rw [e1, nI_1]
      refine ry_at hl (by omega) hA ?_
      rw [ed2]
      exact ⟨hin, cont⟩
theorem ry_work {post : SY → Prop} {r : Nat} {ρ : rc_R} {w : List Nat} (hr : r < 5) (hρ : rc_RY bK bX bY bS r ρ) (hA : rc_A bR w) (hl : w.length ≤ 12) (h3 : ∀ a ∈ w, a ≤ 3)
    (K : ∀ (gM' : Int32) (bM' : Nat → Int32) (bR' : Nat → Int32), rc_A bR' (rc_wk ρ w) → post (gC, gL, nI (rc_wk ρ w).length, gM', bK, bX, bY, bS, bW, bR', bM', bD)) :
    wpY_work post (gC, gL, nI w.length, gM, bK, bX, bY, bS, bW, bR, bM, bD) (nI r) := by
  unfold wpY_work
  exact ⟨w.length + 2, ry_work7 hr hρ hA hl h3 K w [] (w.length + 2) 4 [] bM rfl (by omega) (Or.inl ⟨rfl, rfl⟩) (rc_A_nil bM) (Nat.zero_le _) rfl⟩
end
end
section
theorem rc_code_div {n w j : Nat} (hw : w < 4 ^ n) (hj : j ≤ n) : (4 ^ n + w) / 4 ^ j = 4 ^ (n - j) + w / 4 ^ j := by
  have e : (4 : Nat) ^ n = 4 ^ (n - j) * 4 ^ j := by rw [← Nat.pow_add]; congr 1; omega
  rw [e, Nat.add_comm, Nat.add_mul_div_right _ _ (Nat.pow_pos (by decide)), Nat.add_comm]
theorem rc_1024 {n w : Nat} (hn : n ≤ 5) (hw : w < 4 ^ n) : 4 ^ n + w < 2048 := by
  have := rc_4n n hn
  omega
section
variable {gC : Int32} {gL : Int32} {gS : Int32} {gM : Int32} {bK : Nat → Int32} {bX : Nat → Int32} {bY : Nat → Int32} {bS : Nat → Int32} {bW : Nat → Int32} {bR : Nat → Int32} {bM : Nat → Int32} {bD : Nat → Int32}
theorem ry_all2 {post : SY → Prop} {k : Nat} {ρ : Nat → rc_R} {w : List Nat} (hk : k ≤ 5) (hρ : ∀ r, r < k → rc_RY bK bX bY bS r (ρ r)) (hl : w.length ≤ 12) (h3 : ∀ a ∈ w, a ≤ 3)
    (K : ∀ (gM' : Int32) (bM' : Nat → Int32) (bR' : Nat → Int32), rc_A bR' (rc_wa ρ w k) → post (gC, gL, nI (rc_wa ρ w k).length, gM', bK, bX, bY, bS, bW, bR', bM', bD)) :
    ∀ (d s n : Nat) (gM : Int32) (bM : Nat → Int32) (bR : Nat → Int32), s + d = k → d < n → rc_A bR (rc_wa ρ w s) → wY_workAll_2 post (nI k) n (nI s) gC gL (nI (rc_wa ρ w s).length) gM bK bX bY bS bW bR bM bD := by
  have ok : ∀ s, s < k → rc_ok (ρ s) := fun s hs => (hρ s hs).2.2.2.2
  intro d
  induction d with
  | zero =>
    intro s n gM bM bR hs hn hA
    obtain ⟨m, rfl⟩ : ∃ m, n = m + 1 := ⟨n - 1, by omega⟩
    have e : s = k := hs
    subst e
    exact br_t (nI_le (Nat.le_refl s) (by omega)) (K gM bM bR hA)
  | succ d ih =>
    intro s n gM bM bR hs hn hA
    obtain ⟨m, rfl⟩ : ∃ m, n = m + 1 := ⟨n - 1, by omega⟩
    refine br_f (nI_ge (by omega) (by omega)) ?_
    refine ry_work (by omega) (hρ s (by omega)) hA (rc_wa_len ρ w hl s) (rc_wa_le ρ ok w h3 s (by omega)) ?_
    intro gM' bM' bR' k1
    refine nm_r (nI_1 s) ?_
    exact ih (s + 1) m gM' bM' bR' (by omega) (by omega) k1
theorem ry_all {post : SY → Prop} {k : Nat} {ρ : Nat → rc_R} {w : List Nat} (hk : k ≤ 5) (hρ : ∀ r, r < k → rc_RY bK bX bY bS r (ρ r)) (hl : w.length ≤ 12) (h3 : ∀ a ∈ w, a ≤ 3) (hA : rc_A bR w)
    (K : ∀ (gM' : Int32) (bM' : Nat → Int32) (bR' : Nat → Int32), rc_A bR' (rc_wa ρ w k) → post (gC, gL, nI (rc_wa ρ w k).length, gM', bK, bX, bY, bS, bW, bR', bM', bD)) :
    wpY_workAll post (gC, gL, nI w.length, gM, bK, bX, bY, bS, bW, bR, bM, bD) (nI k) := by
  unfold wpY_workAll
  exact ⟨k + 1, ry_all2 hk hρ hl h3 K k 0 (k + 1) gM bM bR (by omega) (by omega) hA⟩
theorem ry_code4 {post : Int32 → Prop} : ∀ (v : List Nat) (i c n : Nat), v.length < n → i + v.length ≤ 12 → (∀ j, j < v.length → bR (i + j) = nI (v.getD j 0)) → post (nI (rc_cf c v)) → wY_codeOfRow_4 post gC gL (nI (i + v.length)) gM bK bX bY bS bW bR bM bD n (nI c) (nI i) := by
  intro v
  induction v with
  | nil =>
    intro i c n hn hi hA K
    obtain ⟨m, rfl⟩ : ∃ m, n = m + 1 := ⟨n - 1, by omega⟩
    exact br_t (nI_le (Nat.le_refl i) (by have : i + 0 ≤ 12 := hi; omega)) K
  | cons a v ih =>
    intro i c n hn hi hA K
    obtain ⟨m, rfl⟩ : ∃ m, n = m + 1 := ⟨n - 1, by omega⟩
    rw [List.length_cons] at hn hi
    have el : i + (a :: v).length = i + 1 + v.length := by rw [List.length_cons]; omega
    have e : (nI i).toNatClampNeg = i := nI_clamp (by omega)
    have h0 : bR i = nI a := hA 0 (by rw [List.length_cons]; omega)
    have ec : 4 * nI c + bR (nI i).toNatClampNeg = nI (4 * c + a) := by
      rw [e, h0, show (4 : Int32) = nI 4 from rfl, pk_mul, nI_add]
    rw [el]
    refine br_f (nI_ge (by omega) (by omega)) ⟨vp_in_nI (by omega) (by decide), nm_r ec (nm_r (nI_1 i) ?_)⟩
    refine ih (i + 1) (4 * c + a) m (by omega) (by omega) ?_ K
    intro j hj
    have := hA (j + 1) (by rw [List.length_cons]; omega)
    rw [show i + 1 + j = i + (j + 1) by omega]
    exact this
theorem ry_code {post : Int32 → Prop} {o : List Nat} (hl : o.length ≤ 12) (hA : rc_A bR o) (K : post (nI (rc_cd o))) : wpY_codeOfRow post (gC, gL, nI o.length, gM, bK, bX, bY, bS, bW, bR, bM, bD) := by
  unfold wpY_codeOfRow
  have h := ry_code4 (post := post) (gC := gC) (gL := gL) (gM := gM) (bK := bK) (bX := bX) (bY := bY) (bS := bS) (bW := bW) (bR := bR) (bM := bM) (bD := bD) o 0 1 (o.length + 1) (by omega) (by omega) (fun j hj => by rw [Nat.zero_add]; exact hA j hj) K
  rw [Nat.zero_add] at h
  exact ⟨o.length + 1, h⟩
theorem ry_spread38 {post : SY → Prop} {n c : Nat} (hn : n ≤ 5) (hc : c < 2 ^ 31)
    (K : ∀ (bR' : Nat → Int32), (∀ j, j < n → bR' j = nI (c / 4 ^ (n - 1 - j) % 4)) → post (gC, gL, nI n, gM, bK, bX, bY, bS, bW, bR', bM, bD)) :
    ∀ (i f : Nat) (bR : Nat → Int32), i ≤ n → i < f → (∀ j, i ≤ j → j < n → bR j = nI (c / 4 ^ (n - 1 - j) % 4)) → wY_spread_38 post gC gL (nI n) gM f (nI (c / 4 ^ (n - i))) (nI i - 1) bK bX bY bS bW bR bM bD := by
  intro i
  induction i with
  | zero =>
    intro f bR hi hf h
    obtain ⟨m, rfl⟩ : ∃ m, f = m + 1 := ⟨f - 1, by omega⟩
    exact br_t (by decide) (K bR (fun j hj => h j (Nat.zero_le j) hj))
  | succ i ih =>
    intro f bR hi hf h
    obtain ⟨m, rfl⟩ : ∃ m, f = m + 1 := ⟨f - 1, by omega⟩
    have e : (nI i).toNatClampNeg = i := nI_clamp (by omega)
    have hlt : c / 4 ^ (n - (i + 1)) < 2 ^ 31 := Nat.lt_of_le_of_lt (Nat.div_le_self _ _) hc
    have e1 : nI (c / 4 ^ (n - (i + 1))) - nI (c / 4 ^ (n - (i + 1))) / 4 * 4 = nI (c / 4 ^ (n - (i + 1)) % 4) := by
      rw [show (4 : Int32) = nI 4 from rfl]
      exact pk_rem hlt (by decide) (by decide)
    have e2 : nI (c / 4 ^ (n - (i + 1))) / 4 = nI (c / 4 ^ (n - i)) := by
      rw [show (4 : Int32) = nI 4 from rfl, pk_div hlt (by decide) (by decide), Nat.div_div_eq_div_mul, ← Nat.pow_succ]
      congr 3; omega
    rw [nI_pred]
    refine br_f (nI_pos (by omega)) ⟨by decide, vp_in_nI (by omega) (by decide), nm_e ⟨by decide, nm_r e2 (nm_r (Int32.sub_eq_add_neg (nI i) 1).symm ?_)⟩⟩
    rw [e, e1]
    refine ih m _ (by omega) (by omega) ?_
    intro j hj hjn
    by_cases z : j = i
    · rw [z, pk_us, show n - (i + 1) = n - 1 - i by omega]
    · rw [pk_un z]; exact h j (by omega) hjn
theorem ry_spread {post : SY → Prop} {n w : Nat} (hn : n ≤ 5) (hw : w < 4 ^ n) (K : ∀ (bR' : Nat → Int32), rc_A bR' (rc_dg n w) → post (gC, gL, nI n, gM, bK, bX, bY, bS, bW, bR', bM, bD)) : wpY_spread post (gC, gL, gS, gM, bK, bX, bY, bS, bW, bR, bM, bD) (nI (4 ^ n + w)) := by
  have hc := rc_1024 hn hw
  have key : ∀ (d j f : Nat), j + d = n → d < f → wY_spread_7 post (nI (4 ^ n + w)) gC gL gM bK bX bY bS bW bR bM bD f (nI ((4 ^ n + w) / 4 ^ j)) (nI j) := by
    intro d
    induction d with
    | zero =>
      intro j f hj hf
      obtain ⟨m, rfl⟩ : ∃ m, f = m + 1 := ⟨f - 1, by omega⟩
      have e : j = n := hj
      subst e
      have e1 : (4 ^ j + w) / 4 ^ j = 1 := by
        rw [rc_code_div hw (Nat.le_refl j), Nat.sub_self, Nat.div_eq_of_lt hw]
      rw [e1]
      refine br_t (by decide) (nm_e ⟨j + 1, ?_⟩)
      have h := ry_spread38 (post := post) (gC := gC) (gL := gL) (gM := gM) (bK := bK) (bX := bX) (bY := bY) (bS := bS) (bW := bW) (bM := bM) (bD := bD) hn (show 4 ^ j + w < 2 ^ 31 by omega) (fun bR' k => K bR' ?_) j (j + 1) bR (Nat.le_refl j) (by omega) (fun i h1 h2 => absurd h2 (by omega))
      · rw [Nat.sub_self, Nat.pow_zero, Nat.div_one] at h
        exact h
      · intro i hi
        rw [rc_dg_len] at hi
        have e2 := rc_dg_hi j 1 w j (Nat.le_refl j)
        rw [Nat.one_mul] at e2
        rw [← e2, rc_dg_get j _ i hi]
        exact k i hi
    | succ d ih =>
      intro j f hj hf
      obtain ⟨m, rfl⟩ : ∃ m, f = m + 1 := ⟨f - 1, by omega⟩
      have hlt : (4 ^ n + w) / 4 ^ j < 2 ^ 31 := Nat.lt_of_le_of_lt (Nat.div_le_self _ _) (by omega)
      have h4 : 4 ≤ (4 ^ n + w) / 4 ^ j := by
        rw [rc_code_div hw (by omega), show n - j = (n - j - 1) + 1 by omega, Nat.pow_succ]
        have := Nat.pow_pos (n := n - j - 1) (show 0 < 4 by decide)
        exact Nat.le_trans (show 4 ≤ 4 ^ (n - j - 1) * 4 by omega) (Nat.le_add_right _ _)
      have e2 : nI ((4 ^ n + w) / 4 ^ j) / 4 = nI ((4 ^ n + w) / 4 ^ (j + 1)) := by
        rw [show (4 : Int32) = nI 4 from rfl, pk_div hlt (by decide) (by decide), Nat.div_div_eq_div_mul, ← Nat.pow_succ]
      exact br_f (nI_ge (a := 1) (by omega) (by omega)) (nm_r (nI_1 j) ⟨by decide, nm_r e2 (ih (j + 1) m (by omega) (by omega))⟩)
  unfold wpY_spread
  have h := key n 0 (n + 1) (by omega) (by omega)
  rw [Nat.pow_zero, Nat.div_one] at h
  exact ⟨n + 1, h⟩
theorem ry_take {post : SY → Prop} {W : List Nat} (hl : W.length ≤ 12) (hW : rc_A bW W) (K : ∀ (bR' : Nat → Int32), rc_A bR' W → post (gC, nI W.length, nI W.length, gM, bK, bX, bY, bS, bW, bR', bM, bD)) : wpY_take post (gC, nI W.length, gS, gM, bK, bX, bY, bS, bW, bR, bM, bD) := by
  have key : ∀ (d i n : Nat) (bR : Nat → Int32), i + d = W.length → d < n → (∀ j, j < i → bR j = nI (W.getD j 0)) → wY_take_10 post gC (nI W.length) (nI W.length) gM n (nI i) bK bX bY bS bW bR bM bD := by
    intro d
    induction d with
    | zero =>
      intro i n bR hi hn hc
      obtain ⟨m, rfl⟩ : ∃ m, n = m + 1 := ⟨n - 1, by omega⟩
      exact br_t (nI_le (by omega) (by omega)) (K bR (fun j hj => hc j (by omega)))
    | succ d ih =>
      intro i n bR hi hn hc
      obtain ⟨m, rfl⟩ : ∃ m, n = m + 1 := ⟨n - 1, by omega⟩
      have e : (nI i).toNatClampNeg = i := nI_clamp (by omega)
      refine br_f (nI_ge (by omega) (by omega)) ⟨vp_in_nI (by omega) (by decide), vp_in_nI (by omega) (by decide), nm_e (nm_r (nI_1 i) ?_)⟩
      rw [e, hW i (by omega)]
      refine ih (i + 1) m _ (by omega) (by omega) ?_
      intro j hj
      by_cases z : j = i
      · rw [z]; exact pk_us
      · rw [pk_un z]; exact hc j (by omega)
  unfold wpY_take
  exact ⟨W.length + 1, key W.length 0 _ bR (by omega) (by omega) (fun j hj => absurd hj (Nat.not_lt_zero j))⟩
theorem ry_res {post : Int32 → SY → Prop} {k n w : Nat} {ρ : Nat → rc_R} (hk : k ≤ 5) (hρ : ∀ r, r < k → rc_RY bK bX bY bS r (ρ r)) (hn : n ≤ 5) (hw : w < 4 ^ n)
    (K : ∀ (gS' : Int32) (gM' : Int32) (bM' : Nat → Int32) (bR' : Nat → Int32), post (nI (rc_cd (rc_wa ρ (rc_dg n w) k))) (nI k, gL, gS', gM', bK, bX, bY, bS, bW, bR', bM', bD)) :
    wpY_resultOf post (nI k, gL, gS, gM, bK, bX, bY, bS, bW, bR, bM, bD) (nI (4 ^ n + w)) := by
  unfold wpY_resultOf
  refine ry_spread hn hw ?_
  intro bR' k1
  have dl := rc_dg_len n w
  have h := ry_all (post := fun u => match u with | (gC, gL, gS, gM, bK, bX, bY, bS, bW, bR, bM, bD) => (wpY_codeOfRow (fun r_27 => (post r_27 (gC, gL, gS, gM, bK, bX, bY, bS, bW, bR, bM, bD))) (gC, gL, gS, gM, bK, bX, bY, bS, bW, bR, bM, bD))) (gC := nI k) (gL := gL) (gM := gM) (bW := bW) (bM := bM) (bD := bD) hk hρ (by omega) (rc_dg_le n w) k1 (fun gM' bM' bR' k2 => ry_code (rc_wa_len ρ _ (by omega) k) k2 (K _ gM' bM' bR'))
  rw [dl] at h
  exact h
theorem ry_cow {post : Int32 → SY → Prop} {W : List Nat} (hl : W.length ≤ 12) (hW : rc_A bW W) (K : ∀ (gS' : Int32) (bR' : Nat → Int32), post (nI (rc_cd W)) (gC, nI W.length, gS', gM, bK, bX, bY, bS, bW, bR', bM, bD)) : wpY_codeOfWord post (gC, nI W.length, gS, gM, bK, bX, bY, bS, bW, bR, bM, bD) := by
  unfold wpY_codeOfWord
  refine ry_take hl hW ?_
  intro bR' k1
  exact ry_code hl k1 (K _ bR')
theorem ry_least {post : Int32 → Prop} {n : Nat} (hn : n ≤ 5) (K : post (nI (4 ^ n))) : wpY_least post (gC, gL, gS, gM, bK, bX, bY, bS, bW, bR, bM, bD) (nI n) := by
  unfold wpY_least
  rw [rc_pow5 n hn]
  exact K
/-- a length that is refused, or one that isn't -/
theorem ry_size {post : Int32 → Prop} (x : Int32) (K0 : ∀ n : Nat, n ≤ 5 → x = nI n → post 0) (K1 : (x < 0 ∨ ¬ x ≤ 5) → post 1) : wpY_noSize post (gC, gL, gS, gM, bK, bX, bY, bS, bW, bR, bM, bD) x := by
  unfold wpY_noSize
  by_cases h0 : x < 0
  · exact br_t h0 (K1 (Or.inl h0))
  · refine br_f h0 ?_
    by_cases h5 : x ≤ 5
    · obtain ⟨n, hn, e⟩ := nI_of2 (n := 5) (by decide) h0 h5
      exact br_t h5 (K0 n hn e)
    · exact br_f h5 (K1 (Or.inr h5))
end
section
variable {fR : Int32} {fS : Int32} {fL : Int32} {fC : Int32} {fG : Int32} {fE : Int32} {fW : Int32} {fF : Int32} {fA : Int32} {aK : Nat → Int32} {aF : Nat → Int32} {aI : Nat → Int32} {aL : Nat → Int32} {aR : Nat → Int32} {aW : Nat → Int32} {aT : Nat → Int32} {aB : Nat → Int32} {aH : Nat → Int32} {aN : Nat → Int32} {aC : Nat → Int32} {aG : Nat → Int32} {aO : Nat → Int32} {aM : Nat → Int64} {aY : Nat → Int32} {aP : Nat → Int64} {aQ : Nat → Int32} {aD : Nat → Int32}
theorem rx_bad {post : Int32 → Prop} (x : Int32) (K0 : ∀ n : Nat, n ≤ 5 → x = nI n → post 0) (K1 : (x < 0 ∨ ¬ x ≤ 5) → post 1) : wpX_badNumber post (fR, fS, fL, fC, fG, fE, fW, fF, fA, aK, aF, aI, aL, aR, aW, aT, aB, aH, aN, aC, aG, aO, aM, aY, aP, aQ, aD) x := by
  unfold wpX_badNumber
  by_cases h0 : x < 0
  · exact br_t h0 (K1 (Or.inl h0))
  · refine br_f h0 ?_
    by_cases h5 : x ≤ 5
    · obtain ⟨n, hn, e⟩ := nI_of2 (n := 5) (by decide) h0 h5
      exact br_t h5 (K0 n hn e)
    · exact br_f h5 (K1 (Or.inr h5))
end
end
section
def rc_ws (aM : Nat → Int64) (aY : Nat → Int32) (f : Int64 → Int32) : Nat → Int32
  | 0 => 0
  | n + 1 => rc_ws aM aY f n + aY n * f (aM n)
theorem rc_ws_congr {aM aM' : Nat → Int64} {aY aY' : Nat → Int32} (f : Int64 → Int32) : ∀ n : Nat, (∀ j, j < n → aM' j = aM j ∧ aY' j = aY j) → rc_ws aM' aY' f n = rc_ws aM aY f n
  | 0, _ => rfl
  | n + 1, h => by
    have a := h n (by omega)
    show rc_ws aM' aY' f n + aY' n * f (aM' n) = rc_ws aM aY f n + aY n * f (aM n)
    rw [rc_ws_congr f n (fun j hj => h j (by omega)), a.1, a.2]
theorem rc_r1 (s y x v : Int32) : s + (y + x) * v = s + y * v + x * v := by grind
theorem rc_r2 (s y x : Int32) : s + x + y = s + y + x := by grind
theorem rc_ws_add {aM : Nat → Int64} {aY : Nat → Int32} (f : Int64 → Int32) {i : Nat} (x : Int32) : ∀ n : Nat, i < n → rc_ws aM (upd aY i (aY i + x)) f n = rc_ws aM aY f n + x * f (aM i)
  | 0, h => absurd h (Nat.not_lt_zero i)
  | n + 1, h => by
    show rc_ws aM (upd aY i (aY i + x)) f n + upd aY i (aY i + x) n * f (aM n) = rc_ws aM aY f n + aY n * f (aM n) + x * f (aM i)
    by_cases z : i = n
    · subst z
      rw [pk_us, rc_ws_congr (aM := aM) (aY := aY) f i (fun j hj => ⟨rfl, pk_un (by omega)⟩)]
      exact rc_r1 _ _ _ _
    · rw [pk_un (by omega), rc_ws_add f x n (by omega)]
      exact rc_r2 _ _ _
def rc_rs (aM : Nat → Int64) (aY : Nat → Int32) (G : Int64 → Nat → Int32) : Nat → Int32
  | 0 => 0
  | c + 1 => rc_rs aM aY G c + aY (c / 4) * G (aM (c / 4)) (c % 4)
theorem rc_r3 (s y a b c d : Int32) : s + y * a + y * b + y * c + y * d = s + y * (a + b + c + d) := by grind
theorem rc_rs_4 (aM : Nat → Int64) (aY : Nat → Int32) (G : Int64 → Nat → Int32) : ∀ n : Nat, rc_rs aM aY G (4 * n) = rc_ws aM aY (fun x => G x 0 + G x 1 + G x 2 + G x 3) n
  | 0 => rfl
  | n + 1 => by
    have ih := rc_rs_4 aM aY G n
    show rc_rs aM aY G (4 * n) + aY ((4 * n) / 4) * G (aM ((4 * n) / 4)) ((4 * n) % 4) + aY ((4 * n + 1) / 4) * G (aM ((4 * n + 1) / 4)) ((4 * n + 1) % 4) + aY ((4 * n + 2) / 4) * G (aM ((4 * n + 2) / 4)) ((4 * n + 2) % 4) + aY ((4 * n + 3) / 4) * G (aM ((4 * n + 3) / 4)) ((4 * n + 3) % 4) = rc_ws aM aY (fun x => G x 0 + G x 1 + G x 2 + G x 3) n + aY n * (G (aM n) 0 + G (aM n) 1 + G (aM n) 2 + G (aM n) 3)
    rw [show (4 * n) / 4 = n by omega, show (4 * n + 1) / 4 = n by omega, show (4 * n + 2) / 4 = n by omega, show (4 * n + 3) / 4 = n by omega, show (4 * n) % 4 = 0 by omega, show (4 * n + 1) % 4 = 1 by omega, show (4 * n + 2) % 4 = 2 by omega, show (4 * n + 3) % 4 = 3 by omega, ih]
    exact rc_r3 _ _ _ _ _ _
def rc_F (ρ : Nat → rc_R) (k : Nat) (W : List Nat) (i : Nat) (x : Int64) : Int32 := nI (rc_ct ρ k W i (rc_un x.toBitVec.toNat k) (x.toBitVec.toNat / 1024 ^ k))
def rc_G (ρ : Nat → rc_R) (k : Nat) (W : List Nat) (i : Nat) (x : Int64) (l : Nat) : Int32 := nI (rc_cl ρ k W i (rc_un x.toBitVec.toNat k) (x.toBitVec.toNat / 1024 ^ k) l)
theorem rc_F_s (ρ : Nat → rc_R) (k : Nat) (W : List Nat) (i : Nat) : rc_F ρ k W (i + 1) = fun x => rc_G ρ k W i x 0 + rc_G ρ k W i x 1 + rc_G ρ k W i x 2 + rc_G ρ k W i x 3 := by
  funext x
  unfold rc_F rc_G
  rw [rc_ct_s, nI_add, nI_add, nI_add]
  congr 1
  show 0 + _ + _ + _ + _ = _
  rw [Nat.zero_add]
theorem rc_lN_tn {m k : Nat} (hk : k ≤ 5) (hm : m < 16 * 1024 ^ k) : m < 2 ^ 54 ∧ (lN m).toBitVec.toNat = m := by
  have h : (1024 : Nat) ^ k ≤ 1024 ^ 5 := Nat.pow_le_pow_right (by decide) hk
  have e : (1024 : Nat) ^ 5 = 1125899906842624 := by decide
  have hm' : m < 2 ^ 54 := by omega
  exact ⟨hm', wb_tn (by omega)⟩
theorem rc_F_l {ρ : Nat → rc_R} {k : Nat} {W : List Nat} {i m : Nat} (hk : k ≤ 5) (hm : m < 16 * 1024 ^ k) : rc_F ρ k W i (lN m) = nI (rc_ct ρ k W i (rc_un m k) (m / 1024 ^ k)) := by
  unfold rc_F
  rw [(rc_lN_tn hk hm).2]
theorem rc_G_l {ρ : Nat → rc_R} {k : Nat} {W : List Nat} {i m l : Nat} (hk : k ≤ 5) (hm : m < 16 * 1024 ^ k) : rc_G ρ k W i (lN m) l = nI (rc_cl ρ k W i (rc_un m k) (m / 1024 ^ k) l) := by
  unfold rc_G
  rw [(rc_lN_tn hk hm).2]
def rc_VM (k n : Nat) (aM : Nat → Int64) : Prop := ∀ j, j < n → ∃ m, m < 16 * 1024 ^ k ∧ aM j = lN m
section
variable {fR : Int32} {fS : Int32} {fL : Int32} {fC : Int32} {fG : Int32} {fE : Int32} {fW : Int32} {fF : Int32} {fA : Int32} {aK : Nat → Int32} {aF : Nat → Int32} {aI : Nat → Int32} {aL : Nat → Int32} {aR : Nat → Int32} {aW : Nat → Int32} {aT : Nat → Int32} {aB : Nat → Int32} {aH : Nat → Int32} {aN : Nat → Int32} {aC : Nat → Int32} {aG : Nat → Int32} {aO : Nat → Int32} {aM : Nat → Int64} {aY : Nat → Int32} {aP : Nat → Int64} {aQ : Nat → Int32} {aD : Nat → Int32}
theorem rx_pack {post : Int64 → Prop} {k res : Nat} {q : Nat → rc_Q} (hk : k ≤ 5) (hDA : rc_DA k q aB aH aN) (hq : rc_bd k q) (hr : res < 16) (K : post (lN (rc_pk q res k))) : wpX_pack post (fR, fS, nI k, fC, fG, nI res, fW, fF, fA, aK, aF, aI, aL, aR, aW, aT, aB, aH, aN, aC, aG, aO, aM, aY, aP, aQ, aD) := by
  have key : ∀ (d s n : Nat), s + d = k → d < n → wX_pack_8 post fR fS (nI k) fC fG (nI res) fW fF fA aK aF aI aL aR aW aT aB aH aN aC aG aO aM aY aP aQ aD n (lN (rc_pk q res s)) (nI s) := by
    intro d
    induction d with
    | zero =>
      intro s n hs hn
      obtain ⟨m, rfl⟩ : ∃ m, n = m + 1 := ⟨n - 1, by omega⟩
      have e : s = k := hs
      subst e
      exact br_t (nI_le (Nat.le_refl s) (by omega)) K
    | succ d ih =>
      intro s n hs hn
      obtain ⟨m, rfl⟩ : ∃ m, n = m + 1 := ⟨n - 1, by omega⟩
      have hin : vp_in (nI s) 5 := vp_in_nI (by omega) (by decide)
      have e : (nI s).toNatClampNeg = s := nI_clamp (by omega)
      have hS := hDA s (by omega)
      have hb := hq s (by omega)
      have hen := rc_en_lt hb
      have e1 : ((aB (nI s).toNatClampNeg) ||| ((aH (nI s).toNatClampNeg) <<< ((3 : Int32) &&& 31))) ||| ((aN (nI s).toNatClampNeg) <<< ((6 : Int32) &&& 31)) = nI (rc_en (q s)) := by
        rw [e, hS.1, hS.2.1, hS.2.2]
        exact rc_enc0 _ hb.1 _ hb.2.1 _ hb.2.2
      have hlt := rc_pk_lt (q := q) hr (s + 1) (fun j hj => hq j (by omega))
      have h54 := (rc_lN_tn (show s + 1 ≤ 5 by omega) hlt).1
      have ep : rc_pk q res (s + 1) = rc_pk q res s * 1024 + rc_en (q s) := rfl
      have e2 : (lN (rc_pk q res s) <<< ((10 : Int32).toInt64 &&& 63)) ||| (nI (rc_en (q s))).toInt64 = lN (rc_pk q res (s + 1)) := by
        rw [show (10 : Int32) = nI 10 from rfl, wb_shl _ (by decide), nI_l (by omega), ep]
        exact g_or (k := 10) (by decide) hen (by omega)
      exact br_f (nI_ge (by omega) (by omega)) ⟨hin, hin, hin, nm_r e1 (nm_r e2 (nm_r (nI_1 s) (ih (s + 1) m (by omega) (by omega))))⟩
  unfold wpX_pack
  have h := key k 0 (k + 1) (by omega) (by omega)
  refine ⟨k + 1, ?_⟩
  rw [nI_l (show res < 2 ^ 31 by omega)]
  exact h
theorem rx_unpack {post : SX → Prop} {k m : Nat} (hk : k ≤ 5) (hm : m < 16 * 1024 ^ k)
    (K : ∀ (aB' : Nat → Int32) (aH' : Nat → Int32) (aN' : Nat → Int32), rc_DA k (rc_un m k) aB' aH' aN' → post (fR, fS, nI k, fC, fG, nI (m / 1024 ^ k), rc_b2 true, fF, fA, aK, aF, aI, aL, aR, aW, aT, aB', aH', aN', aC, aG, aO, aM, aY, aP, aQ, aD)) : wpX_unpack post (fR, fS, nI k, fC, fG, fE, fW, fF, fA, aK, aF, aI, aL, aR, aW, aT, aB, aH, aN, aC, aG, aO, aM, aY, aP, aQ, aD) (lN m) := by
  have h54 := (rc_lN_tn hk hm).1
  have key : ∀ (i n : Nat) (aB : Nat → Int32) (aH : Nat → Int32) (aN : Nat → Int32), i ≤ k → i < n → (∀ s, i ≤ s → s < k → rc_SA aB aH aN s (rc_un m k s)) → wX_unpack_10 post fR fS (nI k) fC fG fE fW fF fA n (lN (m / 1024 ^ (k - i))) (nI i - 1) aK aF aI aL aR aW aT aB aH aN aC aG aO aM aY aP aQ aD := by
    intro i
    induction i with
    | zero =>
      intro n aB aH aN hi hn h
      obtain ⟨f, rfl⟩ : ∃ f, n = f + 1 := ⟨n - 1, by omega⟩
      refine br_t (by decide) ?_
      rw [lN_i]
      exact K aB aH aN (fun s hs => h s (Nat.zero_le s) hs)
    | succ i ih =>
      intro n aB aH aN hi hn h
      obtain ⟨f, rfl⟩ : ∃ f, n = f + 1 := ⟨n - 1, by omega⟩
      have hin : vp_in (nI i) 5 := vp_in_nI (by omega) (by decide)
      have e : (nI i).toNatClampNeg = i := nI_clamp (by omega)
      have hlt : m / 1024 ^ (k - (i + 1)) < 2 ^ 54 := Nat.lt_of_le_of_lt (Nat.div_le_self _ _) h54
      have e1 : (lN (m / 1024 ^ (k - (i + 1))) &&& 1023).toInt32 = nI (m / 1024 ^ (k - (i + 1)) % 1024) := by
        rw [show (1023 : Int64) = lN (1024 - 1) from rfl, g_mask (s := 10) (p := 1024) (by decide) (by decide) (by omega), lN_i]
      have hd := rc_dec0 (m / 1024 ^ (k - (i + 1)) % 1024) (Nat.mod_lt _ (by decide))
      have e2 : lN (m / 1024 ^ (k - (i + 1))) >>> ((10 : Int32).toInt64 &&& 63) = lN (m / 1024 ^ (k - i)) := by
        rw [pf_shr (d := 10) (by decide) (by omega), show (2 : Nat) ^ 10 = 1024 from rfl, Nat.div_div_eq_div_mul, ← Nat.pow_succ]
        congr 3; omega
      rw [nI_pred]
      refine br_f (nI_pos (by omega)) (nm_r e1 ⟨hin, nm_e ⟨hin, nm_e ⟨hin, nm_e (nm_r e2 (nm_r (Int32.sub_eq_add_neg (nI i) 1).symm ?_))⟩⟩⟩)
      have hu : rc_un m k i = rc_de (m / 1024 ^ (k - (i + 1)) % 1024) := by
        unfold rc_un
        rw [show k - 1 - i = k - (i + 1) by omega]
      generalize m / 1024 ^ (k - (i + 1)) % 1024 = dd at hd hu
      have b1 : dd < 8192 → True := fun _ => trivial
      rw [e, hd.1, hd.2.1, hd.2.2]
      refine ih f _ _ _ (by omega) (by omega) ?_
      intro s hs hsk
      by_cases z : s = i
      · rw [z, hu]
        have hb : rc_bq (rc_un m k i) := rc_un_b m k i (by omega)
        rw [hu] at hb
        refine ⟨?_, ?_, ?_⟩
        · rw [pk_us]; exact rc_by' (show dd % 8 < 128 by omega)
        · rw [pk_us]; exact rc_by' (show dd / 8 % 8 < 128 by omega)
        · rw [pk_us]; exact rc_by' (show dd / 64 < 128 by have h16 : dd / 64 < 16 := hb.2.2; omega)
      · have := h s (by omega) hsk
        exact ⟨(pk_un z).trans this.1, (pk_un z).trans this.2.1, (pk_un z).trans this.2.2⟩
  unfold wpX_unpack
  refine nm_e ⟨k + 1, ?_⟩
  have h := key k (k + 1) aB aH aN (Nat.le_refl k) (by omega) (fun s h1 h2 => absurd h2 (by omega))
  rw [Nat.sub_self, Nat.pow_zero, Nat.div_one] at h
  exact h
theorem rx_keep {post : SX → Prop} {x1 : Int64} {x3 : Int32} {t : Nat} (ht : t < 1024)
    (K : ∀ (t' : Nat) (aP' : Nat → Int64) (aQ' : Nat → Int32), t' ≤ t + 1 → (∀ f : Int64 → Int32, rc_ws aP' aQ' f t' = rc_ws aP aQ f t + x3 * f x1) → (∀ j, j < t' → aP' j = x1 ∨ ∃ i, i < t ∧ aP' j = aP i) → post (fR, fS, fL, fC, fG, fE, fW, fF, nI t', aK, aF, aI, aL, aR, aW, aT, aB, aH, aN, aC, aG, aO, aM, aY, aP', aQ', aD)) :
    wpX_keepNext post (fR, fS, fL, fC, fG, fE, fW, fF, nI t, aK, aF, aI, aL, aR, aW, aT, aB, aH, aN, aC, aG, aO, aM, aY, aP, aQ, aD) x1 x3 := by
  have key : ∀ (d i n : Nat), i + d = t → d < n → wX_keepNext_3 post x1 x3 fR fS fL fC fG fE fW fF (nI t) aK aF aI aL aR aW aT aB aH aN aC aG aO aM aY aP aQ aD n (nI i) := by
    intro d
    induction d with
    | zero =>
      intro i n hi hn
      obtain ⟨m, rfl⟩ : ∃ m, n = m + 1 := ⟨n - 1, by omega⟩
      have e : (nI t).toNatClampNeg = t := nI_clamp (by omega)
      have hin : vp_in (nI t) 1024 := vp_in_nI ht (by decide)
      refine br_t (nI_le (by omega) (by omega)) ⟨hin, nm_e ⟨hin, nm_e (nm_r (nI_1 t) ?_)⟩⟩
      rw [e]
      refine K (t + 1) _ _ (Nat.le_refl _) ?_ ?_
      · intro f
        show rc_ws _ _ f t + upd aQ t x3 t * f (vp_updL aP t x1 t) = _
        rw [pk_us, pk_uLs, rc_ws_congr (aM := aP) (aY := aQ) f t (fun j hj => ⟨pk_uLn (by omega), pk_un (by omega)⟩)]
      · intro j hj
        by_cases z : j = t
        · exact Or.inl (by rw [z]; exact pk_uLs)
        · exact Or.inr ⟨j, by omega, pk_uLn z⟩
    | succ d ih =>
      intro i n hi hn
      obtain ⟨m, rfl⟩ : ∃ m, n = m + 1 := ⟨n - 1, by omega⟩
      have e : (nI i).toNatClampNeg = i := nI_clamp (by omega)
      have hin : vp_in (nI i) 1024 := vp_in_nI (by omega) (by decide)
      refine br_f (nI_ge (by omega) (by omega)) ⟨hin, ?_⟩
      rw [e]
      by_cases z : aP i = x1
      · refine br_t z ⟨hin, hin, nm_e ?_⟩
        refine K t aP _ (by omega) ?_ (fun j hj => Or.inr ⟨j, hj, rfl⟩)
        intro f
        rw [rc_ws_add f x3 t (by omega), z]
      · exact br_f z (nm_r (nI_1 i) (ih (i + 1) m (by omega) (by omega)))
  unfold wpX_keepNext
  exact ⟨t + 1, key t 0 (t + 1) (by omega) (by omega)⟩
theorem rx_one77 {post : SX → Prop} {t : Nat} (ht : t ≤ 1024)
    (K : ∀ (aM' : Nat → Int64) (aY' : Nat → Int32), (∀ j, j < t → aM' j = aP j ∧ aY' j = aQ j) → post (fR, fS, fL, fC, fG, fE, fW, nI t, nI t, aK, aF, aI, aL, aR, aW, aT, aB, aH, aN, aC, aG, aO, aM', aY', aP, aQ, aD)) :
    ∀ (d i n : Nat) (aM : Nat → Int64) (aY : Nat → Int32), i + d = t → d < n → (∀ j, j < i → aM j = aP j ∧ aY j = aQ j) → wX_oneMore_77 post fR fS fL fC fG fE fW (nI t) (nI t) n (nI i) aK aF aI aL aR aW aT aB aH aN aC aG aO aM aY aP aQ aD := by
  intro d
  induction d with
  | zero =>
    intro i n aM aY hi hn h
    obtain ⟨m, rfl⟩ : ∃ m, n = m + 1 := ⟨n - 1, by omega⟩
    exact br_t (nI_le (by omega) (by omega)) (K aM aY (fun j hj => h j (by omega)))
  | succ d ih =>
    intro i n aM aY hi hn h
    obtain ⟨m, rfl⟩ : ∃ m, n = m + 1 := ⟨n - 1, by omega⟩
    have e : (nI i).toNatClampNeg = i := nI_clamp (by omega)
    have hin : vp_in (nI i) 1024 := vp_in_nI (by omega) (by decide)
    refine br_f (nI_ge (by omega) (by omega)) ⟨hin, hin, nm_e ⟨hin, hin, nm_e (nm_r (nI_1 i) ?_)⟩⟩
    rw [e]
    refine ih (i + 1) m _ _ (by omega) (by omega) ?_
    intro j hj
    by_cases z : j = i
    · rw [z]; exact ⟨pk_uLs, pk_us⟩
    · have := h j (by omega)
      exact ⟨(pk_uLn z).trans this.1, (pk_un z).trans this.2⟩
theorem rx_one7 {post : SX → Prop} {k i found : Nat} {ρ : Nat → rc_R} {W : List Nat} (hk : k ≤ 5) (hLA : rc_LA k ρ aK aF aI aL aR aT) (hW : rc_A aW W) (hWl : W.length ≤ 12) (hW3 : ∀ a ∈ W, a ≤ 3) (hf : 4 * found ≤ 1024) (hM : rc_VM k found aM)
    (K : ∀ (t : Nat) (fC' : Int32) (fG' : Int32) (fE' : Int32) (fW' : Int32) (aB' : Nat → Int32) (aH' : Nat → Int32) (aN' : Nat → Int32) (aC' : Nat → Int32) (aG' : Nat → Int32) (aO' : Nat → Int32) (aP' : Nat → Int64) (aQ' : Nat → Int32), t ≤ 4 * found → rc_VM k t aP' → rc_ws aP' aQ' (rc_F ρ k W i) t = rc_rs aM aY (rc_G ρ k W i) (4 * found) → ∃ n77, wX_oneMore_77 post fR (nI W.length) (nI k) fC' fG' fE' fW' (nI t) (nI t) n77 0 aK aF aI aL aR aW aT aB' aH' aN' aC' aG' aO' aM aY aP' aQ' aD) :
    ∀ (d c n t : Nat) (fC : Int32) (fG : Int32) (fE : Int32) (fW : Int32) (aB : Nat → Int32) (aH : Nat → Int32) (aN : Nat → Int32) (aC : Nat → Int32) (aG : Nat → Int32) (aO : Nat → Int32) (aP : Nat → Int64) (aQ : Nat → Int32), c + d = 4 * found → d < n → t ≤ c → rc_VM k t aP → rc_ws aP aQ (rc_F ρ k W i) t = rc_rs aM aY (rc_G ρ k W i) c → wX_oneMore_7 post n (nI c) fR (nI W.length) (nI k) fC fG fE fW (nI found) (nI t) aK aF aI aL aR aW aT aB aH aN aC aG aO aM aY aP aQ aD := by
  have e4 : 4 * nI found = nI (4 * found) := by rw [show (4 : Int32) = nI 4 from rfl, pk_mul]
  have hρ := rc_LA_ok hLA
  intro d
  induction d with
  | zero =>
    intro c n t fC fG fE fW aB aH aN aC aG aO aP aQ hc hn ht hV hs
    obtain ⟨m, rfl⟩ : ∃ m, n = m + 1 := ⟨n - 1, by omega⟩
    have e : c = 4 * found := hc
    subst e
    exact br_t (by rw [e4]; exact nI_le (Nat.le_refl _) (by omega)) (K t fC fG fE fW aB aH aN aC aG aO aP aQ ht hV hs)
  | succ d ih =>
    intro c n t fC fG fE fW aB aH aN aC aG aO aP aQ hc hn ht hV hs
    obtain ⟨fu, rfl⟩ : ∃ m, n = m + 1 := ⟨n - 1, by omega⟩
    have es : nI c >>> ((2 : Int32) &&& 31) = nI (c / 4) := pk_shrN (by omega) _ 2 (by decide)
    have ea : nI c &&& 3 = nI (c % 4) := pk_andN (by omega) 2 (by decide)
    have hin : vp_in (nI (c / 4)) 1024 := vp_in_nI (by omega) (by decide)
    have ec : (nI (c / 4)).toNatClampNeg = c / 4 := nI_clamp (by omega)
    obtain ⟨m, hm, em⟩ := hM (c / 4) (by omega)
    have hres : m / 1024 ^ k < 16 := by
      rw [Nat.div_lt_iff_lt_mul (Nat.pow_pos (by decide))]; exact hm
    have hub := rc_un_b m k
    refine br_f (by rw [e4]; exact nI_ge (by omega) (by omega)) ?_
    rw [es, ea, ec, em]
    refine ⟨hin, rx_unpack hk hm ?_⟩
    intro aB' aH' aN' kD
    refine rx_feedL (a := c % 4) (by omega) (by omega) hk hLA kD hub hW hWl (rc_3_8 hW3) hres ?_
    intro fC2 fG2 aB2 aH2 aN2 aC2 aG2 aO2 k1 k2
    have hz : rc_zl ρ k W (rc_un m k) (m / 1024 ^ k) (c % 4) = rc_ff W (m / 1024 ^ k, true) (rc_ca ρ (rc_un m k) false [c % 4] k) := rfl
    have h16 := rc_ff_16 W (rc_ca ρ (rc_un m k) false [c % 4] k) (m / 1024 ^ k, true) hres
    rw [← hz] at h16
    rw [← hz]
    have hnq := rc_nq_lt ρ hρ hub false (as := [c % 4]) (fun x hx => by rw [List.mem_singleton] at hx; omega)
    have ers : rc_rs aM aY (rc_G ρ k W i) (c + 1) = rc_rs aM aY (rc_G ρ k W i) c + aY (c / 4) * nI (rc_cl ρ k W i (rc_un m k) (m / 1024 ^ k) (c % 4)) := by
      show rc_rs aM aY (rc_G ρ k W i) c + aY (c / 4) * rc_G ρ k W i (aM (c / 4)) (c % 4) = _
      rw [em, rc_G_l hk hm]
    refine rc_b2_0 _ ?_ ?_
    · intro hb
      refine nm_r (nI_1 c) ?_
      refine ih (c + 1) fu t fC2 fG2 _ _ aB2 aH2 aN2 aC2 aG2 aO2 aP aQ (by omega) (by omega) (by omega) hV ?_
      rw [ers, hs]
      unfold rc_cl
      rw [hb, if_neg (by decide), show nI 0 = (0 : Int32) from rfl, Int32.mul_zero, Int32.add_zero]
    · intro hb
      refine rx_pack hk k1 hnq h16 ?_
      refine ⟨hin, ?_⟩
      refine rx_keep (by omega) ?_
      intro t' aP' aQ' m1 m2 m3
      refine nm_r (nI_1 c) ?_
      have hpk := rc_pk_lt h16 k hnq
      refine ih (c + 1) fu t' fC2 fG2 _ _ aB2 aH2 aN2 aC2 aG2 aO2 aP' aQ' (by omega) (by omega) (by omega) ?_ ?_
      · intro j hj
        rcases m3 j hj with z | ⟨j', hj', z⟩
        · exact ⟨_, hpk, z⟩
        · rw [z]; exact hV j' hj'
      · rw [m2, ers, hs, rc_F_l hk hpk, rc_ct_pk ρ W hnq]
        unfold rc_cl
        rw [hb, if_pos rfl]
theorem rx_one {post : SX → Prop} {k i found : Nat} {ρ : Nat → rc_R} {W : List Nat} (hk : k ≤ 5) (hLA : rc_LA k ρ aK aF aI aL aR aT) (hW : rc_A aW W) (hWl : W.length ≤ 12) (hW3 : ∀ a ∈ W, a ≤ 3) (hf : 4 * found ≤ 1024) (hM : rc_VM k found aM)
    (K : ∀ (t : Nat) (fC' : Int32) (fG' : Int32) (fE' : Int32) (fW' : Int32) (fA' : Int32) (aB' : Nat → Int32) (aH' : Nat → Int32) (aN' : Nat → Int32) (aC' : Nat → Int32) (aG' : Nat → Int32) (aO' : Nat → Int32) (aM' : Nat → Int64) (aY' : Nat → Int32) (aP' : Nat → Int64) (aQ' : Nat → Int32), t ≤ 4 * found → rc_VM k t aM' → rc_ws aM' aY' (rc_F ρ k W i) t = rc_ws aM aY (rc_F ρ k W (i + 1)) found → post (fR, nI W.length, nI k, fC', fG', fE', fW', nI t, fA', aK, aF, aI, aL, aR, aW, aT, aB', aH', aN', aC', aG', aO', aM', aY', aP', aQ', aD)) :
    wpX_oneMore post (fR, nI W.length, nI k, fC, fG, fE, fW, nI found, fA, aK, aF, aI, aL, aR, aW, aT, aB, aH, aN, aC, aG, aO, aM, aY, aP, aQ, aD) := by
  unfold wpX_oneMore
  refine ⟨4 * found + 1, ?_⟩
  refine rx_one7 (i := i) hk hLA hW hWl hW3 hf hM ?_ (4 * found) 0 (4 * found + 1) 0 fC fG fE fW aB aH aN aC aG aO aP aQ (by omega) (by omega) (Nat.le_refl 0) (fun j hj => absurd hj (Nat.not_lt_zero j)) rfl
  intro t fC' fG' fE' fW' aB' aH' aN' aC' aG' aO' aP' aQ' ht hV hs
  refine ⟨t + 1, ?_⟩
  refine rx_one77 (by omega) ?_ t 0 (t + 1) aM aY (by omega) (by omega) (fun j hj => absurd hj (Nat.not_lt_zero j))
  intro aM' aY' h
  refine K t fC' fG' fE' fW' _ aB' aH' aN' aC' aG' aO' aM' aY' aP' aQ' ht ?_ ?_
  · intro j hj
    rw [(h j hj).1]
    exact hV j hj
  · rw [rc_ws_congr (aM := aP') (aY := aQ') _ t h, hs, rc_rs_4, rc_F_s]
theorem rx_cnt44 {post : Int32 → SX → Prop} {k found : Nat} {ρ : Nat → rc_R} {W : List Nat} (hk : k ≤ 5) (hLA : rc_LA k ρ aK aF aI aL aR aT) (hW : rc_A aW W) (hWl : W.length ≤ 12) (hW3 : ∀ a ∈ W, a ≤ 3) (hf : found ≤ 1024) (hM : rc_VM k found aM)
    (K : ∀ (fC' : Int32) (fG' : Int32) (fE' : Int32) (fW' : Int32) (aB' : Nat → Int32) (aH' : Nat → Int32) (aN' : Nat → Int32) (aC' : Nat → Int32) (aG' : Nat → Int32) (aO' : Nat → Int32), post (rc_ws aM aY (rc_F ρ k W 0) found) (fR, nI W.length, nI k, fC', fG', fE', fW', nI found, fA, aK, aF, aI, aL, aR, aW, aT, aB', aH', aN', aC', aG', aO', aM, aY, aP, aQ, aD)) :
    ∀ (d j n : Nat) (fC : Int32) (fG : Int32) (fE : Int32) (fW : Int32) (aB : Nat → Int32) (aH : Nat → Int32) (aN : Nat → Int32) (aC : Nat → Int32) (aG : Nat → Int32) (aO : Nat → Int32), j + d = found → d < n → wX_countFrom_44 post n (rc_ws aM aY (rc_F ρ k W 0) j) (nI j) fR (nI W.length) (nI k) fC fG fE fW (nI found) fA aK aF aI aL aR aW aT aB aH aN aC aG aO aM aY aP aQ aD := by
  intro d
  induction d with
  | zero =>
    intro j n fC fG fE fW aB aH aN aC aG aO hj hn
    obtain ⟨m, rfl⟩ : ∃ m, n = m + 1 := ⟨n - 1, by omega⟩
    have e : j = found := hj
    subst e
    exact br_t (nI_le (Nat.le_refl j) (by omega)) (K fC fG fE fW aB aH aN aC aG aO)
  | succ d ih =>
    intro j n fC fG fE fW aB aH aN aC aG aO hj hn
    obtain ⟨fu, rfl⟩ : ∃ m, n = m + 1 := ⟨n - 1, by omega⟩
    have hin : vp_in (nI j) 1024 := vp_in_nI (by omega) (by decide)
    have ec : (nI j).toNatClampNeg = j := nI_clamp (by omega)
    obtain ⟨m, hm, em⟩ := hM j (by omega)
    have hres : m / 1024 ^ k < 16 := by
      rw [Nat.div_lt_iff_lt_mul (Nat.pow_pos (by decide))]; exact hm
    have hub := rc_un_b m k
    refine br_f (nI_ge (by omega) (by omega)) ⟨hin, ?_⟩
    rw [ec, em]
    refine rx_unpack hk hm ?_
    intro aB' aH' aN' kD
    refine rx_feedE hk hLA kD hub hW hWl (rc_3_8 hW3) hres ?_
    intro fC2 fG2 aB2 aH2 aN2 aC2 aG2 aO2 k1 k2
    have h16 := rc_ff_16 W (rc_ca ρ (rc_un m k) true [] k) (m / 1024 ^ k, true) hres
    have ews : rc_ws aM aY (rc_F ρ k W 0) (j + 1) = rc_ws aM aY (rc_F ρ k W 0) j + aY j * nI (if rc_zz W (rc_ff W (m / 1024 ^ k, true) (rc_ca ρ (rc_un m k) true [] k)) = true then 1 else 0) := by
      show rc_ws aM aY (rc_F ρ k W 0) j + aY j * rc_F ρ k W 0 (aM j) = _
      rw [em, rc_F_l hk hm]
      rfl
    generalize rc_ff W (m / 1024 ^ k, true) (rc_ca ρ (rc_un m k) true [] k) = z at h16 ews
    obtain ⟨zn, zb⟩ := z
    replace h16 : zn < 16 := h16
    have no : rc_zz W (zn, zb) = false → rc_ws aM aY (rc_F ρ k W 0) (j + 1) = rc_ws aM aY (rc_F ρ k W 0) j := by
      intro hz
      rw [ews, hz, if_neg (by decide), show nI 0 = (0 : Int32) from rfl, Int32.mul_zero, Int32.add_zero]
    refine rc_b2_0 zb ?_ ?_
    · intro hb
      have e2 := no (by unfold rc_zz; rw [hb]; rfl)
      refine nm_r (nI_1 j) ?_
      rw [← e2]
      exact ih (j + 1) fu fC2 fG2 _ _ aB2 aH2 aN2 aC2 aG2 aO2 (by omega) (by omega)
    · intro hb
      by_cases hl : zn = W.length
      · have e2 : rc_ws aM aY (rc_F ρ k W 0) j + aY j = rc_ws aM aY (rc_F ρ k W 0) (j + 1) := by
          have hz : rc_zz W (zn, zb) = true := by
            unfold rc_zz
            rw [hb]
            exact decide_eq_true hl
          rw [ews, hz, if_pos rfl, show nI 1 = (1 : Int32) from rfl, Int32.mul_one]
        exact br_t (by rw [hl]) ⟨hin, nm_r e2 (nm_r (nI_1 j) (ih (j + 1) fu fC2 fG2 _ _ aB2 aH2 aN2 aC2 aG2 aO2 (by omega) (by omega)))⟩
      · have e2 := no (by unfold rc_zz; show (zb && decide (zn = W.length)) = false; rw [decide_eq_false hl, Bool.and_false])
        refine br_f (fun y => hl (rc_nI8 (by omega) (by omega) y)) (nm_r (nI_1 j) ?_)
        rw [← e2]
        exact ih (j + 1) fu fC2 fG2 _ _ aB2 aH2 aN2 aC2 aG2 aO2 (by omega) (by omega)
theorem rx_cnt22 {post : Int32 → SX → Prop} {k n : Nat} {V : Int32} {ρ : Nat → rc_R} {W : List Nat} (hk : k ≤ 5) (hLA : rc_LA k ρ aK aF aI aL aR aT) (hW : rc_A aW W) (hWl : W.length ≤ 12) (hW3 : ∀ a ∈ W, a ≤ 3) (hn : n ≤ 5)
    (K : ∀ (fC' : Int32) (fG' : Int32) (fE' : Int32) (fW' : Int32) (fF' : Int32) (fA' : Int32) (aB' : Nat → Int32) (aH' : Nat → Int32) (aN' : Nat → Int32) (aC' : Nat → Int32) (aG' : Nat → Int32) (aO' : Nat → Int32) (aM' : Nat → Int64) (aY' : Nat → Int32) (aP' : Nat → Int64) (aQ' : Nat → Int32), post V (fR, nI W.length, nI k, fC', fG', fE', fW', fF', fA', aK, aF, aI, aL, aR, aW, aT, aB', aH', aN', aC', aG', aO', aM', aY', aP', aQ', aD)) :
    ∀ (d j f found : Nat) (fC : Int32) (fG : Int32) (fE : Int32) (fW : Int32) (fA : Int32) (aB : Nat → Int32) (aH : Nat → Int32) (aN : Nat → Int32) (aC : Nat → Int32) (aG : Nat → Int32) (aO : Nat → Int32) (aM : Nat → Int64) (aY : Nat → Int32) (aP : Nat → Int64) (aQ : Nat → Int32), j + d = n → d < f → found ≤ 4 ^ j → rc_VM k found aM → rc_ws aM aY (rc_F ρ k W d) found = V → wX_countFrom_22 post (nI n) f (nI j) fR (nI W.length) (nI k) fC fG fE fW (nI found) fA aK aF aI aL aR aW aT aB aH aN aC aG aO aM aY aP aQ aD := by
  intro d
  induction d with
  | zero =>
    intro j f found fC fG fE fW fA aB aH aN aC aG aO aM aY aP aQ hj hf hfo hM hs
    obtain ⟨m, rfl⟩ : ∃ m, f = m + 1 := ⟨f - 1, by omega⟩
    have h4 := rc_4n j (by omega)
    refine br_t (nI_le (by omega) (by omega)) ⟨found + 1, ?_⟩
    refine rx_cnt44 hk hLA hW hWl hW3 (by omega) hM ?_ found 0 (found + 1) fC fG fE fW aB aH aN aC aG aO (by omega) (by omega)
    rw [hs]
    intro fC' fG' fE' fW' aB' aH' aN' aC' aG' aO'
    exact K _ _ _ _ _ _ _ _ _ _ _ _ _ _ _ _
  | succ d ih =>
    intro j f found fC fG fE fW fA aB aH aN aC aG aO aM aY aP aQ hj hf hfo hM hs
    obtain ⟨m, rfl⟩ : ∃ m, f = m + 1 := ⟨f - 1, by omega⟩
    have h4 := rc_4n (j + 1) (by omega)
    have ep : (4 : Nat) ^ (j + 1) = 4 ^ j * 4 := Nat.pow_succ 4 j
    refine br_f (nI_ge (by omega) (by omega)) ?_
    refine rx_one (i := d) hk hLA hW hWl hW3 (by omega) hM ?_
    intro t fC' fG' fE' fW' fA' aB' aH' aN' aC' aG' aO' aM' aY' aP' aQ' ht hV hs'
    refine nm_r (nI_1 j) ?_
    exact ih (j + 1) m t fC' fG' fE' fW' fA' aB' aH' aN' aC' aG' aO' aM' aY' aP' aQ' (by omega) (by omega) (by omega) hV (hs'.trans hs)
theorem rx_count {post : Int32 → SX → Prop} {k n m : Nat} {ρ : Nat → rc_R} {W : List Nat} (hk : k ≤ 5) (hLA : rc_LA k ρ aK aF aI aL aR aT) (hW : rc_A aW W) (hWl : W.length ≤ 12) (hW3 : ∀ a ∈ W, a ≤ 3) (hn : n ≤ 5) (hm : m < 16 * 1024 ^ k)
    (K : ∀ (fC' : Int32) (fG' : Int32) (fE' : Int32) (fW' : Int32) (fF' : Int32) (fA' : Int32) (aB' : Nat → Int32) (aH' : Nat → Int32) (aN' : Nat → Int32) (aC' : Nat → Int32) (aG' : Nat → Int32) (aO' : Nat → Int32) (aM' : Nat → Int64) (aY' : Nat → Int32) (aP' : Nat → Int64) (aQ' : Nat → Int32), post (nI (rc_ct ρ k W n (rc_un m k) (m / 1024 ^ k))) (fR, nI W.length, nI k, fC', fG', fE', fW', fF', fA', aK, aF, aI, aL, aR, aW, aT, aB', aH', aN', aC', aG', aO', aM', aY', aP', aQ', aD)) :
    wpX_countFrom post (fR, nI W.length, nI k, fC, fG, fE, fW, fF, fA, aK, aF, aI, aL, aR, aW, aT, aB, aH, aN, aC, aG, aO, aM, aY, aP, aQ, aD) (lN m) (nI n) := by
  unfold wpX_countFrom
  refine nm_e (nm_e ⟨n + 1, ?_⟩)
  refine rx_cnt22 hk hLA hW hWl hW3 hn K n 0 (n + 1) 1 fC fG fE fW fA aB aH aN aC aG aO _ _ aP aQ (by omega) (by omega) (Nat.le_refl 1) ?_ ?_
  · intro j hj
    have : j = 0 := by omega
    rw [this]
    exact ⟨m, hm, pk_uLs⟩
  · show 0 + upd aY 0 1 0 * rc_F ρ k W n (vp_updL aM 0 (lN m) 0) = _
    rw [pk_us, pk_uLs, rc_F_l hk hm, Int32.zero_add, Int32.one_mul]
end
end
section
def rc_P (ρ : Nat → rc_R) (c : Nat) (W : List Nat) (n w : Nat) : Bool := decide (rc_wa ρ (rc_dg n w) c = W)
theorem rc_P_ac {ρ : Nat → rc_R} {c : Nat} (hρ : ∀ s, s < c → rc_ok (ρ s)) (W : List Nat) {n : Nat} (hn : n ≤ 5) (w : Nat) : rc_P ρ c W n w = rc_ac ρ c W rc_q0 0 (rc_dg n w) := by
  have h := rc_ac_wa ρ hρ W (rc_dg n w) (rc_dg_le n w) (by rw [rc_dg_len]; omega)
  unfold rc_P
  rcases hb : rc_ac ρ c W rc_q0 0 (rc_dg n w) with _ | _
  · exact decide_eq_false (fun z => by rw [← h, hb] at z; exact absurd z (by decide))
  · exact decide_eq_true (h.mp hb)
theorem rc_ct_P {ρ : Nat → rc_R} {c : Nat} (hρ : ∀ s, s < c → rc_ok (ρ s)) (W : List Nat) {n : Nat} (hn : n ≤ 5) : rc_ct ρ c W n rc_q0 0 = rc_cn (rc_P ρ c W n) (4 ^ n) := by
  rw [rc_ct_cn]
  exact rc_cn_congr _ fun v _ => (rc_P_ac hρ W hn v).symm
theorem rc_blk {ρ : Nat → rc_R} {c : Nat} {W : List Nat} {P : Nat → Bool} {p i l res : Nat} {q : Nat → rc_Q} (Hp : ∀ v, v < 4 ^ (i + 1) → P (p * 4 ^ (i + 1) + v) = rc_ac ρ c W q res (rc_dg (i + 1) v)) (hl : l < 4) :
    (∀ v, v < 4 ^ i → P ((4 * p + l) * 4 ^ i + v) = ((rc_zl ρ c W q res l).2 && rc_ac ρ c W (rc_nq ρ q false [l]) (rc_zl ρ c W q res l).1 (rc_dg i v))) ∧ rc_cn P ((4 * p + l + 1) * 4 ^ i) = rc_cn P ((4 * p + l) * 4 ^ i) + rc_cl ρ c W i q res l := by
  have h1 : ∀ v, v < 4 ^ i → P ((4 * p + l) * 4 ^ i + v) = ((rc_zl ρ c W q res l).2 && rc_ac ρ c W (rc_nq ρ q false [l]) (rc_zl ρ c W q res l).1 (rc_dg i v)) := by
    intro v hv
    have e : (4 * p + l) * 4 ^ i + v = p * 4 ^ (i + 1) + (l * 4 ^ i + v) := by
      rw [Nat.pow_succ, Nat.add_mul, Nat.mul_comm 4 p, Nat.mul_assoc, Nat.mul_comm 4 (4 ^ i), Nat.add_assoc]
    have hlt : l * 4 ^ i + v < 4 ^ (i + 1) := by
      rw [Nat.pow_succ]
      have : l * 4 ^ i ≤ 3 * 4 ^ i := Nat.mul_le_mul_right _ (by omega)
      omega
    rw [e, Hp _ hlt, rc_dg_cons hl hv]
    rfl
  refine ⟨h1, ?_⟩
  rw [Nat.add_mul (4 * p + l) 1, Nat.one_mul, rc_cn_add]
  congr 1
  unfold rc_cl
  rcases hz : (rc_zl ρ c W q res l).2 with _ | _
  · rw [if_neg (by decide), ← rc_cn_false (4 ^ i)]
    refine rc_cn_congr _ fun v hv => ?_
    show P ((4 * p + l) * 4 ^ i + v) = false
    rw [h1 v hv, hz]; rfl
  · rw [if_pos rfl, rc_ct_cn]
    refine rc_cn_congr _ fun v hv => ?_
    show P ((4 * p + l) * 4 ^ i + v) = _
    rw [h1 v hv, hz]; rfl
section
variable {fR : Int32} {fS : Int32} {fL : Int32} {fC : Int32} {fG : Int32} {fE : Int32} {fW : Int32} {fF : Int32} {fA : Int32} {aK : Nat → Int32} {aF : Nat → Int32} {aI : Nat → Int32} {aL : Nat → Int32} {aR : Nat → Int32} {aW : Nat → Int32} {aT : Nat → Int32} {aB : Nat → Int32} {aH : Nat → Int32} {aN : Nat → Int32} {aC : Nat → Int32} {aG : Nat → Int32} {aO : Nat → Int32} {aM : Nat → Int64} {aY : Nat → Int32} {aP : Nat → Int64} {aQ : Nat → Int32} {aD : Nat → Int32}
theorem rx_ok5 {post : Int32 → Prop} {n : Nat} (hn : n ≤ 5) (K : post 0) : wpX_badNumber post (fR, fS, fL, fC, fG, fE, fW, fF, fA, aK, aF, aI, aL, aR, aW, aT, aB, aH, aN, aC, aG, aO, aM, aY, aP, aQ, aD) (nI n) := by
  unfold wpX_badNumber
  exact br_f (nI_pos (by omega)) (br_t (nI_le (b := 5) hn (by decide)) K)
theorem rx_no5 {post : Int32 → Prop} {x : Int32} (h : x < 0 ∨ ¬ x ≤ 5) (K : post 1) : wpX_badNumber post (fR, fS, fL, fC, fG, fE, fW, fF, fA, aK, aF, aI, aL, aR, aW, aT, aB, aH, aN, aC, aG, aO, aM, aY, aP, aQ, aD) x := by
  unfold wpX_badNumber
  by_cases h0 : x < 0
  · exact br_t h0 K
  · exact br_f h0 (br_f (h.resolve_left h0) K)
theorem rx_sources {post : Int32 → SX → Prop} {c n : Nat} {ρ : Nat → rc_R} {W : List Nat} (hk : c ≤ 5) (hRA : ∀ r, r < c → rc_RA aK aF aI aL aR r (ρ r)) (hW : rc_A aW W) (hWl : W.length ≤ 12) (hW3 : ∀ a ∈ W, a ≤ 3) (hn : n ≤ 5)
    (K : ∀ (fL' : Int32) (fC' : Int32) (fG' : Int32) (fE' : Int32) (fW' : Int32) (fF' : Int32) (fA' : Int32) (aT' : Nat → Int32) (aB' : Nat → Int32) (aH' : Nat → Int32) (aN' : Nat → Int32) (aC' : Nat → Int32) (aG' : Nat → Int32) (aO' : Nat → Int32) (aM' : Nat → Int64) (aY' : Nat → Int32) (aP' : Nat → Int64) (aQ' : Nat → Int32), post (nI (rc_cn (rc_P ρ c W n) (4 ^ n))) (nI c, nI W.length, fL', fC', fG', fE', fW', fF', fA', aK, aF, aI, aL, aR, aW, aT', aB', aH', aN', aC', aG', aO', aM', aY', aP', aQ', aD)) :
    wpX_sources post (nI c, nI W.length, fL, fC, fG, fE, fW, fF, fA, aK, aF, aI, aL, aR, aW, aT, aB, aH, aN, aC, aG, aO, aM, aY, aP, aQ, aD) (nI n) := by
  have hρ : ∀ s, s < c → rc_ok (ρ s) := fun s hs => (hRA s hs).2.2.2.2.2
  unfold wpX_sources
  refine rx_ok5 hn (br_t rfl ?_)
  refine rx_use hk ?_
  intro aT' kT
  have hLA : rc_LA c ρ aK aF aI aL aR aT' := fun s hs => ⟨s, by omega, kT s hs, hRA s hs⟩
  refine rx_begin ?_
  intro aB' aH' aN' kB
  have hb0 := rc_bd0 c
  refine rx_pack (q := rc_q0) hk (fun s hs => kB s (by omega)) hb0 (by decide) ?_
  refine rx_count hk hLA hW hWl hW3 hn (rc_pk_lt (by decide) c hb0) ?_
  rw [rc_ct_pk ρ W hb0, rc_ct_P hρ W hn]
  intro fC' fG' fE' fW' fF' fA' aB' aH' aN' aC' aG' aO' aM' aY' aP' aQ'
  exact K _ fC' fG' fE' fW' fF' fA' aT' aB' aH' aN' aC' aG' aO' aM' aY' aP' aQ'
theorem rx_src79 {post : Int32 → SX → Prop} {J59 : _} {c i p κ res : Nat} {P : Nat → Bool} {x7 : Int32} {q : Nat → rc_Q} {ρ : Nat → rc_R} {W : List Nat} (hk : c ≤ 5) (hLA : rc_LA c ρ aK aF aI aL aR aT) (hW : rc_A aW W) (hWl : W.length ≤ 12) (hW3 : ∀ a ∈ W, a ≤ 3) (hi : i ≤ 5) (hq : rc_bd c q) (hres : res < 16)
    (Hp : ∀ v, v < 4 ^ (i + 1) → P (p * 4 ^ (i + 1) + v) = rc_ac ρ c W q res (rc_dg (i + 1) v)) (hκ : κ < rc_cn P ((p + 1) * 4 ^ (i + 1))) (hκ31 : κ < 2 ^ 31)
    (K : ∀ (l L res' : Nat) (q' : Nat → rc_Q) (fC' : Int32) (fG' : Int32) (fE' : Int32) (fW' : Int32) (fF' : Int32) (fA' : Int32) (aB' : Nat → Int32) (aH' : Nat → Int32) (aN' : Nat → Int32) (aC' : Nat → Int32) (aG' : Nat → Int32) (aO' : Nat → Int32) (aM' : Nat → Int64) (aY' : Nat → Int32) (aP' : Nat → Int64) (aQ' : Nat → Int32), l < 4 → rc_bd c q' → res' < 16 → (∀ v, v < 4 ^ i → P ((4 * p + l) * 4 ^ i + v) = rc_ac ρ c W q' res' (rc_dg i v)) → rc_cn P ((4 * p + l) * 4 ^ i) + L = κ → κ < rc_cn P ((4 * p + l + 1) * 4 ^ i) →
      wX_source_177 post J59 (nI L) x7 (nI i) (nI l) (lN (rc_pk q' res' c)) fR (nI W.length) (nI c) fC' fG' fE' fW' fF' fA' aK aF aI aL aR aW aT aB' aH' aN' aC' aG' aO' aM' aY' aP' aQ' aD) :
    ∀ (d l f L : Nat) (x9 : Int32) (x10 : Int64) (fC : Int32) (fG : Int32) (fE : Int32) (fW : Int32) (fF : Int32) (fA : Int32) (aB : Nat → Int32) (aH : Nat → Int32) (aN : Nat → Int32) (aC : Nat → Int32) (aG : Nat → Int32) (aO : Nat → Int32) (aM : Nat → Int64) (aY : Nat → Int32) (aP : Nat → Int64) (aQ : Nat → Int32), l + d = 4 → d + 1 < f → rc_cn P ((4 * p + l) * 4 ^ i) + L = κ → wX_source_79 post J59 (lN (rc_pk q res c)) x7 (nI i) f (nI L) x9 x10 1 (nI l) fR (nI W.length) (nI c) fC fG fE fW fF fA aK aF aI aL aR aW aT aB aH aN aC aG aO aM aY aP aQ aD := by
  have hρ := rc_LA_ok hLA
  intro d
  induction d with
  | zero =>
    intro l f L x9 x10 fC fG fE fW fF fA aB aH aN aC aG aO aM aY aP aQ hl hf hL
    exfalso
    have e : (4 * p + l) * 4 ^ i = (p + 1) * 4 ^ (i + 1) := by
      have e4 : l = 4 := hl
      rw [e4, Nat.pow_succ, show 4 * p + 4 = (p + 1) * 4 by omega, Nat.mul_assoc, Nat.mul_comm 4 (4 ^ i)]
    rw [e] at hL
    omega
  | succ d ih =>
    intro l f L x9 x10 fC fG fE fW fF fA aB aH aN aC aG aO aM aY aP aQ hl hf hL
    obtain ⟨f, rfl⟩ : ∃ m, f = m + 2 := ⟨f - 2, by omega⟩
    have hpk := rc_pk_lt (q := q) hres c hq
    have hbl := rc_blk Hp (show l < 4 by omega)
    have hub := hq
    refine br_f (nI_ge (b := 4) (by omega) (by decide)) (br_f (by decide) ?_)
    refine rx_unpack hk hpk ?_
    rw [rc_ur_pk hq]
    intro aB' aH' aN' kD
    have kD' : rc_DA c q aB' aH' aN' := fun s hs => by
      have := kD s hs
      rw [rc_un_pk hq s hs] at this
      exact this
    refine rx_feedL (a := l) (by omega) (by omega) hk hLA kD' hq hW hWl (rc_3_8 hW3) hres ?_
    intro fC2 fG2 aB2 aH2 aN2 aC2 aG2 aO2 k1 k2
    have hz : rc_zl ρ c W q res l = rc_ff W (res, true) (rc_ca ρ q false [l] c) := rfl
    have h16 := rc_ff_16 W (rc_ca ρ q false [l] c) (res, true) hres
    rw [← hz] at h16
    rw [← hz]
    have hnq := rc_nq_lt ρ hρ hq false (as := [l]) (fun x hx => by rw [List.mem_singleton] at hx; omega)
    have hpk2 := rc_pk_lt h16 c hnq
    refine rx_pack hk k1 hnq h16 ?_
    refine rx_count hk hLA hW hWl hW3 hi hpk2 ?_
    rw [rc_ct_pk ρ W hnq]
    intro fC3 fG3 fE3 fW3 fF3 fA3 aB3 aH3 aN3 aC3 aG3 aO3 aM3 aY3 aP3 aQ3
    have hcl : rc_cl ρ c W i q res l < 2 ^ 31 := by
      have h4 : (4 * p + l + 1) * 4 ^ i ≤ (p + 1) * 4 ^ (i + 1) := by
        rw [Nat.pow_succ, show (p + 1) * (4 ^ i * 4) = (4 * p + 4) * 4 ^ i by rw [Nat.mul_comm (4 ^ i) 4, ← Nat.mul_assoc, Nat.add_mul, Nat.mul_comm p 4]]
        exact Nat.mul_le_mul_right _ (by omega)
      have e := hbl.2
      have e2 := Nat.add_mul (4 * p + l) 1 (4 ^ i)
      rw [Nat.one_mul] at e2
      have e3 := rc_cn_add P ((4 * p + l) * 4 ^ i) (4 ^ i)
      rw [← e2] at e3
      have e5 := rc_cn_le (fun v => P ((4 * p + l) * 4 ^ i + v)) (4 ^ i)
      have e6 : (4 : Nat) ^ i ≤ 1024 := rc_4n i hi
      omega
    have key : ∀ ways : Nat, ways = rc_cl ρ c W i q res l → wX_source_134 post J59 (wX_source_79 post J59 (lN (rc_pk q res c)) x7 (nI i) (f + 1)) (lN (rc_pk q res c)) (nI L) x7 (nI i) (lN (rc_pk (rc_nq ρ q false [l]) (rc_zl ρ c W q res l).1 c)) (nI l) (nI ways) fR (nI W.length) (nI c) fC3 fG3 fE3 fW3 fF3 fA3 aK aF aI aL aR aW aT aB3 aH3 aN3 aC3 aG3 aO3 aM3 aY3 aP3 aQ3 aD := by
      intro ways hways
      unfold wX_source_134
      by_cases hlt : L < ways
      · refine br_t (nI_lt hlt (by omega)) ?_
        unfold wX_source_152
        refine br_t rfl (nm_r (nI_1 l) ?_)
        have hz2 : (rc_zl ρ c W q res l).2 = true := by
          rcases hb : (rc_zl ρ c W q res l).2 with _ | _
          · exfalso
            unfold rc_cl at hways
            rw [hb, if_neg (by decide)] at hways
            omega
          · rfl
        have hK := K l L (rc_zl ρ c W q res l).1 (rc_nq ρ q false [l]) fC3 fG3 fE3 fW3 fF3 fA3 aB3 aH3 aN3 aC3 aG3 aO3 aM3 aY3 aP3 aQ3 (by omega) hnq h16 (fun v hv => by rw [hbl.1 v hv, hz2]; rfl) hL (by rw [hbl.2]; omega)
        by_cases h4 : 4 ≤ l + 1
        · exact br_t (nI_le (a := 4) h4 (by omega)) hK
        · exact br_f (nI_ge (b := 4) (by omega) (by decide)) (br_t rfl hK)
      · refine br_f (nI_nlt (by omega) (by omega)) ?_
        unfold wX_source_152
        refine br_f (by decide) (nm_r (pk_sub (by omega)) (nm_r (nI_1 l) ?_))
        refine ih (l + 1) (f + 1) (L - ways) _ _ fC3 fG3 fE3 fW3 fF3 fA3 aB3 aH3 aN3 aC3 aG3 aO3 aM3 aY3 aP3 aQ3 (by omega) (by omega) ?_
        show rc_cn P ((4 * p + l + 1) * 4 ^ i) + (L - ways) = κ
        rw [hbl.2]
        omega
    refine rc_b2_0 _ ?_ ?_
    · intro hb
      exact key 0 (by unfold rc_cl; rw [hb, if_neg (by decide)])
    · intro hb
      exact key _ (by unfold rc_cl; rw [hb, if_pos rfl])
theorem rx_src59 {post : Int32 → SX → Prop} {c n κ : Nat} {P : Nat → Bool} {ρ : Nat → rc_R} {W : List Nat} (hk : c ≤ 5) (hLA : rc_LA c ρ aK aF aI aL aR aT) (hW : rc_A aW W) (hWl : W.length ≤ 12) (hW3 : ∀ a ∈ W, a ≤ 3) (hn : n ≤ 5) (hκ31 : κ < 2 ^ 31)
    (K : ∀ (w : Nat) (fC' : Int32) (fG' : Int32) (fE' : Int32) (fW' : Int32) (fF' : Int32) (fA' : Int32) (aB' : Nat → Int32) (aH' : Nat → Int32) (aN' : Nat → Int32) (aC' : Nat → Int32) (aG' : Nat → Int32) (aO' : Nat → Int32) (aM' : Nat → Int64) (aY' : Nat → Int32) (aP' : Nat → Int64) (aQ' : Nat → Int32), w < 4 ^ n → P w = true → rc_cn P w = κ → post (nI (4 ^ n + w)) (fR, nI W.length, nI c, fC', fG', fE', fW', fF', fA', aK, aF, aI, aL, aR, aW, aT, aB', aH', aN', aC', aG', aO', aM', aY', aP', aQ', aD)) :
    ∀ (i f p L res : Nat) (q : Nat → rc_Q) (fC : Int32) (fG : Int32) (fE : Int32) (fW : Int32) (fF : Int32) (fA : Int32) (aB : Nat → Int32) (aH : Nat → Int32) (aN : Nat → Int32) (aC : Nat → Int32) (aG : Nat → Int32) (aO : Nat → Int32) (aM : Nat → Int64) (aY : Nat → Int32) (aP : Nat → Int64) (aQ : Nat → Int32), i < f → i ≤ n → rc_bd c q → res < 16 → (∀ v, v < 4 ^ i → P (p * 4 ^ i + v) = rc_ac ρ c W q res (rc_dg i v)) → rc_cn P (p * 4 ^ i) + L = κ → κ < rc_cn P ((p + 1) * 4 ^ i) → p < 4 ^ (n - i) →
      wX_source_59 post f (lN (rc_pk q res c)) (nI L) (nI (4 ^ (n - i) + p)) (nI i - 1) fR (nI W.length) (nI c) fC fG fE fW fF fA aK aF aI aL aR aW aT aB aH aN aC aG aO aM aY aP aQ aD := by
  intro i
  induction i with
  | zero =>
    intro f p L res q fC fG fE fW fF fA aB aH aN aC aG aO aM aY aP aQ hf hin hq hres Hp hL hκ hp
    obtain ⟨f, rfl⟩ : ∃ m, f = m + 1 := ⟨f - 1, by omega⟩
    rw [Nat.pow_zero, Nat.mul_one] at hL hκ
    have e : rc_cn P (p + 1) = rc_cn P p + (if P p = true then 1 else 0) := rfl
    have hP : P p = true := by
      rcases hb : P p with _ | _
      · rw [hb, if_neg (by decide)] at e
        omega
      · rfl
    rw [hP, if_pos rfl] at e
    exact br_t (by decide) (K p fC fG fE fW fF fA aB aH aN aC aG aO aM aY aP aQ hp hP (by omega))
  | succ i ih =>
    intro f p L res q fC fG fE fW fF fA aB aH aN aC aG aO aM aY aP aQ hf hin hq hres Hp hL hκ hp
    obtain ⟨f, rfl⟩ : ∃ m, f = m + 1 := ⟨f - 1, by omega⟩
    rw [nI_pred]
    refine br_f (nI_pos (by omega)) ⟨6, ?_⟩
    refine rx_src79 hk hLA hW hWl hW3 (by omega) hq hres Hp hκ hκ31 ?_ 4 0 6 L 0 0 fC fG fE fW fF fA aB aH aN aC aG aO aM aY aP aQ (by omega) (by omega) ?_
    · intro l L' res' q' fC' fG' fE' fW' fF' fA' aB' aH' aN' aC' aG' aO' aM' aY' aP' aQ' hl hq' hres' Hp' hL' hκ'
      have ep : (4 : Nat) ^ (n - i) = 4 ^ (n - (i + 1)) * 4 := by rw [← Nat.pow_succ]; congr 1; omega
      have ec : 4 * nI (4 ^ (n - (i + 1)) + p) + nI l = nI (4 ^ (n - i) + (4 * p + l)) := by
        rw [show (4 : Int32) = nI 4 from rfl, pk_mul, nI_add, ep]
        congr 1; omega
      unfold wX_source_177
      refine nm_r ec (nm_r (Int32.sub_eq_add_neg (nI i) 1).symm ?_)
      exact ih f (4 * p + l) L' res' q' fC' fG' fE' fW' fF' fA' aB' aH' aN' aC' aG' aO' aM' aY' aP' aQ' (by omega) (by omega) hq' hres' Hp' hL' hκ' (by omega)
    · have e : (4 * p + 0) * 4 ^ i = p * 4 ^ (i + 1) := by
        rw [Nat.add_zero, Nat.pow_succ, Nat.mul_comm 4 p, Nat.mul_assoc, Nat.mul_comm 4 (4 ^ i)]
      rw [e]; exact hL
theorem rx_source {post : Int32 → SX → Prop} {c n : Nat} {ρ : Nat → rc_R} {W : List Nat} {x : Int32} (hk : c ≤ 5) (hRA : ∀ r, r < c → rc_RA aK aF aI aL aR r (ρ r)) (hW : rc_A aW W) (hWl : W.length ≤ 12) (hW3 : ∀ a ∈ W, a ≤ 3) (hn : n ≤ 5)
    (K1 : (x < 0 ∨ ∃ κ : Nat, x = nI κ ∧ κ < 2 ^ 31 ∧ rc_cn (rc_P ρ c W n) (4 ^ n) ≤ κ) → ∀ (fL' : Int32) (fC' : Int32) (fG' : Int32) (fE' : Int32) (fW' : Int32) (fF' : Int32) (fA' : Int32) (aT' : Nat → Int32) (aB' : Nat → Int32) (aH' : Nat → Int32) (aN' : Nat → Int32) (aC' : Nat → Int32) (aG' : Nat → Int32) (aO' : Nat → Int32) (aM' : Nat → Int64) (aY' : Nat → Int32) (aP' : Nat → Int64) (aQ' : Nat → Int32), post (-4) (nI c, nI W.length, fL', fC', fG', fE', fW', fF', fA', aK, aF, aI, aL, aR, aW, aT', aB', aH', aN', aC', aG', aO', aM', aY', aP', aQ', aD))
    (K2 : ∀ κ w : Nat, x = nI κ → κ < 2 ^ 31 → w < 4 ^ n → rc_P ρ c W n w = true → rc_cn (rc_P ρ c W n) w = κ → ∀ (fL' : Int32) (fC' : Int32) (fG' : Int32) (fE' : Int32) (fW' : Int32) (fF' : Int32) (fA' : Int32) (aT' : Nat → Int32) (aB' : Nat → Int32) (aH' : Nat → Int32) (aN' : Nat → Int32) (aC' : Nat → Int32) (aG' : Nat → Int32) (aO' : Nat → Int32) (aM' : Nat → Int64) (aY' : Nat → Int32) (aP' : Nat → Int64) (aQ' : Nat → Int32), post (nI (4 ^ n + w)) (nI c, nI W.length, fL', fC', fG', fE', fW', fF', fA', aK, aF, aI, aL, aR, aW, aT', aB', aH', aN', aC', aG', aO', aM', aY', aP', aQ', aD)) :
    wpX_source post (nI c, nI W.length, fL, fC, fG, fE, fW, fF, fA, aK, aF, aI, aL, aR, aW, aT, aB, aH, aN, aC, aG, aO, aM, aY, aP, aQ, aD) (nI n) x := by
  have hρ : ∀ s, s < c → rc_ok (ρ s) := fun s hs => (hRA s hs).2.2.2.2.2
  have h4 := rc_4n n hn
  have hcn := rc_cn_le (rc_P ρ c W n) (4 ^ n)
  unfold wpX_source
  refine rx_ok5 hn (br_t rfl ?_)
  refine rx_use hk ?_
  intro aT' kT
  have hLA : rc_LA c ρ aK aF aI aL aR aT' := fun s hs => ⟨s, by omega, kT s hs, hRA s hs⟩
  refine rx_begin ?_
  intro aB' aH' aN' kB
  have hb0 := rc_bd0 c
  refine rx_pack (q := rc_q0) hk (fun s hs => kB s (by omega)) hb0 (by decide) ?_
  refine rx_count hk hLA hW hWl hW3 hn (rc_pk_lt (by decide) c hb0) ?_
  rw [rc_ct_pk ρ W hb0, rc_ct_P hρ W hn]
  intro fC' fG' fE' fW' fF' fA' aB' aH' aN' aC' aG' aO' aM' aY' aP' aQ'
  by_cases h0 : x < 0
  · exact br_t h0 (K1 (Or.inl h0) _ fC' fG' fE' fW' fF' fA' aT' aB' aH' aN' aC' aG' aO' aM' aY' aP' aQ')
  · obtain ⟨κ, hκ, rfl⟩ := nI_of h0
    refine br_f h0 ?_
    by_cases hlt : κ < rc_cn (rc_P ρ c W n) (4 ^ n)
    · refine br_t (nI_lt hlt (by omega)) (nm_e ⟨n + 1, ?_⟩)
      have h := rx_src59 (post := post) (fR := nI c) (aD := aD) (P := rc_P ρ c W n) hk hLA hW hWl hW3 hn hκ (fun w fC' fG' fE' fW' fF' fA' aB' aH' aN' aC' aG' aO' aM' aY' aP' aQ' h1 h2 h3 => K2 κ w rfl hκ h1 h2 h3 _ fC' fG' fE' fW' fF' fA' aT' aB' aH' aN' aC' aG' aO' aM' aY' aP' aQ') n (n + 1) 0 κ 0 rc_q0 fC' fG' fE' fW' fF' fA' aB' aH' aN' aC' aG' aO' aM' aY' aP' aQ' (by omega) (Nat.le_refl n) hb0 (by decide) (fun v hv => by rw [Nat.zero_mul, Nat.zero_add]; exact rc_P_ac hρ W hn v) (by rw [Nat.zero_mul]; exact Nat.zero_add κ) (by rw [Nat.zero_add, Nat.one_mul]; exact hlt) (by rw [Nat.sub_self]; decide)
      rw [Nat.sub_self] at h
      exact h
    · exact br_f (nI_nlt (by omega) (by omega)) (K1 (Or.inr ⟨κ, rfl, hκ, by omega⟩) _ fC' fG' fE' fW' fF' fA' aT' aB' aH' aN' aC' aG' aO' aM' aY' aP' aQ')
end
end
section
/-! all words: pure counts -/
def rc_f (ρ : Nat → rc_R) (c n w : Nat) : Nat := rc_cd (rc_wa ρ (rc_dg n w) c)
theorem rc_f_lt {ρ : Nat → rc_R} {c n : Nat} (hρ : ∀ s, s < c → rc_ok (ρ s)) (hn : n ≤ 5) (w : Nat) : rc_f ρ c n w < 33554432 :=
  rc_cd_lt (rc_wa_le ρ hρ _ (rc_dg_le n w) c (Nat.le_refl c)) (rc_wa_len ρ _ (by rw [rc_dg_len]; omega) c)
def rc_seen (f : Nat → Nat) (x : Nat) : Nat → Bool
  | 0 => false
  | w + 1 => rc_seen f x w || decide (f w = x)
def rc_nw (f : Nat → Nat) : Nat → Nat
  | 0 => 0
  | w + 1 => rc_nw f w + (if rc_seen f (f w) w = true then 0 else 1)
theorem rc_nw_le (f : Nat → Nat) : ∀ w : Nat, rc_nw f w ≤ w
  | 0 => Nat.le_refl 0
  | w + 1 => by
    have := rc_nw_le f w
    show rc_nw f w + (if rc_seen f (f w) w = true then 0 else 1) ≤ w + 1
    split <;> omega
def rc_eqs (f g : Nat → Nat) : Nat → Bool
  | 0 => true
  | w + 1 => rc_eqs f g w && decide (f w = g w)
theorem rc_eqs_f {f g : Nat → Nat} {w : Nat} (h : rc_eqs f g w = false) : ∀ d : Nat, rc_eqs f g (w + d) = false
  | 0 => h
  | d + 1 => by
    show (rc_eqs f g (w + d) && _) = false
    rw [rc_eqs_f h d]; rfl
/-- the codes that are kept in order: a set -/
def rc_CS (kept : Nat) (S : Nat → Prop) (aD : Nat → Int32) : Prop := ∃ D : Nat → Nat, (∀ i, i < kept → aD i = nI (D i) ∧ D i < 2 ^ 31) ∧ (∀ i j, i < j → j < kept → D i < D j) ∧ (∀ v, S v ↔ ∃ i, i < kept ∧ D i = v)
theorem rc_orp : ∀ n, n ≤ 5 → ∀ w, w < 4 ^ n → nI (4 ^ n) ||| nI w = nI (4 ^ n + w) := by decide +kernel
section
variable {fR : Int32} {fS : Int32} {fL : Int32} {fC : Int32} {fG : Int32} {fE : Int32} {fW : Int32} {fF : Int32} {fA : Int32} {aK : Nat → Int32} {aF : Nat → Int32} {aI : Nat → Int32} {aL : Nat → Int32} {aR : Nat → Int32} {aW : Nat → Int32} {aT : Nat → Int32} {aB : Nat → Int32} {aH : Nat → Int32} {aN : Nat → Int32} {aC : Nat → Int32} {aG : Nat → Int32} {aO : Nat → Int32} {aM : Nat → Int64} {aY : Nat → Int32} {aP : Nat → Int64} {aQ : Nat → Int32} {aD : Nat → Int32}
theorem rx_kc65 {post : Int32 → SX → Prop} {v kept p : Nat} (hp : p ≤ kept) (hk : kept < 1024)
    (K : ∀ (aD' : Nat → Int32), (∀ j, j < p → aD' j = aD j) → aD' p = nI v → (∀ j, p ≤ j → j < kept → aD' (j + 1) = aD j) → post (nI (kept + 1)) (fR, fS, fL, fC, fG, fE, fW, fF, fA, aK, aF, aI, aL, aR, aW, aT, aB, aH, aN, aC, aG, aO, aM, aY, aP, aQ, aD')) :
    ∀ (d n : Nat) (aD' : Nat → Int32), p + d ≤ kept → d < n → (∀ j, j < p + d → aD' j = aD j) → (∀ j, p + d ≤ j → j < kept → aD' (j + 1) = aD j) → wX_keepCode_65 post (nI v) (nI kept) (nI p) fR fS fL fC fG fE fW fF fA n (nI (p + d)) aK aF aI aL aR aW aT aB aH aN aC aG aO aM aY aP aQ aD' := by
  intro d
  induction d with
  | zero =>
    intro n aD' hd hn h1 h2
    obtain ⟨m, rfl⟩ : ∃ m, n = m + 1 := ⟨n - 1, by omega⟩
    have e : (nI p).toNatClampNeg = p := nI_clamp (by omega)
    refine br_t (nI_le (Nat.le_refl p) (by omega)) ⟨vp_in_nI (by omega) (by decide), nm_e ?_⟩
    rw [e, nI_1]
    refine K _ (fun j hj => ?_) pk_us (fun j hj hj2 => ?_)
    · rw [pk_un (by omega)]; exact h1 j (by omega)
    · rw [pk_un (by omega)]; exact h2 j (by omega) hj2
  | succ d ih =>
    intro n aD' hd hn h1 h2
    obtain ⟨m, rfl⟩ : ∃ m, n = m + 1 := ⟨n - 1, by omega⟩
    have e : (nI (p + (d + 1))).toNatClampNeg = p + (d + 1) := nI_clamp (by omega)
    have e1 : nI (p + (d + 1)) - 1 = nI (p + d) := nI_pred (p + d)
    have e2 : (nI (p + d)).toNatClampNeg = p + d := nI_clamp (by omega)
    refine br_f (nI_ge (by omega) (by omega)) ?_
    rw [e1, e, e2]
    refine ⟨vp_in_nI (by omega) (by decide), vp_in_nI (by omega) (by decide), nm_e (nm_r (pk_m1 (p + d)) ?_)⟩
    refine ih m _ (by omega) (by omega) (fun j hj => ?_) (fun j hj hj2 => ?_)
    · rw [pk_un (by omega)]; exact h1 j (by omega)
    · by_cases z : j = p + d
      · rw [z, show p + d + 1 = p + (d + 1) by omega, pk_us]; exact h1 _ (by omega)
      · rw [pk_un (by omega)]; exact h2 j (by omega) hj2
theorem rx_keepCode {post : Int32 → SX → Prop} {v kept : Nat} {S : Nat → Prop} (hk : kept < 1024) (hv : v < 2 ^ 31) (hS : rc_CS kept S aD)
    (K1 : S v → post (nI kept) (fR, fS, fL, fC, fG, fE, fW, fF, fA, aK, aF, aI, aL, aR, aW, aT, aB, aH, aN, aC, aG, aO, aM, aY, aP, aQ, aD)) (K2 : ¬ S v → ∀ (aD' : Nat → Int32), rc_CS (kept + 1) (fun u => S u ∨ u = v) aD' → post (nI (kept + 1)) (fR, fS, fL, fC, fG, fE, fW, fF, fA, aK, aF, aI, aL, aR, aW, aT, aB, aH, aN, aC, aG, aO, aM, aY, aP, aQ, aD')) :
    wpX_keepCode post (fR, fS, fL, fC, fG, fE, fW, fF, fA, aK, aF, aI, aL, aR, aW, aT, aB, aH, aN, aC, aG, aO, aM, aY, aP, aQ, aD) (nI v) (nI kept) := by
  obtain ⟨D, hD, hsrt, hset⟩ := hS
  have hle : ∀ i j, i ≤ j → j < kept → D i ≤ D j := by
    intro i j hij hj
    rcases Nat.lt_or_ge i j with z | z
    · exact Nat.le_of_lt (hsrt i j z hj)
    · have : i = j := by omega
      rw [this]; exact Nat.le_refl _
  have key : ∀ (t n lo hi : Nat), hi - lo < t → t ≤ n → lo ≤ hi → hi ≤ kept → (∀ i, i < lo → D i < v) → (∀ i, hi ≤ i → i < kept → v ≤ D i) → wX_keepCode_5 post (nI v) (nI kept) fR fS fL fC fG fE fW fF fA aK aF aI aL aR aW aT aB aH aN aC aG aO aM aY aP aQ aD n (nI lo) (nI hi) := by
    intro t
    induction t with
    | zero => intro n lo hi h; omega
    | succ t ih =>
      intro n lo hi ht hn hlh hhk hlo hhi
      obtain ⟨m, rfl⟩ : ∃ m, n = m + 1 := ⟨n - 1, by omega⟩
      have elo : (nI lo).toNatClampNeg = lo := nI_clamp (by omega)
      by_cases hx : hi ≤ lo
      · refine br_t (nI_le hx (by omega)) ?_
        have ins : ¬ S v → ∃ n65 : Nat, wX_keepCode_65 post (nI v) (nI kept) (nI lo) fR fS fL fC fG fE fW fF fA n65 (nI kept) aK aF aI aL aR aW aT aB aH aN aC aG aO aM aY aP aQ aD := by
          intro hns
          refine ⟨kept - lo + 1, ?_⟩
          have h := rx_kc65 (post := post) (v := v) (p := lo) (kept := kept) (fR := fR) (fS := fS) (fL := fL) (fC := fC) (fG := fG) (fE := fE) (fW := fW) (fF := fF) (fA := fA) (aK := aK) (aF := aF) (aI := aI) (aL := aL) (aR := aR) (aW := aW) (aT := aT) (aB := aB) (aH := aH) (aN := aN) (aC := aC) (aG := aG) (aO := aO) (aM := aM) (aY := aY) (aP := aP) (aQ := aQ) (aD := aD) (by omega) hk ?_ (kept - lo) (kept - lo + 1) aD (by omega) (by omega) (fun _ _ => rfl) (fun j h1 h2 => absurd h2 (by omega))
          · rw [show lo + (kept - lo) = kept by omega] at h
            exact h
          · intro aD' h1 h2 h3
            refine K2 hns aD' ⟨fun i => if i < lo then D i else if i = lo then v else D (i - 1), ?_, ?_, ?_⟩
            · intro i hi2
              rcases Nat.lt_trichotomy i lo with z | z | z
              · show aD' i = nI (if i < lo then D i else if i = lo then v else D (i - 1)) ∧ (if i < lo then D i else if i = lo then v else D (i - 1)) < 2 ^ 31
                rw [if_pos z, h1 i z]
                exact hD i (by omega)
              · show aD' i = nI (if i < lo then D i else if i = lo then v else D (i - 1)) ∧ (if i < lo then D i else if i = lo then v else D (i - 1)) < 2 ^ 31
                rw [if_neg (by omega), if_pos z, z]
                exact ⟨h2, hv⟩
              · show aD' i = nI (if i < lo then D i else if i = lo then v else D (i - 1)) ∧ (if i < lo then D i else if i = lo then v else D (i - 1)) < 2 ^ 31
                rw [if_neg (by omega), if_neg (by omega)]
                have h4 := h3 (i - 1) (by omega) (by omega)
                rw [show i - 1 + 1 = i by omega] at h4
                rw [h4]
                exact hD (i - 1) (by omega)
            · intro i j hij hj
              show (if i < lo then D i else if i = lo then v else D (i - 1)) < (if j < lo then D j else if j = lo then v else D (j - 1))
              rcases Nat.lt_trichotomy i lo with z | z | z
              · rw [if_pos z]
                rcases Nat.lt_trichotomy j lo with y | y | y
                · rw [if_pos y]; exact hsrt i j hij (by omega)
                · rw [if_neg (by omega), if_pos y]; exact hlo i z
                · rw [if_neg (by omega), if_neg (by omega)]; exact hsrt i (j - 1) (by omega) (by omega)
              · rw [if_neg (show ¬ i < lo by omega), if_pos z, if_neg (show ¬ j < lo by omega), if_neg (show ¬ j = lo by omega)]
                have a := hhi (j - 1) (by omega) (by omega)
                rcases Nat.lt_or_ge v (D (j - 1)) with y | y
                · exact y
                · exact absurd ((hset v).mpr ⟨j - 1, by omega, by omega⟩) hns
              · rw [if_neg (show ¬ i < lo by omega), if_neg (show ¬ i = lo by omega), if_neg (show ¬ j < lo by omega), if_neg (show ¬ j = lo by omega)]
                exact hsrt (i - 1) (j - 1) (by omega) (by omega)
            · intro u
              constructor
              · rintro (hu | hu)
                · obtain ⟨i, hi2, hiu⟩ := (hset u).mp hu
                  by_cases z : i < lo
                  · exact ⟨i, by omega, by show (if i < lo then D i else if i = lo then v else D (i - 1)) = u; rw [if_pos z]; exact hiu⟩
                  · exact ⟨i + 1, by omega, by show (if i + 1 < lo then D (i + 1) else if i + 1 = lo then v else D (i + 1 - 1)) = u; rw [if_neg (by omega), if_neg (by omega)]; exact hiu⟩
                · exact ⟨lo, by omega, by show (if lo < lo then D lo else if lo = lo then v else D (lo - 1)) = u; rw [if_neg (by omega), if_pos rfl, hu]⟩
              · rintro ⟨i, hi2, hiu⟩
                replace hiu : (if i < lo then D i else if i = lo then v else D (i - 1)) = u := hiu
                rcases Nat.lt_trichotomy i lo with z | z | z
                · rw [if_pos z] at hiu
                  exact Or.inl ((hset u).mpr ⟨i, by omega, hiu⟩)
                · rw [if_neg (by omega), if_pos z] at hiu
                  exact Or.inr hiu.symm
                · rw [if_neg (by omega), if_neg (by omega)] at hiu
                  exact Or.inl ((hset u).mpr ⟨i - 1, by omega, hiu⟩)
        by_cases hkl : kept ≤ lo
        · refine br_t (nI_le hkl (by omega)) (ins ?_)
          intro hs
          obtain ⟨i, hi2, hiu⟩ := (hset v).mp hs
          have := hlo i (by omega)
          omega
        · refine br_f (nI_ge (by omega) (by omega)) ⟨vp_in_nI (by omega) (by decide), ?_⟩
          rw [elo, (hD lo (by omega)).1]
          by_cases hc : D lo = v
          · exact br_t (by rw [hc]) (K1 ((hset v).mpr ⟨lo, by omega, hc⟩))
          · refine br_f (fun y => hc (rc_nI8 (hD lo (by omega)).2 hv y)) (ins ?_)
            intro hs
            obtain ⟨i, hi2, hiu⟩ := (hset v).mp hs
            rcases Nat.lt_trichotomy i lo with z | z | z
            · have := hlo i z; omega
            · rw [z] at hiu; exact hc hiu
            · have a := hsrt lo i z hi2
              have b := hhi lo (by omega) (by omega)
              omega
      · have hmid : (nI lo + nI hi) / 2 = nI ((lo + hi) / 2) := by
          rw [nI_add, show (2 : Int32) = nI 2 from rfl, pk_div (by omega) (by decide) (by decide)]
        have em : (nI ((lo + hi) / 2)).toNatClampNeg = (lo + hi) / 2 := nI_clamp (by omega)
        have hDm := hD ((lo + hi) / 2) (by omega)
        refine br_f (nI_ge (by omega) (by omega)) ⟨by decide, nm_r hmid ⟨vp_in_nI (by omega) (by decide), ?_⟩⟩
        rw [em, hDm.1]
        by_cases hc : v ≤ D ((lo + hi) / 2)
        · refine br_t (nI_le hc hDm.2) ?_
          refine ih m lo ((lo + hi) / 2) (by omega) (by omega) (by omega) (by omega) hlo ?_
          intro i h1 h2
          exact Nat.le_trans hc (hle _ i h1 h2)
        · refine br_f (nI_ge (by omega) hv) (nm_r (nI_1 ((lo + hi) / 2)) ?_)
          refine ih m ((lo + hi) / 2 + 1) hi (by omega) (by omega) (by omega) hhk ?_ hhi
          intro i h1
          have := hle i ((lo + hi) / 2) (by omega) (by omega)
          omega
  unfold wpX_keepCode
  exact ⟨kept + 1, key (kept + 1) (kept + 1) 0 kept (by omega) (Nat.le_refl _) (Nat.zero_le _) (Nat.le_refl _) (fun i hi => absurd hi (Nat.not_lt_zero i)) (fun i h1 h2 => absurd h2 (by omega))⟩
theorem rx_img22 {post : Int32 → SX → Prop} {c n : Nat} {ρ : Nat → rc_R} {W : List Nat} (hk : c ≤ 5) (hLA : rc_LA c ρ aK aF aI aL aR aT) (hW : rc_A aW W) (hWl : W.length ≤ 12) (hW3 : ∀ a ∈ W, a ≤ 3) (hn : n ≤ 5)
    (K : ∀ (fC' : Int32) (fG' : Int32) (fE' : Int32) (fW' : Int32) (aB' : Nat → Int32) (aH' : Nat → Int32) (aN' : Nat → Int32) (aC' : Nat → Int32) (aG' : Nat → Int32) (aO' : Nat → Int32) (aD' : Nat → Int32), post (nI (rc_nw (rc_f ρ c n) (4 ^ n))) (fR, nI W.length, nI c, fC', fG', fE', fW', fF, fA, aK, aF, aI, aL, aR, aW, aT, aB', aH', aN', aC', aG', aO', aM, aY, aP, aQ, aD')) :
    ∀ (d w f : Nat) (fC : Int32) (fG : Int32) (fE : Int32) (fW : Int32) (aB : Nat → Int32) (aH : Nat → Int32) (aN : Nat → Int32) (aC : Nat → Int32) (aG : Nat → Int32) (aO : Nat → Int32) (aD : Nat → Int32), w + d = 4 ^ n → d < f → rc_CS (rc_nw (rc_f ρ c n) w) (fun u => rc_seen (rc_f ρ c n) u w = true) aD → wX_images_22 post (nI n) f (nI (rc_nw (rc_f ρ c n) w)) (nI w) fR (nI W.length) (nI c) fC fG fE fW fF fA aK aF aI aL aR aW aT aB aH aN aC aG aO aM aY aP aQ aD := by
  have h4 := rc_4n n hn
  have ep := rc_pow5 n hn
  have hρ := rc_LA_ok hLA
  intro d
  induction d with
  | zero =>
    intro w f fC fG fE fW aB aH aN aC aG aO aD hw hf hS
    obtain ⟨m, rfl⟩ : ∃ m, f = m + 1 := ⟨f - 1, by omega⟩
    have e : w = 4 ^ n := hw
    refine br_t (by rw [ep]; exact nI_le (by omega) (by omega)) ?_
    rw [e]
    exact K fC fG fE fW aB aH aN aC aG aO aD
  | succ d ih =>
    intro w f fC fG fE fW aB aH aN aC aG aO aD hw hf hS
    obtain ⟨m, rfl⟩ : ∃ m, f = m + 1 := ⟨f - 1, by omega⟩
    have hnw := rc_nw_le (rc_f ρ c n) w
    refine br_f (by rw [ep]; exact nI_ge (by omega) (by omega)) ?_
    refine rx_num hk hLA hW hWl hW3 hn (by omega) ?_
    intro fC' fG' fE' fW' aB' aH' aN' aC' aG' aO'
    have hfl := rc_f_lt hρ hn w
    have ef : rc_f ρ c n w = rc_cd (rc_wa ρ (rc_dg n w) c) := rfl
    rw [← ef]
    have es : ∀ u, rc_seen (rc_f ρ c n) u (w + 1) = (rc_seen (rc_f ρ c n) u w || decide (rc_f ρ c n w = u)) := fun _ => rfl
    have en : rc_nw (rc_f ρ c n) (w + 1) = rc_nw (rc_f ρ c n) w + (if rc_seen (rc_f ρ c n) (rc_f ρ c n w) w = true then 0 else 1) := rfl
    refine rx_keepCode (by omega) (by omega) hS ?_ ?_
    · intro hs
      rw [hs, if_pos rfl] at en
      replace en : rc_nw (rc_f ρ c n) (w + 1) = rc_nw (rc_f ρ c n) w := en
      refine nm_r (nI_1 w) ?_
      rw [← en]
      refine ih (w + 1) m fC' fG' fE' fW' aB' aH' aN' aC' aG' aO' aD (by omega) (by omega) ?_
      rw [en]
      obtain ⟨D, h1, h2, h3⟩ := hS
      refine ⟨D, h1, h2, fun v => Iff.trans ?_ (h3 v)⟩
      show rc_seen (rc_f ρ c n) v (w + 1) = true ↔ rc_seen (rc_f ρ c n) v w = true
      rw [es v, Bool.or_eq_true, decide_eq_true_iff]
      constructor
      · rintro (z | z)
        · exact z
        · rw [← z]; exact hs
      · exact Or.inl
    · intro hs aD' hS'
      rw [if_neg hs] at en
      refine nm_r (nI_1 w) ?_
      rw [← en]
      refine ih (w + 1) m fC' fG' fE' fW' aB' aH' aN' aC' aG' aO' aD' (by omega) (by omega) ?_
      rw [en]
      obtain ⟨D, h1, h2, h3⟩ := hS'
      refine ⟨D, h1, h2, fun v => Iff.trans ?_ (h3 v)⟩
      show rc_seen (rc_f ρ c n) v (w + 1) = true ↔ (rc_seen (rc_f ρ c n) v w = true ∨ v = rc_f ρ c n w)
      rw [es v, Bool.or_eq_true, decide_eq_true_iff]
      constructor
      · rintro (z | z)
        · exact Or.inl z
        · exact Or.inr z.symm
      · rintro (z | z)
        · exact Or.inl z
        · exact Or.inr z.symm
theorem rx_images {post : Int32 → SX → Prop} {c n : Nat} {ρ : Nat → rc_R} {W : List Nat} (hk : c ≤ 5) (hRA : ∀ r, r < c → rc_RA aK aF aI aL aR r (ρ r)) (hW : rc_A aW W) (hWl : W.length ≤ 12) (hW3 : ∀ a ∈ W, a ≤ 3) (hn : n ≤ 5)
    (K : ∀ (fL' : Int32) (fC' : Int32) (fG' : Int32) (fE' : Int32) (fW' : Int32) (aT' : Nat → Int32) (aB' : Nat → Int32) (aH' : Nat → Int32) (aN' : Nat → Int32) (aC' : Nat → Int32) (aG' : Nat → Int32) (aO' : Nat → Int32) (aD' : Nat → Int32), post (nI (rc_nw (rc_f ρ c n) (4 ^ n))) (nI c, nI W.length, fL', fC', fG', fE', fW', fF, fA, aK, aF, aI, aL, aR, aW, aT', aB', aH', aN', aC', aG', aO', aM, aY, aP, aQ, aD')) :
    wpX_images post (nI c, nI W.length, fL, fC, fG, fE, fW, fF, fA, aK, aF, aI, aL, aR, aW, aT, aB, aH, aN, aC, aG, aO, aM, aY, aP, aQ, aD) (nI n) := by
  unfold wpX_images
  refine rx_ok5 hn (br_t rfl ?_)
  refine rx_use hk ?_
  intro aT' kT
  have hLA : rc_LA c ρ aK aF aI aL aR aT' := fun s hs => ⟨s, by omega, kT s hs, hRA s hs⟩
  refine ⟨4 ^ n + 1, ?_⟩
  refine rx_img22 hk hLA hW hWl hW3 hn ?_ (4 ^ n) 0 (4 ^ n + 1) fC fG fE fW aB aH aN aC aG aO aD (by omega) (by omega) ?_
  · intro fC' fG' fE' fW' aB' aH' aN' aC' aG' aO' aD'
    exact K _ fC' fG' fE' fW' aT' aB' aH' aN' aC' aG' aO' aD'
  · refine ⟨fun _ => 0, fun i hi => absurd hi (Nat.not_lt_zero i), fun i j _ hj => absurd hj (Nat.not_lt_zero j), fun v => ⟨fun h => absurd h (show ¬ (false = true) by decide), fun ⟨i, hi, _⟩ => absurd hi (Nat.not_lt_zero i)⟩⟩
theorem rx_keepAll {post : SX → Prop} {c n : Nat} {ρ : Nat → rc_R} {W : List Nat} (hk : c ≤ 5) (hRA : ∀ r, r < c → rc_RA aK aF aI aL aR r (ρ r)) (hW : rc_A aW W) (hWl : W.length ≤ 12) (hW3 : ∀ a ∈ W, a ≤ 3) (hn : n ≤ 5)
    (K : ∀ (fC' : Int32) (fG' : Int32) (fE' : Int32) (fW' : Int32) (aT' : Nat → Int32) (aB' : Nat → Int32) (aH' : Nat → Int32) (aN' : Nat → Int32) (aC' : Nat → Int32) (aG' : Nat → Int32) (aO' : Nat → Int32) (aD' : Nat → Int32), (∀ s, s < c → aT' s = nI s) → (∀ w, w < 4 ^ n → aD' w = nI (rc_f ρ c n w)) → post (nI c, nI W.length, nI c, fC', fG', fE', fW', fF, fA, aK, aF, aI, aL, aR, aW, aT', aB', aH', aN', aC', aG', aO', aM, aY, aP, aQ, aD')) :
    wpX_keepAll post (nI c, nI W.length, fL, fC, fG, fE, fW, fF, fA, aK, aF, aI, aL, aR, aW, aT, aB, aH, aN, aC, aG, aO, aM, aY, aP, aQ, aD) (nI n) := by
  have h4 := rc_4n n hn
  have ep := rc_pow5 n hn
  unfold wpX_keepAll
  refine rx_use hk ?_
  intro aT' kT
  have hLA : rc_LA c ρ aK aF aI aL aR aT' := fun s hs => ⟨s, by omega, kT s hs, hRA s hs⟩
  have key : ∀ (d w f : Nat) (fC : Int32) (fG : Int32) (fE : Int32) (fW : Int32) (aB : Nat → Int32) (aH : Nat → Int32) (aN : Nat → Int32) (aC : Nat → Int32) (aG : Nat → Int32) (aO : Nat → Int32) (aD : Nat → Int32), w + d = 4 ^ n → d < f → (∀ v, v < w → aD v = nI (rc_f ρ c n v)) → wX_keepAll_10 post (nI n) f (nI w) (nI c) (nI W.length) (nI c) fC fG fE fW fF fA aK aF aI aL aR aW aT' aB aH aN aC aG aO aM aY aP aQ aD := by
    intro d
    induction d with
    | zero =>
      intro w f fC fG fE fW aB aH aN aC aG aO aD hw hf h
      obtain ⟨m, rfl⟩ : ∃ m, f = m + 1 := ⟨f - 1, by omega⟩
      exact br_t (by rw [ep]; exact nI_le (by omega) (by omega)) (K fC fG fE fW aT' aB aH aN aC aG aO aD kT (fun v hv => h v (by omega)))
    | succ d ih =>
      intro w f fC fG fE fW aB aH aN aC aG aO aD hw hf h
      obtain ⟨m, rfl⟩ : ∃ m, f = m + 1 := ⟨f - 1, by omega⟩
      have e : (nI w).toNatClampNeg = w := nI_clamp (by omega)
      refine br_f (by rw [ep]; exact nI_ge (by omega) (by omega)) ?_
      refine rx_num hk hLA hW hWl hW3 hn (by omega) ?_
      intro fC' fG' fE' fW' aB' aH' aN' aC' aG' aO'
      refine ⟨vp_in_nI (by omega) (by decide), nm_e (nm_r (nI_1 w) ?_)⟩
      rw [e]
      refine ih (w + 1) m fC' fG' fE' fW' aB' aH' aN' aC' aG' aO' _ (by omega) (by omega) ?_
      intro v hv
      by_cases z : v = w
      · rw [z]; exact pk_us
      · rw [pk_un z]; exact h v (by omega)
  exact ⟨4 ^ n + 1, key (4 ^ n) 0 (4 ^ n + 1) fC fG fE fW aB aH aN aC aG aO aD (by omega) (by omega) (fun v hv => absurd hv (Nat.not_lt_zero v))⟩
theorem rx_sameAll {post : Int32 → SX → Prop} {c n : Nat} {g : Nat → Nat} {ρ : Nat → rc_R} {W : List Nat} (hk : c ≤ 5) (hLA : rc_LA c ρ aK aF aI aL aR aT) (hW : rc_A aW W) (hWl : W.length ≤ 12) (hW3 : ∀ a ∈ W, a ≤ 3) (hn : n ≤ 5) (hD : ∀ w, w < 4 ^ n → aD w = nI (g w)) (hg : ∀ w, g w < 2 ^ 31)
    (K : ∀ (fC' : Int32) (fG' : Int32) (fE' : Int32) (fW' : Int32) (aB' : Nat → Int32) (aH' : Nat → Int32) (aN' : Nat → Int32) (aC' : Nat → Int32) (aG' : Nat → Int32) (aO' : Nat → Int32), post (rc_b2 (rc_eqs (rc_f ρ c n) g (4 ^ n))) (fR, nI W.length, nI c, fC', fG', fE', fW', fF, fA, aK, aF, aI, aL, aR, aW, aT, aB', aH', aN', aC', aG', aO', aM, aY, aP, aQ, aD)) :
    wpX_sameAll post (fR, nI W.length, nI c, fC, fG, fE, fW, fF, fA, aK, aF, aI, aL, aR, aW, aT, aB, aH, aN, aC, aG, aO, aM, aY, aP, aQ, aD) (nI n) := by
  have h4 := rc_4n n hn
  have ep := rc_pow5 n hn
  have hρ := rc_LA_ok hLA
  have key : ∀ (d w f : Nat) (fC : Int32) (fG : Int32) (fE : Int32) (fW : Int32) (aB : Nat → Int32) (aH : Nat → Int32) (aN : Nat → Int32) (aC : Nat → Int32) (aG : Nat → Int32) (aO : Nat → Int32), w + d = 4 ^ n → d < f → wX_sameAll_4 post (nI n) f (rc_b2 (rc_eqs (rc_f ρ c n) g w)) (nI w) fR (nI W.length) (nI c) fC fG fE fW fF fA aK aF aI aL aR aW aT aB aH aN aC aG aO aM aY aP aQ aD := by
    intro d
    induction d with
    | zero =>
      intro w f fC fG fE fW aB aH aN aC aG aO hw hf
      obtain ⟨m, rfl⟩ : ∃ m, f = m + 1 := ⟨f - 1, by omega⟩
      have e : w = 4 ^ n := hw
      rw [e]
      exact br_t (by rw [ep]; exact nI_le (Nat.le_refl _) (by omega)) ⟨rc_b2_n _, K fC fG fE fW aB aH aN aC aG aO⟩
    | succ d ih =>
      intro w f fC fG fE fW aB aH aN aC aG aO hw hf
      obtain ⟨m, rfl⟩ : ∃ m, f = m + 1 := ⟨f - 1, by omega⟩
      have e : (nI w).toNatClampNeg = w := nI_clamp (by omega)
      have eq1 : rc_eqs (rc_f ρ c n) g (w + 1) = (rc_eqs (rc_f ρ c n) g w && decide (rc_f ρ c n w = g w)) := rfl
      refine br_f (by rw [ep]; exact nI_ge (by omega) (by omega)) ?_
      refine rc_b2_0 _ ?_ ?_
      · intro hb
        have h := rc_eqs_f hb (d + 1)
        rw [hw] at h
        rw [h] at K
        rw [hb]
        exact ⟨rc_b2_n _, K fC fG fE fW aB aH aN aC aG aO⟩
      · intro hb
        refine rx_num hk hLA hW hWl hW3 hn (by omega) ?_
        intro fC' fG' fE' fW' aB' aH' aN' aC' aG' aO'
        have hfl := rc_f_lt hρ hn w
        have ef : rc_f ρ c n w = rc_cd (rc_wa ρ (rc_dg n w) c) := rfl
        rw [← ef]
        refine ⟨vp_in_nI (by omega) (by decide), ?_⟩
        rw [e, hD w (by omega)]
        rw [hb, Bool.true_and] at eq1
        by_cases hc : rc_f ρ c n w = g w
        · rw [decide_eq_true hc] at eq1
          refine br_t (by rw [hc]) (nm_r (nI_1 w) ?_)
          have h := ih (w + 1) m fC' fG' fE' fW' aB' aH' aN' aC' aG' aO' (by omega) (by omega)
          rw [eq1] at h
          exact h
        · rw [decide_eq_false hc] at eq1
          refine br_f (fun y => hc (rc_nI8 (by omega) (hg w) y)) (nm_r (nI_1 w) ?_)
          have h := ih (w + 1) m fC' fG' fE' fW' aB' aH' aN' aC' aG' aO' (by omega) (by omega)
          rw [eq1] at h
          exact h
  unfold wpX_sameAll
  exact ⟨4 ^ n + 1, key (4 ^ n) 0 (4 ^ n + 1) fC fG fE fW aB aH aN aC aG aO (by omega) (by omega)⟩
end
def rc_sw (ρ : Nat → rc_R) (k s : Nat) : rc_R := if s = k then ρ (k + 1) else if s = k + 1 then ρ k else ρ s
def rc_dp (ρ : Nat → rc_R) (k s : Nat) : rc_R := if s < k then ρ s else ρ (s + 1)
section
variable {fR : Int32} {fS : Int32} {fL : Int32} {fC : Int32} {fG : Int32} {fE : Int32} {fW : Int32} {fF : Int32} {fA : Int32} {aK : Nat → Int32} {aF : Nat → Int32} {aI : Nat → Int32} {aL : Nat → Int32} {aR : Nat → Int32} {aW : Nat → Int32} {aT : Nat → Int32} {aB : Nat → Int32} {aH : Nat → Int32} {aN : Nat → Int32} {aC : Nat → Int32} {aG : Nat → Int32} {aO : Nat → Int32} {aM : Nat → Int64} {aY : Nat → Int32} {aP : Nat → Int64} {aQ : Nat → Int32} {aD : Nat → Int32}
theorem rx_commute {post : Int32 → SX → Prop} {c n k : Nat} {ρ : Nat → rc_R} {W : List Nat} (hk : c ≤ 5) (hRA : ∀ r, r < c → rc_RA aK aF aI aL aR r (ρ r)) (hW : rc_A aW W) (hWl : W.length ≤ 12) (hW3 : ∀ a ∈ W, a ≤ 3) (hn : n ≤ 5) (hkc : k + 1 < c)
    (K : ∀ (fL' : Int32) (fC' : Int32) (fG' : Int32) (fE' : Int32) (fW' : Int32) (aT' : Nat → Int32) (aB' : Nat → Int32) (aH' : Nat → Int32) (aN' : Nat → Int32) (aC' : Nat → Int32) (aG' : Nat → Int32) (aO' : Nat → Int32) (aD' : Nat → Int32), post (rc_b2 (rc_eqs (rc_f (rc_sw ρ k) c n) (rc_f ρ c n) (4 ^ n))) (nI c, nI W.length, fL', fC', fG', fE', fW', fF, fA, aK, aF, aI, aL, aR, aW, aT', aB', aH', aN', aC', aG', aO', aM, aY, aP, aQ, aD')) :
    wpX_commute post (nI c, nI W.length, fL, fC, fG, fE, fW, fF, fA, aK, aF, aI, aL, aR, aW, aT, aB, aH, aN, aC, aG, aO, aM, aY, aP, aQ, aD) (nI k) (nI n) := by
  have hρ : ∀ s, s < c → rc_ok (ρ s) := fun s hs => (hRA s hs).2.2.2.2.2
  have e5 : (nI k).toNatClampNeg = k := nI_clamp (by omega)
  have e6 : (nI k + 1).toNatClampNeg = k + 1 := by rw [nI_1]; exact nI_clamp (by omega)
  have e7 : nI c - 1 = nI (c - 1) := by
    obtain ⟨c', rfl⟩ : ∃ c', c = c' + 1 := ⟨c - 1, by omega⟩
    exact nI_pred c'
  unfold wpX_commute
  refine br_f (nI_pos (by omega)) (br_t (by rw [e7]; exact nI_lt (by omega) (by omega)) ?_)
  refine rx_ok5 hn (br_t rfl ?_)
  refine rx_keepAll hk hRA hW hWl hW3 hn ?_
  intro fC' fG' fE' fW' aT' aB' aH' aN' aC' aG' aO' aD' kT kD
  refine ⟨vp_in_nI (by omega) (by decide), nm_e ⟨by rw [nI_1]; exact vp_in_nI (by omega) (by decide), nm_e ?_⟩⟩
  rw [e5, e6, nI_1, rc_by (by omega), rc_by (by omega)]
  refine rx_sameAll (ρ := rc_sw ρ k) (g := rc_f ρ c n) hk ?_ hW hWl hW3 hn kD (fun w => by have := rc_f_lt hρ hn w; omega) ?_
  · intro s hs
    unfold rc_sw
    by_cases z1 : s = k
    · rw [if_pos z1, z1]
      exact ⟨k + 1, by omega, by rw [pk_un (by omega), pk_us], hRA (k + 1) hkc⟩
    · rw [if_neg z1]
      by_cases z2 : s = k + 1
      · rw [if_pos z2, z2]
        exact ⟨k, by omega, pk_us, hRA k (by omega)⟩
      · rw [if_neg z2]
        exact ⟨s, by omega, by rw [pk_un z2, pk_un z1]; exact kT s hs, hRA s hs⟩
  · intro fC2 fG2 fE2 fW2 aB2 aH2 aN2 aC2 aG2 aO2
    have hh := K (nI c) fC2 fG2 fE2 fW2 (upd (upd aT' k (nI (k + 1))) (k + 1) (nI k)) aB2 aH2 aN2 aC2 aG2 aO2 aD'
    refine rc_b2_0 _ ?_ ?_
    · intro hb
      rw [hb] at hh
      exact hh
    · intro hb
      rw [hb] at hh
      exact hh
theorem rx_idle {post : Int32 → SX → Prop} {c n k : Nat} {ρ : Nat → rc_R} {W : List Nat} (hk : c ≤ 5) (hRA : ∀ r, r < c → rc_RA aK aF aI aL aR r (ρ r)) (hW : rc_A aW W) (hWl : W.length ≤ 12) (hW3 : ∀ a ∈ W, a ≤ 3) (hn : n ≤ 5) (hkc : k < c)
    (K : ∀ (fL' : Int32) (fC' : Int32) (fG' : Int32) (fE' : Int32) (fW' : Int32) (aT' : Nat → Int32) (aB' : Nat → Int32) (aH' : Nat → Int32) (aN' : Nat → Int32) (aC' : Nat → Int32) (aG' : Nat → Int32) (aO' : Nat → Int32) (aD' : Nat → Int32), post (rc_b2 (rc_eqs (rc_f (rc_dp ρ k) (c - 1) n) (rc_f ρ c n) (4 ^ n))) (nI c, nI W.length, fL', fC', fG', fE', fW', fF, fA, aK, aF, aI, aL, aR, aW, aT', aB', aH', aN', aC', aG', aO', aM, aY, aP, aQ, aD')) :
    wpX_idle post (nI c, nI W.length, fL, fC, fG, fE, fW, fF, fA, aK, aF, aI, aL, aR, aW, aT, aB, aH, aN, aC, aG, aO, aM, aY, aP, aQ, aD) (nI k) (nI n) := by
  have hρ : ∀ s, s < c → rc_ok (ρ s) := fun s hs => (hRA s hs).2.2.2.2.2
  have e7 : nI c - 1 = nI (c - 1) := by
    obtain ⟨c', rfl⟩ : ∃ c', c = c' + 1 := ⟨c - 1, by omega⟩
    exact nI_pred c'
  unfold wpX_idle
  refine br_f (nI_pos (by omega)) (br_t (nI_lt hkc (by omega)) ?_)
  refine rx_ok5 hn (br_t rfl ?_)
  refine rx_keepAll hk hRA hW hWl hW3 hn ?_
  intro fC' fG' fE' fW' aT' aB' aH' aN' aC' aG' aO' aD' kT kD
  refine nm_r e7 ⟨c - 1 - k + 1, ?_⟩
  have key : ∀ (d s f : Nat) (aT : Nat → Int32), s + d = c - 1 → d < f → k ≤ s → (∀ j, j < k → aT j = nI j) → (∀ j, k ≤ j → j < s → aT j = nI (j + 1)) → wX_idle_42 post (nI n) (nI c) (nI W.length) (nI (c - 1)) fC' fG' fE' fW' fF fA f (nI s) aK aF aI aL aR aW aT aB' aH' aN' aC' aG' aO' aM aY aP aQ aD' := by
    intro d
    induction d with
    | zero =>
      intro s f aT hs hf hks h1 h2
      obtain ⟨m, rfl⟩ : ∃ m, f = m + 1 := ⟨f - 1, by omega⟩
      refine br_t (nI_le (by omega) (by omega)) ?_
      refine rx_sameAll (ρ := rc_dp ρ k) (g := rc_f ρ c n) (by omega) ?_ hW hWl hW3 hn kD (fun w => by have := rc_f_lt hρ hn w; omega) ?_
      · intro j hj
        unfold rc_dp
        by_cases z1 : j < k
        · rw [if_pos z1]
          exact ⟨j, by omega, h1 j z1, hRA j (by omega)⟩
        · rw [if_neg z1]
          exact ⟨j + 1, by omega, h2 j (by omega) (by omega), hRA (j + 1) (by omega)⟩
      · intro fC2 fG2 fE2 fW2 aB2 aH2 aN2 aC2 aG2 aO2
        have hh := K (nI (c - 1)) fC2 fG2 fE2 fW2 aT aB2 aH2 aN2 aC2 aG2 aO2 aD'
        refine rc_b2_0 _ ?_ ?_
        · intro hb
          rw [hb] at hh
          exact hh
        · intro hb
          rw [hb] at hh
          exact hh
    | succ d ih =>
      intro s f aT hs hf hks h1 h2
      obtain ⟨m, rfl⟩ : ∃ m, f = m + 1 := ⟨f - 1, by omega⟩
      have e : (nI s).toNatClampNeg = s := nI_clamp (by omega)
      refine br_f (nI_ge (by omega) (by omega)) ⟨vp_in_nI (by omega) (by decide), nm_e (nm_r (nI_1 s) ?_)⟩
      rw [e, nI_1, rc_by (by omega)]
      refine ih (s + 1) m _ (by omega) (by omega) (by omega) (fun j hj => ?_) (fun j hj hj2 => ?_)
      · rw [pk_un (by omega)]; exact h1 j hj
      · by_cases z : j = s
        · rw [z]; exact pk_us
        · rw [pk_un z]; exact h2 j hj (by omega)
  exact key (c - 1 - k) k (c - 1 - k + 1) aT' (by omega) (by omega) (Nat.le_refl k) (fun j hj => kT j (by omega)) (fun j h1 h2 => absurd h2 (by omega))
theorem rx_still {post : Int32 → SX → Prop} {c n : Nat} {ρ : Nat → rc_R} {W : List Nat} (hk : c ≤ 5) (hRA : ∀ r, r < c → rc_RA aK aF aI aL aR r (ρ r)) (hW : rc_A aW W) (hWl : W.length ≤ 12) (hW3 : ∀ a ∈ W, a ≤ 3) (hn : n ≤ 5)
    (K : ∀ (fL' : Int32) (fC' : Int32) (fG' : Int32) (fE' : Int32) (fW' : Int32) (aT' : Nat → Int32) (aB' : Nat → Int32) (aH' : Nat → Int32) (aN' : Nat → Int32) (aC' : Nat → Int32) (aG' : Nat → Int32) (aO' : Nat → Int32), post (nI (rc_cn (fun w => decide (rc_f ρ c n w = 4 ^ n + w)) (4 ^ n))) (nI c, nI W.length, fL', fC', fG', fE', fW', fF, fA, aK, aF, aI, aL, aR, aW, aT', aB', aH', aN', aC', aG', aO', aM, aY, aP, aQ, aD)) :
    wpX_still post (nI c, nI W.length, fL, fC, fG, fE, fW, fF, fA, aK, aF, aI, aL, aR, aW, aT, aB, aH, aN, aC, aG, aO, aM, aY, aP, aQ, aD) (nI n) := by
  have h4 := rc_4n n hn
  have ep := rc_pow5 n hn
  have hρ : ∀ s, s < c → rc_ok (ρ s) := fun s hs => (hRA s hs).2.2.2.2.2
  unfold wpX_still
  refine rx_ok5 hn (br_t rfl ?_)
  refine rx_use hk ?_
  intro aT' kT
  have hLA : rc_LA c ρ aK aF aI aL aR aT' := fun s hs => ⟨s, by omega, kT s hs, hRA s hs⟩
  have key : ∀ (d w f : Nat) (fC : Int32) (fG : Int32) (fE : Int32) (fW : Int32) (aB : Nat → Int32) (aH : Nat → Int32) (aN : Nat → Int32) (aC : Nat → Int32) (aG : Nat → Int32) (aO : Nat → Int32), w + d = 4 ^ n → d < f → wX_still_22 post (nI n) f (nI (rc_cn (fun w => decide (rc_f ρ c n w = 4 ^ n + w)) w)) (nI w) (nI c) (nI W.length) (nI c) fC fG fE fW fF fA aK aF aI aL aR aW aT' aB aH aN aC aG aO aM aY aP aQ aD := by
    intro d
    induction d with
    | zero =>
      intro w f fC fG fE fW aB aH aN aC aG aO hw hf
      obtain ⟨m, rfl⟩ : ∃ m, f = m + 1 := ⟨f - 1, by omega⟩
      have e : w = 4 ^ n := hw
      rw [e]
      exact br_t (by rw [ep]; exact nI_le (Nat.le_refl _) (by omega)) (K _ fC fG fE fW aT' aB aH aN aC aG aO)
    | succ d ih =>
      intro w f fC fG fE fW aB aH aN aC aG aO hw hf
      obtain ⟨m, rfl⟩ : ∃ m, f = m + 1 := ⟨f - 1, by omega⟩
      refine br_f (by rw [ep]; exact nI_ge (by omega) (by omega)) ?_
      refine rx_num hk hLA hW hWl hW3 hn (by omega) ?_
      intro fC' fG' fE' fW' aB' aH' aN' aC' aG' aO'
      have hfl := rc_f_lt hρ hn w
      have ef : rc_f ρ c n w = rc_cd (rc_wa ρ (rc_dg n w) c) := rfl
      have ecn : rc_cn (fun w => decide (rc_f ρ c n w = 4 ^ n + w)) (w + 1) = rc_cn (fun w => decide (rc_f ρ c n w = 4 ^ n + w)) w + (if decide (rc_f ρ c n w = 4 ^ n + w) = true then 1 else 0) := rfl
      have h := ih (w + 1) m fC' fG' fE' fW' aB' aH' aN' aC' aG' aO' (by omega) (by omega)
      rw [← ef, ep, rc_orp n hn w (by omega)]
      by_cases hc : rc_f ρ c n w = 4 ^ n + w
      · rw [decide_eq_true hc, if_pos rfl] at ecn
        rw [ecn] at h
        exact br_t (by rw [hc]) (nm_r (nI_1 _) (nm_r (nI_1 w) h))
      · rw [decide_eq_false hc, if_neg (by decide), Nat.add_zero] at ecn
        rw [ecn] at h
        exact br_f (fun y => hc (rc_nI8 (by omega) (by omega) y)) (nm_r (nI_1 w) h)
  exact ⟨4 ^ n + 1, key (4 ^ n) 0 (4 ^ n + 1) fC fG fE fW aB aH aN aC aG aO (by omega) (by omega)⟩
end
end
section
theorem rc_P_iff {ρ : Nat → rc_R} {c n w : Nat} {W : List Nat} (hρ : ∀ s, s < c → rc_ok (ρ s)) (hn : n ≤ 5) (hWl : W.length ≤ 12) (hW3 : ∀ a ∈ W, a ≤ 3) : nI (rc_f ρ c n w) = nI (rc_cd W) ↔ rc_P ρ c W n w = true := by
  have h3 := rc_wa_le ρ hρ _ (rc_dg_le n w) c (Nat.le_refl c)
  have hl := rc_f_lt hρ hn w
  have hw := rc_cd_lt hW3 hWl
  unfold rc_P
  rw [nI_eq (by omega) (by omega), decide_eq_true_iff]
  exact ⟨fun e => rc_cd_inj h3 hW3 e, fun e => congrArg rc_cd e⟩
/-- the results that are known: a set -/
def rc_YS (many : Nat) (S : Nat → Prop) (bD : Nat → Int32) : Prop := (∀ i, i < many → ∃ v, bD i = nI v ∧ v < 2 ^ 31 ∧ S v) ∧ (∀ v, S v → ∃ i, i < many ∧ bD i = nI v)
theorem rc_sw2 {a : Nat → Int32} {k r : Nat} : upd (upd a k (a (k + 1))) (k + 1) (a k) r = if r = k then a (k + 1) else if r = k + 1 then a k else a r := by
  by_cases z1 : r = k
  · rw [if_pos z1, pk_un (by omega), z1, pk_us]
  · rw [if_neg z1]
    by_cases z2 : r = k + 1
    · rw [if_pos z2, z2, pk_us]
    · rw [if_neg z2, pk_un z2, pk_un z1]
theorem rc_sw_sw (ρ : Nat → rc_R) (k : Nat) : rc_sw (rc_sw ρ k) k = ρ := by
  funext s
  unfold rc_sw
  by_cases z1 : s = k
  · rw [if_pos z1, if_neg (by omega), if_pos rfl, z1]
  · rw [if_neg z1]
    by_cases z2 : s = k + 1
    · rw [if_pos z2, if_pos rfl, z2]
    · rw [if_neg z2, if_neg z1, if_neg z2]
def rc_wi (ρ : Nat → rc_R) (k : Nat) (w : List Nat) : Nat → List Nat
  | 0 => w
  | r + 1 => if r = k then rc_wi ρ k w r else rc_wk (ρ r) (rc_wi ρ k w r)
theorem rc_wi_lo (ρ : Nat → rc_R) (k : Nat) (w : List Nat) : ∀ r : Nat, r ≤ k → rc_wi ρ k w r = rc_wa (rc_dp ρ k) w r
  | 0, _ => rfl
  | r + 1, h => by
    show (if r = k then rc_wi ρ k w r else rc_wk (ρ r) (rc_wi ρ k w r)) = rc_wk (rc_dp ρ k r) (rc_wa (rc_dp ρ k) w r)
    rw [if_neg (by omega), rc_wi_lo ρ k w r (by omega)]
    unfold rc_dp
    rw [if_pos (by omega)]
theorem rc_wi_hi (ρ : Nat → rc_R) (k : Nat) (w : List Nat) : ∀ d : Nat, rc_wi ρ k w (k + 1 + d) = rc_wa (rc_dp ρ k) w (k + d)
  | 0 => by
    show (if k = k then rc_wi ρ k w k else rc_wk (ρ k) (rc_wi ρ k w k)) = rc_wa (rc_dp ρ k) w k
    rw [if_pos rfl, rc_wi_lo ρ k w k (Nat.le_refl k)]
  | d + 1 => by
    show (if k + 1 + d = k then rc_wi ρ k w (k + 1 + d) else rc_wk (ρ (k + 1 + d)) (rc_wi ρ k w (k + 1 + d))) = rc_wk (rc_dp ρ k (k + d)) (rc_wa (rc_dp ρ k) w (k + d))
    rw [if_neg (by omega), rc_wi_hi ρ k w d]
    unfold rc_dp
    rw [if_neg (by omega), show k + d + 1 = k + 1 + d by omega]
theorem rc_wi_all (ρ : Nat → rc_R) {k c : Nat} (h : k < c) (w : List Nat) : rc_wi ρ k w c = rc_wa (rc_dp ρ k) w (c - 1) := by
  have := rc_wi_hi ρ k w (c - 1 - k)
  rw [show k + 1 + (c - 1 - k) = c by omega, show k + (c - 1 - k) = c - 1 by omega] at this
  exact this
theorem rc_wi_len (ρ : Nat → rc_R) (k : Nat) (w : List Nat) (hw : w.length ≤ 12) : ∀ r : Nat, (rc_wi ρ k w r).length ≤ 12
  | 0 => hw
  | r + 1 => by
    show (if r = k then rc_wi ρ k w r else rc_wk (ρ r) (rc_wi ρ k w r)).length ≤ 12
    split
    · exact rc_wi_len ρ k w hw r
    · show (List.take 12 _).length ≤ 12
      rw [List.length_take]; omega
theorem rc_wi_le (ρ : Nat → rc_R) (k : Nat) {c : Nat} (hρ : ∀ s, s < c → rc_ok (ρ s)) (w : List Nat) (hw : ∀ a ∈ w, a ≤ 3) : ∀ r : Nat, r ≤ c → ∀ a ∈ rc_wi ρ k w r, a ≤ 3
  | 0, _ => hw
  | r + 1, h => fun a ha => by
    have ih := rc_wi_le ρ k hρ w hw r (by omega)
    replace ha : a ∈ (if r = k then rc_wi ρ k w r else rc_wk (ρ r) (rc_wi ρ k w r)) := ha
    split at ha
    · exact ih a ha
    · exact rc_go_le (ρ r) (hρ r (by omega)).2.2.1 _ 4 ih a (List.mem_of_mem_take ha)
section
variable {gC : Int32} {gL : Int32} {gS : Int32} {gM : Int32} {bK : Nat → Int32} {bX : Nat → Int32} {bY : Nat → Int32} {bS : Nat → Int32} {bW : Nat → Int32} {bR : Nat → Int32} {bM : Nat → Int32} {bD : Nat → Int32}
theorem ry_ok5 {post : Int32 → Prop} {n : Nat} (hn : n ≤ 5) (K : post 0) : wpY_noSize post (gC, gL, gS, gM, bK, bX, bY, bS, bW, bR, bM, bD) (nI n) := by
  unfold wpY_noSize
  exact br_f (nI_pos (by omega)) (br_t (nI_le (b := 5) hn (by decide)) K)
theorem ry_no5 {post : Int32 → Prop} {x : Int32} (h : x < 0 ∨ ¬ x ≤ 5) (K : post 1) : wpY_noSize post (gC, gL, gS, gM, bK, bX, bY, bS, bW, bR, bM, bD) x := by
  unfold wpY_noSize
  by_cases h0 : x < 0
  · exact br_t h0 K
  · exact br_f h0 (br_f (h.resolve_left h0) K)
theorem ry_sources {post : Int32 → SY → Prop} {c n : Nat} {ρ : Nat → rc_R} {W : List Nat} (hk : c ≤ 5) (hρ : ∀ r, r < c → rc_RY bK bX bY bS r (ρ r)) (hW : rc_A bW W) (hWl : W.length ≤ 12) (hW3 : ∀ a ∈ W, a ≤ 3) (hn : n ≤ 5)
    (K : ∀ (gS' : Int32) (gM' : Int32) (bM' : Nat → Int32) (bR' : Nat → Int32), post (nI (rc_cn (rc_P ρ c W n) (4 ^ n))) (nI c, nI W.length, gS', gM', bK, bX, bY, bS, bW, bR', bM', bD)) :
    wpY_sources post (nI c, nI W.length, gS, gM, bK, bX, bY, bS, bW, bR, bM, bD) (nI n) := by
  have h4 := rc_4n n hn
  have ok : ∀ s, s < c → rc_ok (ρ s) := fun s hs => (hρ s hs).2.2.2.2
  have e2 : 2 * nI (4 ^ n) = nI (2 * 4 ^ n) := by rw [show (2 : Int32) = nI 2 from rfl, pk_mul]
  unfold wpY_sources
  refine ry_ok5 hn (br_t rfl ?_)
  refine ry_cow hWl hW ?_
  intro gS' bR'
  refine ry_least hn ?_
  have key : ∀ (d w f : Nat) (gS : Int32) (gM : Int32) (bM : Nat → Int32) (bR : Nat → Int32), w + d = 4 ^ n → d < f → wY_sources_24 post (nI n) (nI (rc_cd W)) f (nI (rc_cn (rc_P ρ c W n) w)) (nI (4 ^ n + w)) (nI c) (nI W.length) gS gM bK bX bY bS bW bR bM bD := by
    intro d
    induction d with
    | zero =>
      intro w f gS gM bM bR hw hf
      obtain ⟨m, rfl⟩ : ∃ m, f = m + 1 := ⟨f - 1, by omega⟩
      have e : w = 4 ^ n := hw
      rw [wY_sources_24]
      refine ry_least hn ?_
      rw [e, e2]
      exact br_t (nI_le (by omega) (by omega)) (K gS gM bM bR)
    | succ d ih =>
      intro w f gS gM bM bR hw hf
      obtain ⟨m, rfl⟩ : ∃ m, f = m + 1 := ⟨f - 1, by omega⟩
      rw [wY_sources_24]
      refine ry_least hn ?_
      rw [e2]
      refine br_f (nI_ge (by omega) (by omega)) ?_
      refine ry_res hk hρ hn (by omega) ?_
      intro gS' gM' bM' bR'
      have ecn : rc_cn (rc_P ρ c W n) (w + 1) = rc_cn (rc_P ρ c W n) w + (if rc_P ρ c W n w = true then 1 else 0) := rfl
      have h := ih (w + 1) m gS' gM' bM' bR' (by omega) (by omega)
      have hiff := rc_P_iff (w := w) ok hn hWl hW3
      by_cases hc : rc_P ρ c W n w = true
      · rw [if_pos hc] at ecn
        rw [ecn] at h
        exact br_t (hiff.mpr hc) (nm_r (nI_1 _) (nm_r (nI_1 _) h))
      · rw [if_neg hc] at ecn
        rw [ecn] at h
        exact br_f (fun y => hc (hiff.mp y)) (nm_r (nI_1 _) h)
  exact ⟨4 ^ n + 1, key (4 ^ n) 0 (4 ^ n + 1) gS' gM bM bR' (by omega) (by omega)⟩
theorem ry_source {post : Int32 → SY → Prop} {c n : Nat} {x : Int32} {ρ : Nat → rc_R} {W : List Nat} (hk : c ≤ 5) (hρ : ∀ r, r < c → rc_RY bK bX bY bS r (ρ r)) (hW : rc_A bW W) (hWl : W.length ≤ 12) (hW3 : ∀ a ∈ W, a ≤ 3) (hn : n ≤ 5)
    (K1 : (∀ w, w < 4 ^ n → rc_P ρ c W n w = true → ¬ nI (rc_cn (rc_P ρ c W n) w) = x) → ∀ (gS' : Int32) (gM' : Int32) (bM' : Nat → Int32) (bR' : Nat → Int32), post (-4) (nI c, nI W.length, gS', gM', bK, bX, bY, bS, bW, bR', bM', bD))
    (K2 : ∀ w, w < 4 ^ n → rc_P ρ c W n w = true → nI (rc_cn (rc_P ρ c W n) w) = x → ∀ (gS' : Int32) (gM' : Int32) (bM' : Nat → Int32) (bR' : Nat → Int32), post (nI (4 ^ n + w)) (nI c, nI W.length, gS', gM', bK, bX, bY, bS, bW, bR', bM', bD)) :
    wpY_source post (nI c, nI W.length, gS, gM, bK, bX, bY, bS, bW, bR, bM, bD) (nI n) x := by
  have h4 := rc_4n n hn
  have ok : ∀ s, s < c → rc_ok (ρ s) := fun s hs => (hρ s hs).2.2.2.2
  have e2 : 2 * nI (4 ^ n) = nI (2 * 4 ^ n) := by rw [show (2 : Int32) = nI 2 from rfl, pk_mul]
  unfold wpY_source
  refine ry_ok5 hn (br_t rfl ?_)
  refine ry_cow hWl hW ?_
  intro gS' bR'
  refine ry_least hn ?_
  have key : ∀ (d w f : Nat) (gS : Int32) (gM : Int32) (bM : Nat → Int32) (bR : Nat → Int32), w + d = 4 ^ n → d < f → (∀ v, v < w → rc_P ρ c W n v = true → ¬ nI (rc_cn (rc_P ρ c W n) v) = x) → wY_source_25 post (nI n) x (nI (rc_cd W)) f (nI (rc_cn (rc_P ρ c W n) w)) (nI (4 ^ n + w)) (nI c) (nI W.length) gS gM bK bX bY bS bW bR bM bD := by
    intro d
    induction d with
    | zero =>
      intro w f gS gM bM bR hw hf hno
      obtain ⟨m, rfl⟩ : ∃ m, f = m + 1 := ⟨f - 1, by omega⟩
      have e : w = 4 ^ n := hw
      rw [wY_source_25]
      refine ry_least hn ?_
      rw [e] at hno
      rw [e, e2]
      exact br_t (nI_le (by omega) (by omega)) (K1 hno gS gM bM bR)
    | succ d ih =>
      intro w f gS gM bM bR hw hf hno
      obtain ⟨m, rfl⟩ : ∃ m, f = m + 1 := ⟨f - 1, by omega⟩
      rw [wY_source_25]
      refine ry_least hn ?_
      rw [e2]
      refine br_f (nI_ge (by omega) (by omega)) ?_
      refine ry_res hk hρ hn (by omega) ?_
      intro gS' gM' bM' bR'
      have ecn : rc_cn (rc_P ρ c W n) (w + 1) = rc_cn (rc_P ρ c W n) w + (if rc_P ρ c W n w = true then 1 else 0) := rfl
      have hiff := rc_P_iff (w := w) ok hn hWl hW3
      by_cases hc : rc_P ρ c W n w = true
      · refine br_t (hiff.mpr hc) ?_
        by_cases hx : nI (rc_cn (rc_P ρ c W n) w) = x
        · exact br_t hx (K2 w (by omega) hc hx gS' gM' bM' bR')
        · have h := ih (w + 1) m gS' gM' bM' bR' (by omega) (by omega) (fun v hv hPv => by
            by_cases z : v = w
            · rw [z]; exact hx
            · exact hno v (by omega) hPv)
          rw [if_pos hc] at ecn
          rw [ecn] at h
          exact br_f hx (nm_r (nI_1 _) (nm_r (nI_1 _) h))
      · have h := ih (w + 1) m gS' gM' bM' bR' (by omega) (by omega) (fun v hv hPv => by
            by_cases z : v = w
            · rw [z] at hPv; exact absurd hPv hc
            · exact hno v (by omega) hPv)
        rw [if_neg hc] at ecn
        rw [ecn] at h
        exact br_f (fun y => hc (hiff.mp y)) (nm_r (nI_1 _) h)
  exact ⟨4 ^ n + 1, key (4 ^ n) 0 (4 ^ n + 1) gS' gM bM bR' (by omega) (by omega) (fun v hv => absurd hv (Nat.not_lt_zero v))⟩
theorem ry_img42 {post : Int32 → SY → Prop} {J18 : _} {x1 x3 x4 : Int32} {many : Nat} (hm : many ≤ 1024)
    (K1 : (∃ j, j < many ∧ bD j = x4) → wY_images_78 post J18 x1 (nI many) x3 x4 1 gC gL gS gM bK bX bY bS bW bR bM bD) (K2 : (∀ j, j < many → ¬ bD j = x4) → wY_images_78 post J18 x1 (nI many) x3 x4 0 gC gL gS gM bK bX bY bS bW bR bM bD) :
    ∀ (d i f : Nat), i + d = many → d < f → (∀ j, j < i → ¬ bD j = x4) → wY_images_42 post J18 x1 (nI many) x3 x4 gC gL gS gM bK bX bY bS bW bR bM bD f 0 (nI i) := by
  intro d
  induction d with
  | zero =>
    intro i f hi hf hno
    obtain ⟨m, rfl⟩ : ∃ m, f = m + 1 := ⟨f - 1, by omega⟩
    exact br_t (nI_le (by omega) (by omega)) (K2 (fun j hj => hno j (by omega)))
  | succ d ih =>
    intro i f hi hf hno
    obtain ⟨m, rfl⟩ : ∃ m, f = m + 2 := ⟨f - 2, by omega⟩
    have e : (nI i).toNatClampNeg = i := nI_clamp (by omega)
    refine br_f (nI_ge (by omega) (by omega)) (br_t rfl ⟨vp_in_nI (by omega) (by decide), ?_⟩)
    rw [e]
    by_cases hc : bD i = x4
    · refine br_t hc (nm_r (nI_1 i) ?_)
      have hk := K1 ⟨i, by omega, hc⟩
      by_cases hi1 : many ≤ i + 1
      · exact br_t (nI_le hi1 (by omega)) hk
      · exact br_f (nI_ge (by omega) (by omega)) (br_f (by decide) hk)
    · refine br_f hc (nm_r (nI_1 i) ?_)
      refine ih (i + 1) (m + 1) (by omega) (by omega) (fun j hj => ?_)
      by_cases z : j = i
      · rw [z]; exact hc
      · exact hno j (by omega)
theorem ry_images {post : Int32 → SY → Prop} {c n : Nat} {ρ : Nat → rc_R} (hk : c ≤ 5) (hρ : ∀ r, r < c → rc_RY bK bX bY bS r (ρ r)) (hn : n ≤ 5)
    (K : ∀ (gS' : Int32) (gM' : Int32) (bM' : Nat → Int32) (bR' : Nat → Int32) (bD' : Nat → Int32), post (nI (rc_nw (rc_f ρ c n) (4 ^ n))) (nI c, gL, gS', gM', bK, bX, bY, bS, bW, bR', bM', bD')) :
    wpY_images post (nI c, gL, gS, gM, bK, bX, bY, bS, bW, bR, bM, bD) (nI n) := by
  have h4 := rc_4n n hn
  have ok : ∀ s, s < c → rc_ok (ρ s) := fun s hs => (hρ s hs).2.2.2.2
  have e2 : 2 * nI (4 ^ n) = nI (2 * 4 ^ n) := by rw [show (2 : Int32) = nI 2 from rfl, pk_mul]
  unfold wpY_images
  refine ry_ok5 hn (br_t rfl ?_)
  refine ry_least hn ?_
  have key : ∀ (d w f : Nat) (gS : Int32) (gM : Int32) (bM : Nat → Int32) (bR : Nat → Int32) (bD : Nat → Int32), w + d = 4 ^ n → d < f → rc_YS (rc_nw (rc_f ρ c n) w) (fun u => rc_seen (rc_f ρ c n) u w = true) bD → wY_images_18 post (nI n) f (nI (rc_nw (rc_f ρ c n) w)) (nI (4 ^ n + w)) (nI c) gL gS gM bK bX bY bS bW bR bM bD := by
    intro d
    induction d with
    | zero =>
      intro w f gS gM bM bR bD hw hf hS
      obtain ⟨m, rfl⟩ : ∃ m, f = m + 1 := ⟨f - 1, by omega⟩
      have e : w = 4 ^ n := hw
      rw [wY_images_18]
      refine ry_least hn ?_
      rw [e, e2]
      exact br_t (nI_le (by omega) (by omega)) (K gS gM bM bR bD)
    | succ d ih =>
      intro w f gS gM bM bR bD hw hf hS
      obtain ⟨m, rfl⟩ : ∃ m, f = m + 1 := ⟨f - 1, by omega⟩
      have hnw := rc_nw_le (rc_f ρ c n) w
      rw [wY_images_18]
      refine ry_least hn ?_
      rw [e2]
      refine br_f (nI_ge (by omega) (by omega)) ?_
      refine ry_res hk hρ hn (by omega) ?_
      intro gS' gM' bM' bR'
      have hfl := rc_f_lt ok hn w
      have ef : rc_f ρ c n w = rc_cd (rc_wa ρ (rc_dg n w) c) := rfl
      rw [← ef]
      have es : ∀ u, rc_seen (rc_f ρ c n) u (w + 1) = (rc_seen (rc_f ρ c n) u w || decide (rc_f ρ c n w = u)) := fun _ => rfl
      have en : rc_nw (rc_f ρ c n) (w + 1) = rc_nw (rc_f ρ c n) w + (if rc_seen (rc_f ρ c n) (rc_f ρ c n w) w = true then 0 else 1) := rfl
      refine ⟨rc_nw (rc_f ρ c n) w + 1, ry_img42 (by omega) ?_ ?_ (rc_nw (rc_f ρ c n) w) 0 _ (by omega) (by omega) (fun j hj => absurd hj (Nat.not_lt_zero j))⟩
      · rintro ⟨j, hj, hjx⟩
        have hs : rc_seen (rc_f ρ c n) (rc_f ρ c n w) w = true := by
          obtain ⟨v, hv1, hv2, hv3⟩ := hS.1 j hj
          have : v = rc_f ρ c n w := rc_nI8 hv2 (by omega) (hv1.symm.trans hjx)
          rw [← this]; exact hv3
        rw [hs, if_pos rfl] at en
        replace en : rc_nw (rc_f ρ c n) (w + 1) = rc_nw (rc_f ρ c n) w := en
        unfold wY_images_78
        refine br_f (by decide) (nm_r (nI_1 _) ?_)
        rw [← en]
        refine ih (w + 1) m gS' gM' bM' bR' bD (by omega) (by omega) ?_
        rw [en]
        refine ⟨fun i hi => ?_, fun v hv => ?_⟩
        · obtain ⟨v, h1, h2, h3⟩ := hS.1 i hi
          refine ⟨v, h1, h2, ?_⟩
          show rc_seen (rc_f ρ c n) v (w + 1) = true
          rw [es v, Bool.or_eq_true]
          exact Or.inl h3
        · replace hv : rc_seen (rc_f ρ c n) v (w + 1) = true := hv
          rw [es v, Bool.or_eq_true, decide_eq_true_iff] at hv
          rcases hv with z | z
          · exact hS.2 v z
          · rw [← z]; exact hS.2 _ hs
      · intro hno
        have hs : ¬ rc_seen (rc_f ρ c n) (rc_f ρ c n w) w = true := by
          intro z
          obtain ⟨i, hi, hix⟩ := hS.2 _ z
          exact hno i hi hix
        rw [if_neg hs] at en
        have e : (nI (rc_nw (rc_f ρ c n) w)).toNatClampNeg = rc_nw (rc_f ρ c n) w := nI_clamp (by omega)
        unfold wY_images_78
        refine br_t rfl ⟨vp_in_nI (by omega) (by decide), nm_e (nm_r (nI_1 _) (nm_r (nI_1 _) ?_))⟩
        rw [← en, e]
        refine ih (w + 1) m gS' gM' bM' bR' _ (by omega) (by omega) ?_
        rw [en]
        refine ⟨fun i hi => ?_, fun v hv => ?_⟩
        · by_cases z : i = rc_nw (rc_f ρ c n) w
          · refine ⟨rc_f ρ c n w, by rw [z]; exact pk_us, by omega, ?_⟩
            show rc_seen (rc_f ρ c n) (rc_f ρ c n w) (w + 1) = true
            rw [es, decide_eq_true rfl, Bool.or_true]
          · obtain ⟨v, h1, h2, h3⟩ := hS.1 i (by omega)
            refine ⟨v, by rw [pk_un z]; exact h1, h2, ?_⟩
            show rc_seen (rc_f ρ c n) v (w + 1) = true
            rw [es v, Bool.or_eq_true]
            exact Or.inl h3
        · replace hv : rc_seen (rc_f ρ c n) v (w + 1) = true := hv
          rw [es v, Bool.or_eq_true, decide_eq_true_iff] at hv
          rcases hv with z | z
          · obtain ⟨i, hi, hix⟩ := hS.2 v z
            exact ⟨i, by omega, by rw [pk_un (by omega)]; exact hix⟩
          · exact ⟨rc_nw (rc_f ρ c n) w, by omega, by rw [← z]; exact pk_us⟩
  refine ⟨4 ^ n + 1, key (4 ^ n) 0 (4 ^ n + 1) gS gM bM bR bD (by omega) (by omega) ⟨fun i hi => absurd hi (Nat.not_lt_zero i), fun v hv => absurd hv (show ¬ (false = true) by decide)⟩⟩
theorem ry_pair {post : Int32 → Prop} {c k : Nat} (hc : c ≤ 5) (hk : k + 1 < c) (K : post 0) : wpY_noPair post (nI c, gL, gS, gM, bK, bX, bY, bS, bW, bR, bM, bD) (nI k) := by
  have e7 : nI c - 1 = nI (c - 1) := by
    obtain ⟨c', rfl⟩ : ∃ c', c = c' + 1 := ⟨c - 1, by omega⟩
    exact nI_pred c'
  unfold wpY_noPair
  exact br_f (nI_pos (by omega)) (br_t (by rw [e7]; exact nI_lt (by omega) (by omega)) K)
theorem rc_RY_sw {k : Nat} {ρ : Nat → rc_R} (hk : k + 1 < 5) (hρ : ∀ r, r < 5 → rc_RY bK bX bY bS r (ρ r)) : ∀ r, r < 5 → rc_RY (upd (upd bK k (bK (k + 1))) (k + 1) (bK k)) (upd (upd bX k (bX (k + 1))) (k + 1) (bX k)) (upd (upd bY k (bY (k + 1))) (k + 1) (bY k)) (upd (upd bS k (bS (k + 1))) (k + 1) (bS k)) r (rc_sw ρ k r) := by
  intro r hr
  unfold rc_RY rc_sw
  rw [rc_sw2, rc_sw2, rc_sw2, rc_sw2]
  by_cases z1 : r = k
  · rw [if_pos z1, if_pos z1, if_pos z1, if_pos z1, if_pos z1]
    exact hρ (k + 1) hk
  · rw [if_neg z1, if_neg z1, if_neg z1, if_neg z1, if_neg z1]
    by_cases z2 : r = k + 1
    · rw [if_pos z2, if_pos z2, if_pos z2, if_pos z2, if_pos z2]
      exact hρ k (by omega)
    · rw [if_neg z2, if_neg z2, if_neg z2, if_neg z2, if_neg z2]
      exact hρ r hr
theorem ry_swap {post : Int32 → SY → Prop} {c k : Nat} {ρ : Nat → rc_R} (hc : c ≤ 5) (hk : k + 1 < c) (hρ : ∀ r, r < 5 → rc_RY bK bX bY bS r (ρ r))
    (K : ∀ (bK' : Nat → Int32) (bX' : Nat → Int32) (bY' : Nat → Int32) (bS' : Nat → Int32), (∀ r, r < 5 → rc_RY bK' bX' bY' bS' r (rc_sw ρ k r)) → post 0 (nI c, gL, gS, gM, bK', bX', bY', bS', bW, bR, bM, bD)) :
    wpY_swap post (nI c, gL, gS, gM, bK, bX, bY, bS, bW, bR, bM, bD) (nI k) := by
  have e5 : (nI k).toNatClampNeg = k := nI_clamp (by omega)
  have e6 : (nI (k + 1)).toNatClampNeg = k + 1 := nI_clamp (by omega)
  have h1 : vp_in (nI k) 5 := vp_in_nI (by omega) (by decide)
  have h2 : vp_in (nI (k + 1)) 5 := vp_in_nI (by omega) (by decide)
  unfold wpY_swap
  refine ry_pair hc hk (br_t rfl ?_)
  rw [nI_1, e5, e6]
  refine ⟨h1, nm_e ⟨h1, nm_e ⟨h1, nm_e ⟨h1, nm_e ⟨h2, h1, nm_e ⟨h2, h1, nm_e ⟨h2, h1, nm_e ⟨h2, h1, nm_e ⟨h2, nm_e ⟨h2, nm_e ⟨h2, nm_e ⟨h2, nm_e ?_⟩⟩⟩⟩⟩⟩⟩⟩⟩⟩⟩⟩
  exact K _ _ _ _ (rc_RY_sw (by omega) hρ)
theorem ry_commute {post : Int32 → SY → Prop} {c n k : Nat} {ρ : Nat → rc_R} (hc : c ≤ 5) (hk : k + 1 < c) (hρ : ∀ r, r < 5 → rc_RY bK bX bY bS r (ρ r)) (hn : n ≤ 5)
    (K : ∀ (gS' : Int32) (gM' : Int32) (bK' : Nat → Int32) (bX' : Nat → Int32) (bY' : Nat → Int32) (bS' : Nat → Int32) (bM' : Nat → Int32) (bR' : Nat → Int32) (bD' : Nat → Int32), (∀ r, r < 5 → rc_RY bK' bX' bY' bS' r (ρ r)) → post (rc_b2 (rc_eqs (rc_f (rc_sw ρ k) c n) (rc_f ρ c n) (4 ^ n))) (nI c, gL, gS', gM', bK', bX', bY', bS', bW, bR', bM', bD')) :
    wpY_commute post (nI c, gL, gS, gM, bK, bX, bY, bS, bW, bR, bM, bD) (nI k) (nI n) := by
  have h4 := rc_4n n hn
  have e2 : 2 * nI (4 ^ n) = nI (2 * 4 ^ n) := by rw [show (2 : Int32) = nI 2 from rfl, pk_mul]
  have ok : ∀ s, s < c → rc_ok (ρ s) := fun s hs => (hρ s (by omega)).2.2.2.2
  unfold wpY_commute
  refine ry_pair hc hk (br_t rfl ?_)
  refine ry_ok5 hn (br_t rfl ?_)
  refine ry_least hn ?_
  have key2 : ∀ (d w f : Nat) (gS : Int32) (gM : Int32) (bK : Nat → Int32) (bX : Nat → Int32) (bY : Nat → Int32) (bS : Nat → Int32) (bM : Nat → Int32) (bR : Nat → Int32) (bD : Nat → Int32), w + d = 4 ^ n → d < f → (∀ r, r < 5 → rc_RY bK bX bY bS r (rc_sw ρ k r)) → (∀ v, v < 4 ^ n → bD v = nI (rc_f ρ c n v)) → wY_commute_71 post (nI k) (nI (4 ^ n)) f (rc_b2 (rc_eqs (rc_f (rc_sw ρ k) c n) (rc_f ρ c n) w)) (nI (4 ^ n + w)) (nI c) gL gS gM bK bX bY bS bW bR bM bD := by
    intro d
    induction d with
    | zero =>
      intro w f gS gM bK bX bY bS bM bR bD hw hf hR hD
      obtain ⟨m, rfl⟩ : ∃ m, f = m + 1 := ⟨f - 1, by omega⟩
      have e : w = 4 ^ n := hw
      rw [e]
      refine br_t (by rw [e2]; exact nI_le (by omega) (by omega)) ?_
      refine ry_swap hc hk hR ?_
      rw [rc_sw_sw]
      intro bK' bX' bY' bS' hR'
      exact K gS gM bK' bX' bY' bS' bM bR bD hR'
    | succ d ih =>
      intro w f gS gM bK bX bY bS bM bR bD hw hf hR hD
      obtain ⟨m, rfl⟩ : ∃ m, f = m + 1 := ⟨f - 1, by omega⟩
      have es : nI (4 ^ n + w) - nI (4 ^ n) = nI w := by rw [pk_sub (by omega)]; congr 1; omega
      have e : (nI w).toNatClampNeg = w := nI_clamp (by omega)
      have ok2 : ∀ s, s < c → rc_ok (rc_sw ρ k s) := fun s hs => (hR s (by omega)).2.2.2.2
      have hfl := rc_f_lt ok2 hn w
      have hfl2 := rc_f_lt ok hn w
      refine br_f (by rw [e2]; exact nI_ge (by omega) (by omega)) ?_
      refine ry_res hc (fun r hr => hR r (by omega)) hn (by omega) ?_
      intro gS' gM' bM' bR'
      rw [es]
      refine ⟨vp_in_nI (by omega) (by decide), ?_⟩
      have ef : rc_f (rc_sw ρ k) c n w = rc_cd (rc_wa (rc_sw ρ k) (rc_dg n w) c) := rfl
      rw [e, hD w (by omega), ← ef]
      have h := ih (w + 1) m gS' gM' bK bX bY bS bM' bR' bD (by omega) (by omega) hR hD
      have eq1 : rc_eqs (rc_f (rc_sw ρ k) c n) (rc_f ρ c n) (w + 1) = (rc_eqs (rc_f (rc_sw ρ k) c n) (rc_f ρ c n) w && decide (rc_f (rc_sw ρ k) c n w = rc_f ρ c n w)) := rfl
      by_cases hx : rc_f (rc_sw ρ k) c n w = rc_f ρ c n w
      · rw [decide_eq_true hx, Bool.and_true] at eq1
        rw [eq1] at h
        exact br_t (by rw [hx]) (nm_r (nI_1 _) h)
      · rw [decide_eq_false hx, Bool.and_false] at eq1
        rw [eq1] at h
        exact br_f (fun y => hx (rc_nI8 (by omega) (by omega) y).symm) (nm_r (nI_1 _) h)
  have key : ∀ (d w f : Nat) (gS : Int32) (gM : Int32) (bM : Nat → Int32) (bR : Nat → Int32) (bD : Nat → Int32), w + d = 4 ^ n → d < f → (∀ v, v < w → bD v = nI (rc_f ρ c n v)) → wY_commute_30 post (nI k) (nI (4 ^ n)) f (nI (4 ^ n + w)) (nI c) gL gS gM bK bX bY bS bW bR bM bD := by
    intro d
    induction d with
    | zero =>
      intro w f gS gM bM bR bD hw hf hD
      obtain ⟨m, rfl⟩ : ∃ m, f = m + 1 := ⟨f - 1, by omega⟩
      refine br_t (by rw [e2]; exact nI_le (by omega) (by omega)) ?_
      refine ry_swap hc hk hρ ?_
      intro bK' bX' bY' bS' hR'
      exact ⟨4 ^ n + 1, key2 (4 ^ n) 0 (4 ^ n + 1) gS gM bK' bX' bY' bS' bM bR bD (by omega) (by omega) hR' (fun v hv => hD v (by omega))⟩
    | succ d ih =>
      intro w f gS gM bM bR bD hw hf hD
      obtain ⟨m, rfl⟩ : ∃ m, f = m + 1 := ⟨f - 1, by omega⟩
      have es : nI (4 ^ n + w) - nI (4 ^ n) = nI w := by rw [pk_sub (by omega)]; congr 1; omega
      have e : (nI w).toNatClampNeg = w := nI_clamp (by omega)
      refine br_f (by rw [e2]; exact nI_ge (by omega) (by omega)) ?_
      refine ry_res hc (fun r hr => hρ r (by omega)) hn (by omega) ?_
      intro gS' gM' bM' bR'
      rw [es]
      refine ⟨vp_in_nI (by omega) (by decide), nm_e (nm_r (nI_1 _) ?_)⟩
      rw [e]
      refine ih (w + 1) m gS' gM' bM' bR' _ (by omega) (by omega) ?_
      intro v hv
      by_cases z : v = w
      · rw [z]; exact pk_us
      · rw [pk_un z]; exact hD v (by omega)
  exact ⟨4 ^ n + 1, key (4 ^ n) 0 (4 ^ n + 1) gS gM bM bR bD (by omega) (by omega) (fun v hv => absurd hv (Nat.not_lt_zero v))⟩
theorem ry_idle {post : Int32 → SY → Prop} {c n k : Nat} {ρ : Nat → rc_R} (hc : c ≤ 5) (hk : k < c) (hρ : ∀ r, r < c → rc_RY bK bX bY bS r (ρ r)) (hn : n ≤ 5)
    (K : ∀ (gS' : Int32) (gM' : Int32) (bM' : Nat → Int32) (bR' : Nat → Int32), post (rc_b2 (rc_eqs (rc_f (rc_dp ρ k) (c - 1) n) (rc_f ρ c n) (4 ^ n))) (nI c, gL, gS', gM', bK, bX, bY, bS, bW, bR', bM', bD)) :
    wpY_idle post (nI c, gL, gS, gM, bK, bX, bY, bS, bW, bR, bM, bD) (nI k) (nI n) := by
  have h4 := rc_4n n hn
  have e2 : 2 * nI (4 ^ n) = nI (2 * 4 ^ n) := by rw [show (2 : Int32) = nI 2 from rfl, pk_mul]
  have ok : ∀ s, s < c → rc_ok (ρ s) := fun s hs => (hρ s (by omega)).2.2.2.2
  have ok2 : ∀ s, s < c - 1 → rc_ok (rc_dp ρ k s) := by
    intro s hs
    unfold rc_dp
    split
    · exact ok s (by omega)
    · exact ok (s + 1) (by omega)
  unfold wpY_idle
  refine br_f (nI_pos (by omega)) (br_t (nI_lt hk (by omega)) ?_)
  refine ry_ok5 hn (br_t rfl ?_)
  refine ry_least hn ?_
  have key2 : ∀ (J : _) (w : Nat), w < 4 ^ n → (∀ (gS' : Int32) (gM' : Int32) (bM' : Nat → Int32) (bR' : Nat → Int32), (rc_f (rc_dp ρ k) (c - 1) n w = rc_f ρ c n w → J (nI (4 ^ n + (w + 1))) (nI c) gL gS' gM' bK bX bY bS bW bR' bM' bD) ∧ (¬ rc_f (rc_dp ρ k) (c - 1) n w = rc_f ρ c n w → post 0 (nI c, gL, gS', gM', bK, bX, bY, bS, bW, bR', bM', bD))) →
      ∀ (d r f : Nat) (gM : Int32) (bM : Nat → Int32) (bR : Nat → Int32), r + d = c → d < f → rc_A bR (rc_wi ρ k (rc_dg n w) r) → wY_idle_59 post J (nI k) (nI (4 ^ n)) (nI (4 ^ n + w)) (nI (rc_f ρ c n w)) f (nI r) (nI c) gL (nI (rc_wi ρ k (rc_dg n w) r).length) gM bK bX bY bS bW bR bM bD := by
    intro J w hw KJ d
    have wl := rc_dg_len n w
    induction d with
    | zero =>
      intro r f gM bM bR hr hf hA
      obtain ⟨m, rfl⟩ : ∃ m, f = m + 1 := ⟨f - 1, by omega⟩
      have e : r = c := hr
      subst e
      have hfl := rc_f_lt ok hn w
      have hfl2 := rc_f_lt ok2 hn w
      refine br_t (nI_le (Nat.le_refl r) (by omega)) ?_
      refine ry_code (rc_wi_len ρ k _ (by omega) r) hA ?_
      have ef : rc_cd (rc_wi ρ k (rc_dg n w) r) = rc_f (rc_dp ρ k) (r - 1) n w := by
        rw [rc_wi_all ρ hk]; rfl
      rw [ef]
      by_cases hx : rc_f (rc_dp ρ k) (r - 1) n w = rc_f ρ r n w
      · exact br_t (by rw [hx]) (nm_r (nI_1 _) ((KJ _ gM bM bR).1 hx))
      · exact br_f (fun y => hx (rc_nI8 (by omega) (by omega) y).symm) ((KJ _ gM bM bR).2 hx)
    | succ d ih =>
      intro r f gM bM bR hr hf hA
      obtain ⟨m, rfl⟩ : ∃ m, f = m + 1 := ⟨f - 1, by omega⟩
      have ew : rc_wi ρ k (rc_dg n w) (r + 1) = if r = k then rc_wi ρ k (rc_dg n w) r else rc_wk (ρ r) (rc_wi ρ k (rc_dg n w) r) := rfl
      refine br_f (nI_ge (by omega) (by omega)) ?_
      by_cases hx : r = k
      · rw [if_pos hx] at ew
        refine br_t (by rw [hx]) (nm_r (nI_1 r) ?_)
        have h := ih (r + 1) m gM bM bR (by omega) (by omega) (by rw [ew]; exact hA)
        rw [ew] at h
        exact h
      · rw [if_neg hx] at ew
        refine br_f (fun y => hx (rc_nI8 (by omega) (by omega) y)) ?_
        refine ry_work (by omega) (hρ r (by omega)) hA (rc_wi_len ρ k _ (by omega) r) (rc_wi_le ρ k ok _ (rc_dg_le n w) r (by omega)) ?_
        intro gM' bM' bR' k1
        refine nm_r (nI_1 r) ?_
        have h := ih (r + 1) m gM' bM' bR' (by omega) (by omega) (by rw [ew]; exact k1)
        rw [ew] at h
        exact h
  have key : ∀ (d w f : Nat) (gS : Int32) (gM : Int32) (bM : Nat → Int32) (bR : Nat → Int32), w + d = 4 ^ n → d < f → rc_eqs (rc_f (rc_dp ρ k) (c - 1) n) (rc_f ρ c n) w = true → wY_idle_34 post (nI k) (nI (4 ^ n)) f (nI (4 ^ n + w)) (nI c) gL gS gM bK bX bY bS bW bR bM bD := by
    intro d
    induction d with
    | zero =>
      intro w f gS gM bM bR hw hf hq
      obtain ⟨m, rfl⟩ : ∃ m, f = m + 1 := ⟨f - 1, by omega⟩
      have e : w = 4 ^ n := hw
      rw [e] at hq
      rw [hq] at K
      exact br_t (by rw [e2]; exact nI_le (by omega) (by omega)) (K gS gM bM bR)
    | succ d ih =>
      intro w f gS gM bM bR hw hf hq
      obtain ⟨m, rfl⟩ : ∃ m, f = m + 1 := ⟨f - 1, by omega⟩
      refine br_f (by rw [e2]; exact nI_ge (by omega) (by omega)) ?_
      refine ry_res hc hρ hn (by omega) ?_
      intro gS' gM' bM' bR'
      refine ry_spread hn (by omega) ?_
      intro bR2 k1
      have eq1 : rc_eqs (rc_f (rc_dp ρ k) (c - 1) n) (rc_f ρ c n) (w + 1) = (rc_eqs (rc_f (rc_dp ρ k) (c - 1) n) (rc_f ρ c n) w && decide (rc_f (rc_dp ρ k) (c - 1) n w = rc_f ρ c n w)) := rfl
      rw [hq, Bool.true_and] at eq1
      refine ⟨c + 1, ?_⟩
      have h := key2 (wY_idle_34 post (nI k) (nI (4 ^ n)) m) w (by omega) ?_ c 0 (c + 1) gM' bM' bR2 (by omega) (by omega) k1
      · rw [show (rc_wi ρ k (rc_dg n w) 0).length = n from rc_dg_len n w] at h
        exact h
      · intro gS3 gM3 bM3 bR3
        refine ⟨fun hx => ?_, fun hx => ?_⟩
        · rw [decide_eq_true hx] at eq1
          exact ih (w + 1) m gS3 gM3 bM3 bR3 (by omega) (by omega) eq1
        · rw [decide_eq_false hx] at eq1
          have h := rc_eqs_f eq1 d
          rw [show w + 1 + d = 4 ^ n by omega] at h
          rw [h] at K
          exact K gS3 gM3 bM3 bR3
  exact ⟨4 ^ n + 1, key (4 ^ n) 0 (4 ^ n + 1) gS gM bM bR (by omega) (by omega) rfl⟩
theorem ry_still {post : Int32 → SY → Prop} {c n : Nat} {ρ : Nat → rc_R} (hc : c ≤ 5) (hρ : ∀ r, r < c → rc_RY bK bX bY bS r (ρ r)) (hn : n ≤ 5)
    (K : ∀ (gS' : Int32) (gM' : Int32) (bM' : Nat → Int32) (bR' : Nat → Int32), post (nI (rc_cn (fun w => decide (rc_f ρ c n w = 4 ^ n + w)) (4 ^ n))) (nI c, gL, gS', gM', bK, bX, bY, bS, bW, bR', bM', bD)) :
    wpY_still post (nI c, gL, gS, gM, bK, bX, bY, bS, bW, bR, bM, bD) (nI n) := by
  have h4 := rc_4n n hn
  have e2 : 2 * nI (4 ^ n) = nI (2 * 4 ^ n) := by rw [show (2 : Int32) = nI 2 from rfl, pk_mul]
  have ok : ∀ s, s < c → rc_ok (ρ s) := fun s hs => (hρ s (by omega)).2.2.2.2
  unfold wpY_still
  refine ry_ok5 hn (br_t rfl ?_)
  refine ry_least hn ?_
  have key : ∀ (d w f : Nat) (gS : Int32) (gM : Int32) (bM : Nat → Int32) (bR : Nat → Int32), w + d = 4 ^ n → d < f → wY_still_18 post (nI n) f (nI (rc_cn (fun w => decide (rc_f ρ c n w = 4 ^ n + w)) w)) (nI (4 ^ n + w)) (nI c) gL gS gM bK bX bY bS bW bR bM bD := by
    intro d
    induction d with
    | zero =>
      intro w f gS gM bM bR hw hf
      obtain ⟨m, rfl⟩ : ∃ m, f = m + 1 := ⟨f - 1, by omega⟩
      have e : w = 4 ^ n := hw
      rw [wY_still_18]
      refine ry_least hn ?_
      rw [e, e2]
      exact br_t (nI_le (by omega) (by omega)) (K gS gM bM bR)
    | succ d ih =>
      intro w f gS gM bM bR hw hf
      obtain ⟨m, rfl⟩ : ∃ m, f = m + 1 := ⟨f - 1, by omega⟩
      rw [wY_still_18]
      refine ry_least hn ?_
      rw [e2]
      refine br_f (nI_ge (by omega) (by omega)) ?_
      refine ry_res hc hρ hn (by omega) ?_
      intro gS' gM' bM' bR'
      have hfl := rc_f_lt ok hn w
      have ef : rc_f ρ c n w = rc_cd (rc_wa ρ (rc_dg n w) c) := rfl
      have ecn : rc_cn (fun w => decide (rc_f ρ c n w = 4 ^ n + w)) (w + 1) = rc_cn (fun w => decide (rc_f ρ c n w = 4 ^ n + w)) w + (if decide (rc_f ρ c n w = 4 ^ n + w) = true then 1 else 0) := rfl
      have h := ih (w + 1) m gS' gM' bM' bR' (by omega) (by omega)
      rw [← ef]
      by_cases hx : rc_f ρ c n w = 4 ^ n + w
      · rw [decide_eq_true hx, if_pos rfl] at ecn
        rw [ecn] at h
        exact br_t (by rw [hx]) (nm_r (nI_1 _) (nm_r (nI_1 _) h))
      · rw [decide_eq_false hx, if_neg (by decide), Nat.add_zero] at ecn
        rw [ecn] at h
        exact br_f (fun y => hx (rc_nI8 (by omega) (by omega) y)) (nm_r (nI_1 _) h)
  exact ⟨4 ^ n + 1, key (4 ^ n) 0 (4 ^ n + 1) gS gM bM bR (by omega) (by omega)⟩
end
end
section
theorem rc_let (x : Int32) : (∃ a : Nat, a ≤ 3 ∧ x = nI a) ∨ (x < 0 ∨ ¬ x ≤ 3) := by
  by_cases h0 : x < 0
  · exact Or.inr (Or.inl h0)
  · by_cases h3 : x ≤ 3
    · exact Or.inl (nI_of2 (n := 3) (by decide) h0 h3)
    · exact Or.inr (Or.inr h3)
def rc_badr (κ : Nat) (x y s : Int32) : Prop := (κ ≠ 2 ∧ (x < 0 ∨ ¬ x ≤ 3)) ∨ (κ ≠ 1 ∧ (y < 0 ∨ ¬ y ≤ 3)) ∨ (s < 0 ∨ ¬ s ≤ 1023)
def rc_okr (κ : Nat) (x y s : Int32) (a b σ : Nat) : Prop := (κ ≠ 2 → a ≤ 3 ∧ x = nI a) ∧ (κ ≠ 1 → b ≤ 3 ∧ y = nI b) ∧ σ ≤ 1023 ∧ s = nI σ
theorem rc_okr_bad {κ a b σ : Nat} {x y s : Int32} (h : rc_okr κ x y s a b σ) : ¬ rc_badr κ x y s := by
  rintro (⟨h1, h2⟩ | ⟨h1, h2⟩ | h2)
  · obtain ⟨ha, rfl⟩ := h.1 h1
    exact h2.elim (nI_pos (by omega)) (fun z => z (nI_le (b := 3) ha (by decide)))
  · obtain ⟨ha, rfl⟩ := h.2.1 h1
    exact h2.elim (nI_pos (by omega)) (fun z => z (nI_le (b := 3) ha (by decide)))
  · obtain ⟨ha, rfl⟩ := h.2.2
    exact h2.elim (nI_pos (by omega)) (fun z => z (nI_le (b := 1023) ha (by decide)))
def rc_put (ρ : Nat → rc_R) (c : Nat) (τ : rc_R) (r : Nat) : rc_R := if r = c then τ else ρ r
def rc_mk (κ a b σ : Nat) : rc_R := (κ, (if κ = 2 then 0 else a), (if κ = 1 then 0 else b), σ % 32, σ / 32)
theorem rc_mk_ok {κ a b σ : Nat} {x y s : Int32} (hκ : κ ≤ 2) (h : rc_okr κ x y s a b σ) : rc_ok (rc_mk κ a b σ) := by
  have h3 := h.2.2.1
  refine ⟨hκ, ?_, ?_, Nat.mod_lt _ (by decide), by show σ / 32 < 32; omega⟩
  · show (if κ = 2 then 0 else a) ≤ 3
    split
    · omega
    · rename_i z; exact (h.1 z).1
  · show (if κ = 1 then 0 else b) ≤ 3
    split
    · omega
    · rename_i z; exact (h.2.1 z).1
section
variable {fR : Int32} {fS : Int32} {fL : Int32} {fC : Int32} {fG : Int32} {fE : Int32} {fW : Int32} {fF : Int32} {fA : Int32} {aK : Nat → Int32} {aF : Nat → Int32} {aI : Nat → Int32} {aL : Nat → Int32} {aR : Nat → Int32} {aW : Nat → Int32} {aT : Nat → Int32} {aB : Nat → Int32} {aH : Nat → Int32} {aN : Nat → Int32} {aC : Nat → Int32} {aG : Nat → Int32} {aO : Nat → Int32} {aM : Nat → Int64} {aY : Nat → Int32} {aP : Nat → Int64} {aQ : Nat → Int32} {aD : Nat → Int32}
theorem rc_RA_put {c : Nat} {ρ : Nat → rc_R} {τ : rc_R} (hρ : ∀ r, r < 5 → rc_RA aK aF aI aL aR r (ρ r)) (ok : rc_ok τ) : ∀ r, r < 5 → rc_RA (upd aK c (nI τ.1)) (upd aF c (nI τ.2.1)) (upd aI c (nI τ.2.2.1)) (upd aL c (nI τ.2.2.2.1)) (upd aR c (nI τ.2.2.2.2)) r (rc_put ρ c τ r) := by
  intro r hr
  unfold rc_put
  by_cases z : r = c
  · rw [if_pos z, z]
    exact ⟨pk_us, pk_us, pk_us, pk_us, pk_us, ok⟩
  · rw [if_neg z]
    have h := hρ r hr
    exact ⟨(pk_un z).trans h.1, (pk_un z).trans h.2.1, (pk_un z).trans h.2.2.1, (pk_un z).trans h.2.2.2.1, (pk_un z).trans h.2.2.2.2.1, h.2.2.2.2.2⟩
theorem rx_let {post : Int32 → Prop} {x : Int32} (K0 : ∀ a : Nat, a ≤ 3 → x = nI a → post 0) (K1 : (x < 0 ∨ ¬ x ≤ 3) → post 1) : wpX_badLetter post (fR, fS, fL, fC, fG, fE, fW, fF, fA, aK, aF, aI, aL, aR, aW, aT, aB, aH, aN, aC, aG, aO, aM, aY, aP, aQ, aD) x := by
  unfold wpX_badLetter
  by_cases h0 : x < 0
  · exact br_t h0 (K1 (Or.inl h0))
  · refine br_f h0 ?_
    by_cases h3 : x ≤ 3
    · obtain ⟨a, ha, e⟩ := nI_of2 (n := 3) (by decide) h0 h3
      exact br_t h3 (K0 a ha e)
    · exact br_f h3 (K1 (Or.inr h3))
theorem rx_rule59 {post : Int32 → SX → Prop} {κ c a b : Nat} {x y s : Int32} (hκ : κ ≤ 2) (hc : c ≤ 5) (ha : κ ≠ 2 → a ≤ 3 ∧ x = nI a) (hb : κ ≠ 1 → b ≤ 3 ∧ y = nI b)
    (Kbad : rc_badr κ x y s → post (-1) (nI c, fS, fL, fC, fG, fE, fW, fF, fA, aK, aF, aI, aL, aR, aW, aT, aB, aH, aN, aC, aG, aO, aM, aY, aP, aQ, aD)) (Kfull : ∀ σ, rc_okr κ x y s a b σ → c = 5 → post (-2) (nI c, fS, fL, fC, fG, fE, fW, fF, fA, aK, aF, aI, aL, aR, aW, aT, aB, aH, aN, aC, aG, aO, aM, aY, aP, aQ, aD))
    (Kok : ∀ σ, rc_okr κ x y s a b σ → c < 5 → post (nI (c + 1)) (nI (c + 1), fS, fL, fC, fG, fE, fW, fF, fA, upd aK c (nI (rc_mk κ a b σ).1), upd aF c (nI (rc_mk κ a b σ).2.1), upd aI c (nI (rc_mk κ a b σ).2.2.1), upd aL c (nI (rc_mk κ a b σ).2.2.2.1), upd aR c (nI (rc_mk κ a b σ).2.2.2.2), aW, aT, aB, aH, aN, aC, aG, aO, aM, aY, aP, aQ, aD)) :
    wX_rule_59 post (nI κ) x y s (rc_b2 (decide (κ ≠ 2))) (rc_b2 (decide (κ ≠ 1))) (nI c) fS fL fC fG fE fW fF fA aK aF aI aL aR aW aT aB aH aN aC aG aO aM aY aP aQ aD := by
  unfold wX_rule_59
  by_cases h0 : s < 0
  · exact br_t h0 (Kbad (Or.inr (Or.inr (Or.inl h0))))
  · refine br_f h0 ?_
    by_cases h3 : s ≤ 1023
    · obtain ⟨σ, hσ, rfl⟩ := nI_of2 (n := 1023) (by decide) h0 h3
      have hok : rc_okr κ x y (nI σ) a b σ := ⟨ha, hb, hσ, rfl⟩
      refine br_t h3 ?_
      by_cases h5 : c = 5
      · exact br_t (by rw [h5]; rfl) (Kfull σ hok h5)
      · have hin : vp_in (nI c) 5 := vp_in_nI (by omega) (by decide)
        have e : (nI c).toNatClampNeg = c := nI_clamp (by omega)
        have e1 : nI σ &&& 31 = nI (σ % 32) := pk_andN (by omega) 5 (by decide)
        have e2 : nI σ >>> ((5 : Int32) &&& 31) = nI (σ / 32) := pk_shrN (by omega) _ 5 (by decide)
        have hK := Kok σ hok (by omega)
        refine br_f (fun z => h5 (rc_nI8 (by omega) (by decide) z)) ⟨hin, nm_e ?_⟩
        rw [e, rc_by (show κ < 128 by omega)]
        have fin : ∀ (aF' : Nat → Int32), aF' = upd aF c (nI (rc_mk κ a b σ).2.1) → ((rc_b2 (decide (κ ≠ 1)) = 0 → wX_rule_134 post (nI σ) 0 (nI c) (nI c) fS fL fC fG fE fW fF fA (upd aK c (nI κ)) aF' aI aL aR aW aT aB aH aN aC aG aO aM aY aP aQ aD) ∧ (¬ rc_b2 (decide (κ ≠ 1)) = 0 → wX_rule_134 post (nI σ) y (nI c) (nI c) fS fL fC fG fE fW fF fA (upd aK c (nI κ)) aF' aI aL aR aW aT aB aH aN aC aG aO aM aY aP aQ aD)) := by
          intro aF' hF
          subst hF
          have fin2 : ∀ y' : Int32, vp_nar .byte y'.toInt8.toInt32 = nI (rc_mk κ a b σ).2.2.1 → wX_rule_134 post (nI σ) y' (nI c) (nI c) fS fL fC fG fE fW fF fA (upd aK c (nI κ)) (upd aF c (nI (rc_mk κ a b σ).2.1)) aI aL aR aW aT aB aH aN aC aG aO aM aY aP aQ aD := by
            intro y' hy'
            unfold wX_rule_134
            refine ⟨hin, nm_e ⟨hin, nm_e ⟨hin, nm_e (nm_r (nI_1 c) ?_)⟩⟩⟩
            rw [e, hy', e1, e2, rc_by (show σ % 32 < 128 by omega), rc_by (show σ / 32 < 128 by omega)]
            exact hK
          refine rc_b2_0 _ ?_ ?_
          · intro hz
            have k1 : κ = 1 := Classical.byContradiction fun z => by rw [decide_eq_true z] at hz; exact absurd hz (by decide)
            refine fin2 0 ?_
            show vp_nar .byte (nI 0).toInt8.toInt32 = nI (if κ = 1 then 0 else b)
            rw [if_pos k1]; exact rc_by (by decide)
          · intro hz
            have k1 : κ ≠ 1 := of_decide_eq_true hz
            refine fin2 y ?_
            show vp_nar .byte y.toInt8.toInt32 = nI (if κ = 1 then 0 else b)
            have := hb k1
            rw [if_neg k1, this.2]; exact rc_by (by omega)
        refine rc_b2_0 _ ?_ ?_
        · intro hz
          have k2 : κ = 2 := Classical.byContradiction fun z => by rw [decide_eq_true z] at hz; exact absurd hz (by decide)
          unfold wX_rule_114
          refine ⟨hin, fun aF' hF => fin aF' ?_⟩
          rw [hF, e]
          show upd aF c (vp_nar .byte (nI 0).toInt8.toInt32) = upd aF c (nI (if κ = 2 then 0 else a))
          rw [if_pos k2, rc_by (by decide)]
        · intro hz
          have k2 : κ ≠ 2 := of_decide_eq_true hz
          unfold wX_rule_114
          refine ⟨hin, fun aF' hF => fin aF' ?_⟩
          have := ha k2
          rw [hF, e]
          show upd aF c (vp_nar .byte x.toInt8.toInt32) = upd aF c (nI (if κ = 2 then 0 else a))
          rw [if_neg k2, this.2, rc_by (by omega)]
    · exact br_f h3 (Kbad (Or.inr (Or.inr (Or.inr h3))))
theorem rx_rule {post : Int32 → SX → Prop} {κ c : Nat} {x y s : Int32} (hκ : κ ≤ 2) (hc : c ≤ 5)
    (Kbad : rc_badr κ x y s → post (-1) (nI c, fS, fL, fC, fG, fE, fW, fF, fA, aK, aF, aI, aL, aR, aW, aT, aB, aH, aN, aC, aG, aO, aM, aY, aP, aQ, aD)) (Kfull : ∀ a b σ, rc_okr κ x y s a b σ → c = 5 → post (-2) (nI c, fS, fL, fC, fG, fE, fW, fF, fA, aK, aF, aI, aL, aR, aW, aT, aB, aH, aN, aC, aG, aO, aM, aY, aP, aQ, aD))
    (Kok : ∀ a b σ, rc_okr κ x y s a b σ → c < 5 → post (nI (c + 1)) (nI (c + 1), fS, fL, fC, fG, fE, fW, fF, fA, upd aK c (nI (rc_mk κ a b σ).1), upd aF c (nI (rc_mk κ a b σ).2.1), upd aI c (nI (rc_mk κ a b σ).2.2.1), upd aL c (nI (rc_mk κ a b σ).2.2.2.1), upd aR c (nI (rc_mk κ a b σ).2.2.2.2), aW, aT, aB, aH, aN, aC, aG, aO, aM, aY, aP, aQ, aD)) :
    wpX_rule post (nI c, fS, fL, fC, fG, fE, fW, fF, fA, aK, aF, aI, aL, aR, aW, aT, aB, aH, aN, aC, aG, aO, aM, aY, aP, aQ, aD) (nI κ) x y s := by
  have h46 : ∀ a : Nat, (κ ≠ 2 → a ≤ 3 ∧ x = nI a) → wX_rule_46 post (nI κ) x y s (rc_b2 (decide (κ ≠ 2))) (rc_b2 (decide (κ ≠ 1))) (nI c) fS fL fC fG fE fW fF fA aK aF aI aL aR aW aT aB aH aN aC aG aO aM aY aP aQ aD := by
    intro a ha
    unfold wX_rule_46
    refine rc_b2_0 _ ?_ ?_
    · intro hz
      have k1 : κ = 1 := Classical.byContradiction fun z => by rw [decide_eq_true z] at hz; exact absurd hz (by decide)
      exact rx_rule59 (b := 0) hκ hc ha (fun z => absurd k1 z) Kbad (fun σ => Kfull a 0 σ) (fun σ => Kok a 0 σ)
    · intro hz
      have k1 : κ ≠ 1 := of_decide_eq_true hz
      refine rx_let ?_ ?_
      · intro b hb hy
        exact br_t rfl (rx_rule59 hκ hc ha (fun _ => ⟨hb, hy⟩) Kbad (fun σ => Kfull a b σ) (fun σ => Kok a b σ))
      · intro hbad
        exact br_f (by decide) (Kbad (Or.inr (Or.inl ⟨k1, hbad⟩)))
  have h22 : wX_rule_22 post (nI κ) x y s (rc_b2 (decide (κ ≠ 2))) (rc_b2 (decide (κ ≠ 1))) (nI c) fS fL fC fG fE fW fF fA aK aF aI aL aR aW aT aB aH aN aC aG aO aM aY aP aQ aD := by
    unfold wX_rule_22
    refine br_f (nI_pos (by omega)) (br_f (nI_nlt (a := 2) hκ (by decide)) ?_)
    refine rc_b2_0 _ ?_ ?_
    · intro hz
      have k2 : κ = 2 := Classical.byContradiction fun z => by rw [decide_eq_true z] at hz; exact absurd hz (by decide)
      exact h46 0 (fun z => absurd k2 z)
    · intro hz
      have k2 : κ ≠ 2 := of_decide_eq_true hz
      refine rx_let ?_ ?_
      · intro a ha hx
        exact br_t rfl (h46 a (fun _ => ⟨ha, hx⟩))
      · intro hbad
        exact br_f (by decide) (Kbad (Or.inl ⟨k2, hbad⟩))
  have h10 : wX_rule_10 post (nI κ) x y s (rc_b2 (decide (κ ≠ 2))) (nI c) fS fL fC fG fE fW fF fA aK aF aI aL aR aW aT aB aH aN aC aG aO aM aY aP aQ aD := by
    unfold wX_rule_10
    by_cases k1 : κ = 1
    · rw [show decide (κ ≠ 1) = false from decide_eq_false (fun z => z k1)] at h22
      exact br_t (by rw [k1]; rfl) h22
    · rw [show decide (κ ≠ 1) = true from decide_eq_true k1] at h22
      exact br_f (fun z => k1 (rc_nI8 (by omega) (by decide) z)) h22
  unfold wpX_rule
  by_cases k2 : κ = 2
  · rw [show decide (κ ≠ 2) = false from decide_eq_false (fun z => z k2)] at h10
    exact br_t (by rw [k2]; rfl) h10
  · rw [show decide (κ ≠ 2) = true from decide_eq_true k2] at h10
    exact br_f (fun z => k2 (rc_nI8 (by omega) (by decide) z)) h10
theorem rx_ruleB {post : Int32 → SX → Prop} {p x y s : Int32} (h : p < 0 ∨ 2 < p) (K : post (-1) (fR, fS, fL, fC, fG, fE, fW, fF, fA, aK, aF, aI, aL, aR, aW, aT, aB, aH, aN, aC, aG, aO, aM, aY, aP, aQ, aD)) : wpX_rule post (fR, fS, fL, fC, fG, fE, fW, fF, fA, aK, aF, aI, aL, aR, aW, aT, aB, aH, aN, aC, aG, aO, aM, aY, aP, aQ, aD) p x y s := by
  have h22 : ∀ z0 z1 : Int32, wX_rule_22 post p x y s z0 z1 fR fS fL fC fG fE fW fF fA aK aF aI aL aR aW aT aB aH aN aC aG aO aM aY aP aQ aD := by
    intro z0 z1
    unfold wX_rule_22
    by_cases h0 : p < 0
    · exact br_t h0 K
    · exact br_f h0 (br_t (h.resolve_left h0) K)
  have h10 : ∀ z0 : Int32, wX_rule_10 post p x y s z0 fR fS fL fC fG fE fW fF fA aK aF aI aL aR aW aT aB aH aN aC aG aO aM aY aP aQ aD := by
    intro z0
    unfold wX_rule_10
    exact br_c (fun _ => h22 _ _) (fun _ => h22 _ _)
  unfold wpX_rule
  exact br_c (fun _ => h10 _) (fun _ => h10 _)
/-! drop and swap -/
theorem rx_copy {post : SX → Prop} {j : Nat} {ρ : Nat → rc_R} (hj : j + 1 < 5) (hρ : ∀ r, r < 5 → rc_RA aK aF aI aL aR r (ρ r))
    (K : post (fR, fS, fL, fC, fG, fE, fW, fF, fA, upd aK j (nI (ρ (j + 1)).1), upd aF j (nI (ρ (j + 1)).2.1), upd aI j (nI (ρ (j + 1)).2.2.1), upd aL j (nI (ρ (j + 1)).2.2.2.1), upd aR j (nI (ρ (j + 1)).2.2.2.2), aW, aT, aB, aH, aN, aC, aG, aO, aM, aY, aP, aQ, aD)) :
    wpX_copyRule post (fR, fS, fL, fC, fG, fE, fW, fF, fA, aK, aF, aI, aL, aR, aW, aT, aB, aH, aN, aC, aG, aO, aM, aY, aP, aQ, aD) (nI (j + 1)) (nI j) := by
  have e1 : (nI j).toNatClampNeg = j := nI_clamp (by omega)
  have e2 : (nI (j + 1)).toNatClampNeg = j + 1 := nI_clamp (by omega)
  have i1 : vp_in (nI j) 5 := vp_in_nI (by omega) (by decide)
  have i2 : vp_in (nI (j + 1)) 5 := vp_in_nI (by omega) (by decide)
  obtain ⟨h1, h2, h3, h4, h5, ok⟩ := hρ (j + 1) hj
  obtain ⟨o1, o2, o3, o4, o5⟩ := ok
  unfold wpX_copyRule
  refine ⟨i2, i1, nm_e ⟨i2, i1, nm_e ⟨i2, i1, nm_e ⟨i2, i1, nm_e ⟨i2, i1, nm_e ?_⟩⟩⟩⟩⟩
  rw [e1, e2, h1, h2, h3, h4, h5, rc_by' (by omega), rc_by' (by omega), rc_by' (by omega), rc_by' (by omega), rc_by' (by omega)]
  exact K
end
/-- the rules behind d copies from j on -/
def rc_dl : Nat → Nat → (Nat → rc_R) → Nat → rc_R
  | 0, _, ρ => ρ
  | d + 1, j, ρ => rc_dl d (j + 1) (rc_put ρ j (ρ (j + 1)))
section
variable {fR : Int32} {fS : Int32} {fL : Int32} {fC : Int32} {fG : Int32} {fE : Int32} {fW : Int32} {fF : Int32} {fA : Int32} {aK : Nat → Int32} {aF : Nat → Int32} {aI : Nat → Int32} {aL : Nat → Int32} {aR : Nat → Int32} {aW : Nat → Int32} {aT : Nat → Int32} {aB : Nat → Int32} {aH : Nat → Int32} {aN : Nat → Int32} {aC : Nat → Int32} {aG : Nat → Int32} {aO : Nat → Int32} {aM : Nat → Int64} {aY : Nat → Int32} {aP : Nat → Int64} {aQ : Nat → Int32} {aD : Nat → Int32}
theorem rx_drop {post : Int32 → SX → Prop} {c k : Nat} {ρ : Nat → rc_R} (hc : c ≤ 5) (hk : k < c) (hρ : ∀ r, r < 5 → rc_RA aK aF aI aL aR r (ρ r))
    (K : ∀ (aK' : Nat → Int32) (aF' : Nat → Int32) (aI' : Nat → Int32) (aL' : Nat → Int32) (aR' : Nat → Int32), (∀ r, r < 5 → rc_RA aK' aF' aI' aL' aR' r (rc_dl (c - 1 - k) k ρ r)) → post (nI (c - 1)) (nI (c - 1), fS, fL, fC, fG, fE, fW, fF, fA, aK', aF', aI', aL', aR', aW, aT, aB, aH, aN, aC, aG, aO, aM, aY, aP, aQ, aD)) :
    wpX_drop post (nI c, fS, fL, fC, fG, fE, fW, fF, fA, aK, aF, aI, aL, aR, aW, aT, aB, aH, aN, aC, aG, aO, aM, aY, aP, aQ, aD) (nI k) := by
  have e7 : nI c - 1 = nI (c - 1) := by
    obtain ⟨c', rfl⟩ : ∃ c', c = c' + 1 := ⟨c - 1, by omega⟩
    exact nI_pred c'
  have key : ∀ (d j f : Nat) (ρ : Nat → rc_R) (aK : Nat → Int32) (aF : Nat → Int32) (aI : Nat → Int32) (aL : Nat → Int32) (aR : Nat → Int32), j + d = c - 1 → d < f → (∀ r, r < 5 → rc_RA aK aF aI aL aR r (ρ r)) → (∀ (aK' : Nat → Int32) (aF' : Nat → Int32) (aI' : Nat → Int32) (aL' : Nat → Int32) (aR' : Nat → Int32), (∀ r, r < 5 → rc_RA aK' aF' aI' aL' aR' r (rc_dl d j ρ r)) → post (nI (c - 1)) (nI (c - 1), fS, fL, fC, fG, fE, fW, fF, fA, aK', aF', aI', aL', aR', aW, aT, aB, aH, aN, aC, aG, aO, aM, aY, aP, aQ, aD)) → wX_drop_27 post f (nI j) (nI (c - 1)) fS fL fC fG fE fW fF fA aK aF aI aL aR aW aT aB aH aN aC aG aO aM aY aP aQ aD := by
    intro d
    induction d with
    | zero =>
      intro j f ρ aK aF aI aL aR hj hf hR K
      obtain ⟨m, rfl⟩ : ∃ m, f = m + 1 := ⟨f - 1, by omega⟩
      exact br_t (nI_le (by omega) (by omega)) (K aK aF aI aL aR hR)
    | succ d ih =>
      intro j f ρ aK aF aI aL aR hj hf hR K
      obtain ⟨m, rfl⟩ : ∃ m, f = m + 1 := ⟨f - 1, by omega⟩
      refine br_f (nI_ge (by omega) (by omega)) ?_
      rw [nI_1]
      refine rx_copy (by omega) hR ?_
      refine nm_e ?_
      exact ih (j + 1) m (rc_put ρ j (ρ (j + 1))) _ _ _ _ _ (by omega) (by omega) (rc_RA_put hR (hR (j + 1) (by omega)).2.2.2.2.2) K
  unfold wpX_drop
  refine br_f (nI_pos (by omega)) (br_t (nI_lt hk (by omega)) (nm_r e7 ⟨c - 1 - k + 1, ?_⟩))
  exact key (c - 1 - k) k _ ρ aK aF aI aL aR (by omega) (by omega) hρ K
theorem rx_swap {post : Int32 → SX → Prop} {c k : Nat} {ρ : Nat → rc_R} (hc : c ≤ 5) (hk : k + 1 < c) (hρ : ∀ r, r < 5 → rc_RA aK aF aI aL aR r (ρ r))
    (K : ∀ (aK' : Nat → Int32) (aF' : Nat → Int32) (aI' : Nat → Int32) (aL' : Nat → Int32) (aR' : Nat → Int32), (∀ r, r < 5 → rc_RA aK' aF' aI' aL' aR' r (rc_sw ρ k r)) → post 0 (nI c, fS, fL, fC, fG, fE, fW, fF, fA, aK', aF', aI', aL', aR', aW, aT, aB, aH, aN, aC, aG, aO, aM, aY, aP, aQ, aD)) :
    wpX_swap post (nI c, fS, fL, fC, fG, fE, fW, fF, fA, aK, aF, aI, aL, aR, aW, aT, aB, aH, aN, aC, aG, aO, aM, aY, aP, aQ, aD) (nI k) := by
  have e7 : nI c - 1 = nI (c - 1) := by
    obtain ⟨c', rfl⟩ : ∃ c', c = c' + 1 := ⟨c - 1, by omega⟩
    exact nI_pred c'
  have e1 : (nI k).toNatClampNeg = k := nI_clamp (by omega)
  have e2 : (nI (k + 1)).toNatClampNeg = k + 1 := nI_clamp (by omega)
  have i1 : vp_in (nI k) 5 := vp_in_nI (by omega) (by decide)
  have i2 : vp_in (nI (k + 1)) 5 := vp_in_nI (by omega) (by decide)
  have hk0 := hρ k (by omega)
  obtain ⟨h1, h2, h3, h4, h5, ok⟩ := hk0
  have ok' := ok
  obtain ⟨o1, o2, o3, o4, o5⟩ := ok
  have ok1 := (hρ (k + 1) (by omega)).2.2.2.2.2
  unfold wpX_swap
  refine br_f (nI_pos (by omega)) (br_t (by rw [e7]; exact nI_lt (by omega) (by omega)) ?_)
  rw [e1, h1, h2, h3, h4, h5, nI_1]
  refine ⟨i1, nm_e ⟨i1, nm_e ⟨i1, nm_e ⟨i1, nm_e ⟨i1, nm_e ?_⟩⟩⟩⟩⟩
  refine rx_copy (by omega) hρ ?_
  refine ⟨i2, nm_e ⟨i2, nm_e ⟨i2, nm_e ⟨i2, nm_e ⟨i2, nm_e ?_⟩⟩⟩⟩⟩
  rw [e2, rc_by' (by omega), rc_by' (by omega), rc_by' (by omega), rc_by' (by omega), rc_by' (by omega)]
  refine K _ _ _ _ _ ?_
  have hA := rc_RA_put (c := k) hρ ok1
  have hB := rc_RA_put (c := k + 1) hA ok'
  intro r hr
  have h := hB r hr
  have e : rc_put (rc_put ρ k (ρ (k + 1))) (k + 1) (ρ k) r = rc_sw ρ k r := by
    unfold rc_put rc_sw
    by_cases z1 : r = k
    · rw [if_pos z1, if_neg (by omega), if_pos z1]
    · rw [if_neg z1, if_neg z1]
  rw [e] at h
  exact h
/-! the word -/
theorem rx_push {post : Int32 → SX → Prop} {W : List Nat} {x : Int32} (hWl : W.length ≤ 12) (hW : rc_A aW W)
    (K1 : (x < 0 ∨ ¬ x ≤ 3) → post (-1) (fR, nI W.length, fL, fC, fG, fE, fW, fF, fA, aK, aF, aI, aL, aR, aW, aT, aB, aH, aN, aC, aG, aO, aM, aY, aP, aQ, aD)) (K2 : ∀ a, a ≤ 3 → x = nI a → W.length = 12 → post (-2) (fR, nI W.length, fL, fC, fG, fE, fW, fF, fA, aK, aF, aI, aL, aR, aW, aT, aB, aH, aN, aC, aG, aO, aM, aY, aP, aQ, aD))
    (K3 : ∀ a (aW' : Nat → Int32), a ≤ 3 → x = nI a → W.length < 12 → rc_A aW' (W ++ [a]) → post (nI (W ++ [a]).length) (fR, nI (W ++ [a]).length, fL, fC, fG, fE, fW, fF, fA, aK, aF, aI, aL, aR, aW', aT, aB, aH, aN, aC, aG, aO, aM, aY, aP, aQ, aD)) :
    wpX_push post (fR, nI W.length, fL, fC, fG, fE, fW, fF, fA, aK, aF, aI, aL, aR, aW, aT, aB, aH, aN, aC, aG, aO, aM, aY, aP, aQ, aD) x := by
  unfold wpX_push
  refine rx_let ?_ ?_
  · intro a ha hx
    refine br_t rfl ?_
    by_cases h : W.length = 12
    · exact br_t (by rw [h]; rfl) (K2 a ha hx h)
    · have e : (nI W.length).toNatClampNeg = W.length := nI_clamp (by omega)
      have el : nI W.length + 1 = nI (W ++ [a]).length := by rw [nI_1, List.length_append]; rfl
      refine br_f (fun z => h (rc_nI8 (by omega) (by decide) z)) ⟨vp_in_nI (by omega) (by decide), nm_e (nm_r el ?_)⟩
      rw [e, hx, rc_by (by omega)]
      exact K3 a _ ha hx (by omega) (rc_A_push hW a)
  · intro h
    exact br_f (by decide) (K1 h)
theorem rx_apply {post : Int32 → SX → Prop} {c : Nat} {ρ : Nat → rc_R} {W : List Nat} (hk : c ≤ 5) (hRA : ∀ r, r < c → rc_RA aK aF aI aL aR r (ρ r)) (hW : rc_A aW W) (hWl : W.length ≤ 12) (hW3 : ∀ a ∈ W, a ≤ 3)
    (K : ∀ (fL' : Int32) (fC' : Int32) (fG' : Int32) (fE' : Int32) (fW' : Int32) (aW' : Nat → Int32) (aT' : Nat → Int32) (aB' : Nat → Int32) (aH' : Nat → Int32) (aN' : Nat → Int32) (aC' : Nat → Int32) (aG' : Nat → Int32) (aO' : Nat → Int32), rc_A aW' (rc_wa ρ W c) → post (nI (rc_wa ρ W c).length) (nI c, nI (rc_wa ρ W c).length, fL', fC', fG', fE', fW', fF, fA, aK, aF, aI, aL, aR, aW', aT', aB', aH', aN', aC', aG', aO', aM, aY, aP, aQ, aD)) :
    wpX_apply post (nI c, nI W.length, fL, fC, fG, fE, fW, fF, fA, aK, aF, aI, aL, aR, aW, aT, aB, aH, aN, aC, aG, aO, aM, aY, aP, aQ, aD) := by
  have hl := rc_wa_len ρ W hWl c
  have ok : ∀ s, s < c → rc_ok (ρ s) := fun s hs => (hRA s hs).2.2.2.2.2
  have h3 := rc_wa_le ρ ok W hW3 c (Nat.le_refl c)
  unfold wpX_apply
  refine rx_word hk hRA hW hWl hW3 ?_
  intro fC' fG' fW' aT' aB' aH' aN' aC' aG' aO' hO
  refine ⟨(rc_wa ρ W c).length + 1, ?_⟩
  have key : ∀ (d i n : Nat) (aW : Nat → Int32), i + d = (rc_wa ρ W c).length → d < n → (∀ j, j < i → aW j = nI ((rc_wa ρ W c).getD j 0)) → wX_apply_18 post (nI c) (nI (rc_wa ρ W c).length) (nI c) fC' fG' (nI (rc_wa ρ W c).length) fW' fF fA n (nI i) aK aF aI aL aR aW aT' aB' aH' aN' aC' aG' aO' aM aY aP aQ aD := by
    intro d
    induction d with
    | zero =>
      intro i n aW hi hn h
      obtain ⟨m, rfl⟩ : ∃ m, n = m + 1 := ⟨n - 1, by omega⟩
      exact br_t (nI_le (by omega) (by omega)) (K _ _ _ _ _ aW _ _ _ _ _ _ _ (fun j hj => h j (by omega)))
    | succ d ih =>
      intro i n aW hi hn h
      obtain ⟨m, rfl⟩ : ∃ m, n = m + 1 := ⟨n - 1, by omega⟩
      have hin : vp_in (nI i) 12 := vp_in_nI (by omega) (by decide)
      have e : (nI i).toNatClampNeg = i := nI_clamp (by omega)
      have hb := h3 _ (rc_gm _ i (show i < (rc_wa ρ W c).length by omega))
      refine br_f (nI_ge (by omega) (by omega)) ⟨hin, hin, nm_e (nm_r (nI_1 i) ?_)⟩
      rw [e, hO i (by omega), rc_by' (by omega)]
      refine ih (i + 1) m _ (by omega) (by omega) ?_
      intro j hj
      by_cases z : j = i
      · rw [z]; exact pk_us
      · rw [pk_un z]; exact h j (by omega)
  exact key (rc_wa ρ W c).length 0 _ aW (by omega) (by omega) (fun j hj => absurd hj (Nat.not_lt_zero j))
theorem rx_after {post : Int32 → SX → Prop} {c k : Nat} {ρ : Nat → rc_R} {W : List Nat} (hc : c ≤ 5) (hk : k ≤ c) (hRA : ∀ r, r < c → rc_RA aK aF aI aL aR r (ρ r)) (hW : rc_A aW W) (hWl : W.length ≤ 12) (hW3 : ∀ a ∈ W, a ≤ 3)
    (K : ∀ (fL' : Int32) (fC' : Int32) (fG' : Int32) (fE' : Int32) (fW' : Int32) (aT' : Nat → Int32) (aB' : Nat → Int32) (aH' : Nat → Int32) (aN' : Nat → Int32) (aC' : Nat → Int32) (aG' : Nat → Int32) (aO' : Nat → Int32), post (nI (rc_cd (rc_wa ρ W k))) (nI c, nI W.length, fL', fC', fG', fE', fW', fF, fA, aK, aF, aI, aL, aR, aW, aT', aB', aH', aN', aC', aG', aO', aM, aY, aP, aQ, aD)) :
    wpX_after post (nI c, nI W.length, fL, fC, fG, fE, fW, fF, fA, aK, aF, aI, aL, aR, aW, aT, aB, aH, aN, aC, aG, aO, aM, aY, aP, aQ, aD) (nI k) := by
  unfold wpX_after
  refine br_f (nI_pos (by omega)) (br_t (nI_le hk (by omega)) ?_)
  refine rx_word (by omega) (fun r hr => hRA r (by omega)) hW hWl hW3 ?_
  intro fC' fG' fW' aT' aB' aH' aN' aC' aG' aO' hO
  refine rx_code (rc_wa_len ρ W hWl k) hO ?_
  exact K _ _ _ _ _ _ _ _ _ _ _ _
theorem rx_letter {post : Int32 → SX → Prop} {c : Nat} {x : Int32} {ρ : Nat → rc_R} {W : List Nat} (hc : c ≤ 5) (hRA : ∀ r, r < c → rc_RA aK aF aI aL aR r (ρ r)) (hW : rc_A aW W) (hWl : W.length ≤ 12) (hW3 : ∀ a ∈ W, a ≤ 3)
    (K1 : (x < 0 ∨ ¬ x < nI (rc_wa ρ W c).length) → ∀ (fL' : Int32) (fC' : Int32) (fG' : Int32) (fE' : Int32) (fW' : Int32) (aT' : Nat → Int32) (aB' : Nat → Int32) (aH' : Nat → Int32) (aN' : Nat → Int32) (aC' : Nat → Int32) (aG' : Nat → Int32) (aO' : Nat → Int32), post (-4) (nI c, nI W.length, fL', fC', fG', fE', fW', fF, fA, aK, aF, aI, aL, aR, aW, aT', aB', aH', aN', aC', aG', aO', aM, aY, aP, aQ, aD))
    (K2 : ∀ i, x = nI i → i < (rc_wa ρ W c).length → ∀ (fL' : Int32) (fC' : Int32) (fG' : Int32) (fE' : Int32) (fW' : Int32) (aT' : Nat → Int32) (aB' : Nat → Int32) (aH' : Nat → Int32) (aN' : Nat → Int32) (aC' : Nat → Int32) (aG' : Nat → Int32) (aO' : Nat → Int32), post (nI ((rc_wa ρ W c).getD i 0)) (nI c, nI W.length, fL', fC', fG', fE', fW', fF, fA, aK, aF, aI, aL, aR, aW, aT', aB', aH', aN', aC', aG', aO', aM, aY, aP, aQ, aD)) :
    wpX_letter post (nI c, nI W.length, fL, fC, fG, fE, fW, fF, fA, aK, aF, aI, aL, aR, aW, aT, aB, aH, aN, aC, aG, aO, aM, aY, aP, aQ, aD) x := by
  have hl := rc_wa_len ρ W hWl c
  unfold wpX_letter
  refine rx_word hc hRA hW hWl hW3 ?_
  intro fC' fG' fW' aT' aB' aH' aN' aC' aG' aO' hO
  by_cases h0 : x < 0
  · exact br_t h0 (K1 (Or.inl h0) _ _ _ _ _ _ _ _ _ _ _ _)
  · refine br_f h0 ?_
    by_cases h1 : x < nI (rc_wa ρ W c).length
    · obtain ⟨i, hi, rfl⟩ := nI_of h0
      have hi2 : i < (rc_wa ρ W c).length := (nI_ltI hi (by omega)).mp h1
      have e : (nI i).toNatClampNeg = i := nI_clamp (by omega)
      refine br_t h1 ⟨vp_in_nI (by omega) (by decide), ?_⟩
      rw [e, hO i hi2]
      exact K2 i rfl hi2 _ _ _ _ _ _ _ _ _ _ _ _
    · exact br_f h1 (K1 (Or.inr h1) _ _ _ _ _ _ _ _ _ _ _ _)
end
end
section
section
variable {gC : Int32} {gL : Int32} {gS : Int32} {gM : Int32} {bK : Nat → Int32} {bX : Nat → Int32} {bY : Nat → Int32} {bS : Nat → Int32} {bW : Nat → Int32} {bR : Nat → Int32} {bM : Nat → Int32} {bD : Nat → Int32}
theorem ry_let {post : Int32 → Prop} {x : Int32} (K0 : ∀ a : Nat, a ≤ 3 → x = nI a → post 0) (K1 : (x < 0 ∨ ¬ x ≤ 3) → post 1) : wpY_bad post (gC, gL, gS, gM, bK, bX, bY, bS, bW, bR, bM, bD) x := by
  unfold wpY_bad
  by_cases h0 : x < 0
  · exact br_t h0 (K1 (Or.inl h0))
  · refine br_f h0 ?_
    by_cases h3 : x ≤ 3
    · obtain ⟨a, ha, e⟩ := nI_of2 (n := 3) (by decide) h0 h3
      exact br_t h3 (K0 a ha e)
    · exact br_f h3 (K1 (Or.inr h3))
theorem ry_rule {post : Int32 → SY → Prop} {κ c : Nat} {x y s : Int32} (hκ : κ ≤ 2) (hc : c ≤ 5)
    (Kbad : rc_badr κ x y s → post (-1) (nI c, gL, gS, gM, bK, bX, bY, bS, bW, bR, bM, bD)) (Kfull : ∀ a b σ, rc_okr κ x y s a b σ → c = 5 → post (-2) (nI c, gL, gS, gM, bK, bX, bY, bS, bW, bR, bM, bD))
    (Kok : ∀ a b σ, rc_okr κ x y s a b σ → c < 5 → post (nI (c + 1)) (nI (c + 1), gL, gS, gM, upd bK c (nI κ), upd bX c x, upd bY c y, upd bS c s, bW, bR, bM, bD)) :
    wpY_rule post (nI c, gL, gS, gM, bK, bX, bY, bS, bW, bR, bM, bD) (nI κ) x y s := by
  have h37 : ∀ a b : Nat, (κ ≠ 2 → a ≤ 3 ∧ x = nI a) → (κ ≠ 1 → b ≤ 3 ∧ y = nI b) → wY_rule_37 post (nI κ) x y s (nI c) gL gS gM bK bX bY bS bW bR bM bD := by
    intro a b ha hb
    unfold wY_rule_37
    by_cases h0 : s < 0
    · exact br_t h0 (Kbad (Or.inr (Or.inr (Or.inl h0))))
    · refine br_f h0 ?_
      by_cases h3 : s ≤ 1023
      · obtain ⟨σ, hσ, es⟩ := nI_of2 (n := 1023) (by decide) h0 h3
        have hok : rc_okr κ x y s a b σ := ⟨ha, hb, hσ, es⟩
        refine br_t h3 ?_
        by_cases h5 : c = 5
        · exact br_t (by rw [h5]; rfl) (Kfull a b σ hok h5)
        · have hin : vp_in (nI c) 5 := vp_in_nI (by omega) (by decide)
          have e : (nI c).toNatClampNeg = c := nI_clamp (by omega)
          refine br_f (fun z => h5 (rc_nI8 (by omega) (by decide) z)) ⟨hin, nm_e ⟨hin, nm_e ⟨hin, nm_e ⟨hin, nm_e (nm_r (nI_1 c) ?_)⟩⟩⟩⟩
          rw [e]
          exact Kok a b σ hok (by omega)
      · exact br_f h3 (Kbad (Or.inr (Or.inr (Or.inr h3))))
  have h22 : ∀ a : Nat, (κ ≠ 2 → a ≤ 3 ∧ x = nI a) → wY_rule_22 post (nI κ) x y s (nI c) gL gS gM bK bX bY bS bW bR bM bD := by
    intro a ha
    unfold wY_rule_22
    by_cases k1 : κ = 1
    · exact br_t (by rw [k1]; rfl) (h37 a 0 ha (fun z => absurd k1 z))
    · refine br_f (fun z => k1 (rc_nI8 (by omega) (by decide) z)) (ry_let ?_ ?_)
      · intro b hb hy
        exact br_t rfl (h37 a b ha (fun _ => ⟨hb, hy⟩))
      · intro hbad
        exact br_f (by decide) (Kbad (Or.inr (Or.inl ⟨k1, hbad⟩)))
  unfold wpY_rule
  refine br_f (nI_pos (by omega)) (br_f (nI_nlt (a := 2) hκ (by decide)) ?_)
  by_cases k2 : κ = 2
  · exact br_t (nI_le (a := 2) (by omega) (by omega)) (h22 0 (fun z => absurd k2 z))
  · refine br_f (nI_ge (b := 2) (by omega) (by decide)) (ry_let ?_ ?_)
    · intro a ha hx
      exact br_t rfl (h22 a (fun _ => ⟨ha, hx⟩))
    · intro hbad
      exact br_f (by decide) (Kbad (Or.inl ⟨k2, hbad⟩))
theorem ry_ruleB {post : Int32 → SY → Prop} {p x y s : Int32} (h : p < 0 ∨ 2 < p) (K : post (-1) (gC, gL, gS, gM, bK, bX, bY, bS, bW, bR, bM, bD)) : wpY_rule post (gC, gL, gS, gM, bK, bX, bY, bS, bW, bR, bM, bD) p x y s := by
  unfold wpY_rule
  by_cases h0 : p < 0
  · exact br_t h0 K
  · exact br_f h0 (br_t (h.resolve_left h0) K)
theorem rc_RY_mk {κ c a b σ : Nat} {x y s : Int32} {ρ : Nat → rc_R} (hκ : κ ≤ 2) (h : rc_okr κ x y s a b σ) (hρ : ∀ r, r < 5 → rc_RY bK bX bY bS r (ρ r)) : ∀ r, r < 5 → rc_RY (upd bK c (nI κ)) (upd bX c x) (upd bY c y) (upd bS c s) r (rc_put ρ c (rc_mk κ a b σ) r) := by
  intro r hr
  unfold rc_put
  by_cases z : r = c
  · rw [if_pos z, z]
    refine ⟨pk_us, fun hk => ?_, fun hk => ?_, ?_, rc_mk_ok hκ h⟩
    · replace hk : κ < 2 := hk
      rw [pk_us]
      show x = nI (if κ = 2 then 0 else a)
      rw [if_neg (by omega)]
      exact (h.1 (by omega)).2
    · replace hk : κ ≠ 1 := hk
      rw [pk_us]
      show y = nI (if κ = 1 then 0 else b)
      rw [if_neg hk]
      exact (h.2.1 hk).2
    · rw [pk_us, h.2.2.2]
      show nI σ = nI (σ % 32 + 32 * (σ / 32))
      rw [Nat.mod_add_div]
  · rw [if_neg z]
    have h := hρ r hr
    exact ⟨(pk_un z).trans h.1, fun hk => (pk_un z).trans (h.2.1 hk), fun hk => (pk_un z).trans (h.2.2.1 hk), (pk_un z).trans h.2.2.2.1, h.2.2.2.2⟩
theorem rc_RY_cp {j : Nat} {ρ : Nat → rc_R} (hj : j + 1 < 5) (hρ : ∀ r, r < 5 → rc_RY bK bX bY bS r (ρ r)) : ∀ r, r < 5 → rc_RY (upd bK j (bK (j + 1))) (upd bX j (bX (j + 1))) (upd bY j (bY (j + 1))) (upd bS j (bS (j + 1))) r (rc_put ρ j (ρ (j + 1)) r) := by
  intro r hr
  unfold rc_put
  by_cases z : r = j
  · rw [if_pos z, z]
    have h := hρ (j + 1) hj
    exact ⟨pk_us.trans h.1, fun hk => pk_us.trans (h.2.1 hk), fun hk => pk_us.trans (h.2.2.1 hk), pk_us.trans h.2.2.2.1, h.2.2.2.2⟩
  · rw [if_neg z]
    have h := hρ r hr
    exact ⟨(pk_un z).trans h.1, fun hk => (pk_un z).trans (h.2.1 hk), fun hk => (pk_un z).trans (h.2.2.1 hk), (pk_un z).trans h.2.2.2.1, h.2.2.2.2⟩
theorem ry_drop {post : Int32 → SY → Prop} {c k : Nat} {ρ : Nat → rc_R} (hc : c ≤ 5) (hk : k < c) (hρ : ∀ r, r < 5 → rc_RY bK bX bY bS r (ρ r))
    (K : ∀ (bK' : Nat → Int32) (bX' : Nat → Int32) (bY' : Nat → Int32) (bS' : Nat → Int32), (∀ r, r < 5 → rc_RY bK' bX' bY' bS' r (rc_dl (c - 1 - k) k ρ r)) → post (nI (c - 1)) (nI (c - 1), gL, gS, gM, bK', bX', bY', bS', bW, bR, bM, bD)) :
    wpY_drop post (nI c, gL, gS, gM, bK, bX, bY, bS, bW, bR, bM, bD) (nI k) := by
  have e7 : nI c - 1 = nI (c - 1) := by
    obtain ⟨c', rfl⟩ : ∃ c', c = c' + 1 := ⟨c - 1, by omega⟩
    exact nI_pred c'
  have key : ∀ (d j f : Nat) (ρ : Nat → rc_R) (bK : Nat → Int32) (bX : Nat → Int32) (bY : Nat → Int32) (bS : Nat → Int32), j + d = c - 1 → d < f → (∀ r, r < 5 → rc_RY bK bX bY bS r (ρ r)) → (∀ (bK' : Nat → Int32) (bX' : Nat → Int32) (bY' : Nat → Int32) (bS' : Nat → Int32), (∀ r, r < 5 → rc_RY bK' bX' bY' bS' r (rc_dl d j ρ r)) → post (nI (c - 1)) (nI (c - 1), gL, gS, gM, bK', bX', bY', bS', bW, bR, bM, bD)) → wY_drop_27 post (nI (c - 1)) gL gS gM f (nI j) bK bX bY bS bW bR bM bD := by
    intro d
    induction d with
    | zero =>
      intro j f ρ bK bX bY bS hj hf hR K
      obtain ⟨m, rfl⟩ : ∃ m, f = m + 1 := ⟨f - 1, by omega⟩
      exact br_t (nI_le (by omega) (by omega)) (K bK bX bY bS hR)
    | succ d ih =>
      intro j f ρ bK bX bY bS hj hf hR K
      obtain ⟨m, rfl⟩ : ∃ m, f = m + 1 := ⟨f - 1, by omega⟩
      have e1 : (nI j).toNatClampNeg = j := nI_clamp (by omega)
      have e2 : (nI (j + 1)).toNatClampNeg = j + 1 := nI_clamp (by omega)
      have i1 : vp_in (nI j) 5 := vp_in_nI (by omega) (by decide)
      have i2 : vp_in (nI (j + 1)) 5 := vp_in_nI (by omega) (by decide)
      refine br_f (nI_ge (by omega) (by omega)) ?_
      rw [nI_1, e1, e2]
      refine ⟨i2, i1, nm_e ⟨i2, i1, nm_e ⟨i2, i1, nm_e ⟨i2, i1, nm_e (nm_e ?_)⟩⟩⟩⟩
      exact ih (j + 1) m (rc_put ρ j (ρ (j + 1))) _ _ _ _ (by omega) (by omega) (rc_RY_cp (by omega) hR) K
  unfold wpY_drop
  refine br_f (nI_pos (by omega)) (br_t (nI_lt hk (by omega)) (nm_r e7 ⟨c - 1 - k + 1, ?_⟩))
  exact key (c - 1 - k) k _ ρ bK bX bY bS (by omega) (by omega) hρ K
theorem ry_push {post : Int32 → SY → Prop} {W : List Nat} {x : Int32} (hWl : W.length ≤ 12) (hW : rc_A bW W)
    (K1 : (x < 0 ∨ ¬ x ≤ 3) → post (-1) (gC, nI W.length, gS, gM, bK, bX, bY, bS, bW, bR, bM, bD)) (K2 : ∀ a, a ≤ 3 → x = nI a → W.length = 12 → post (-2) (gC, nI W.length, gS, gM, bK, bX, bY, bS, bW, bR, bM, bD))
    (K3 : ∀ a (bW' : Nat → Int32), a ≤ 3 → x = nI a → W.length < 12 → rc_A bW' (W ++ [a]) → post (nI (W ++ [a]).length) (gC, nI (W ++ [a]).length, gS, gM, bK, bX, bY, bS, bW', bR, bM, bD)) :
    wpY_push post (gC, nI W.length, gS, gM, bK, bX, bY, bS, bW, bR, bM, bD) x := by
  unfold wpY_push
  refine ry_let ?_ ?_
  · intro a ha hx
    refine br_t rfl ?_
    by_cases h : W.length = 12
    · exact br_t (by rw [h]; rfl) (K2 a ha hx h)
    · have e : (nI W.length).toNatClampNeg = W.length := nI_clamp (by omega)
      have el : nI W.length + 1 = nI (W ++ [a]).length := by rw [nI_1, List.length_append]; rfl
      refine br_f (fun z => h (rc_nI8 (by omega) (by decide) z)) ⟨vp_in_nI (by omega) (by decide), nm_e (nm_r el ?_)⟩
      rw [e, hx]
      exact K3 a _ ha hx (by omega) (rc_A_push hW a)
  · intro h
    exact br_f (by decide) (K1 h)
theorem ry_apply {post : Int32 → SY → Prop} {c : Nat} {ρ : Nat → rc_R} {W : List Nat} (hk : c ≤ 5) (hρ : ∀ r, r < c → rc_RY bK bX bY bS r (ρ r)) (hW : rc_A bW W) (hWl : W.length ≤ 12) (hW3 : ∀ a ∈ W, a ≤ 3)
    (K : ∀ (gS' : Int32) (gM' : Int32) (bW' : Nat → Int32) (bR' : Nat → Int32) (bM' : Nat → Int32), rc_A bW' (rc_wa ρ W c) → post (nI (rc_wa ρ W c).length) (nI c, nI (rc_wa ρ W c).length, gS', gM', bK, bX, bY, bS, bW', bR', bM', bD)) :
    wpY_apply post (nI c, nI W.length, gS, gM, bK, bX, bY, bS, bW, bR, bM, bD) := by
  have hl := rc_wa_len ρ W hWl c
  unfold wpY_apply
  refine ry_take hWl hW ?_
  intro bR' k1
  refine ry_all hk hρ hWl hW3 k1 ?_
  intro gM' bM' bR' hR
  refine ⟨(rc_wa ρ W c).length + 1, ?_⟩
  have key : ∀ (d i n : Nat) (bW : Nat → Int32), i + d = (rc_wa ρ W c).length → d < n → (∀ j, j < i → bW j = nI ((rc_wa ρ W c).getD j 0)) → wY_apply_22 post (nI c) (nI (rc_wa ρ W c).length) (nI (rc_wa ρ W c).length) gM' n (nI i) bK bX bY bS bW bR' bM' bD := by
    intro d
    induction d with
    | zero =>
      intro i n bW hi hn h
      obtain ⟨m, rfl⟩ : ∃ m, n = m + 1 := ⟨n - 1, by omega⟩
      exact br_t (nI_le (by omega) (by omega)) (K _ _ bW _ _ (fun j hj => h j (by omega)))
    | succ d ih =>
      intro i n bW hi hn h
      obtain ⟨m, rfl⟩ : ∃ m, n = m + 1 := ⟨n - 1, by omega⟩
      have e : (nI i).toNatClampNeg = i := nI_clamp (by omega)
      refine br_f (nI_ge (by omega) (by omega)) ⟨vp_in_nI (by omega) (by decide), vp_in_nI (by omega) (by decide), nm_e (nm_r (nI_1 i) ?_)⟩
      rw [e, hR i (by omega)]
      refine ih (i + 1) m _ (by omega) (by omega) ?_
      intro j hj
      by_cases z : j = i
      · rw [z]; exact pk_us
      · rw [pk_un z]; exact h j (by omega)
  exact key (rc_wa ρ W c).length 0 _ bW (by omega) (by omega) (fun j hj => absurd hj (Nat.not_lt_zero j))
theorem ry_after {post : Int32 → SY → Prop} {c k : Nat} {ρ : Nat → rc_R} {W : List Nat} (hc : c ≤ 5) (hk : k ≤ c) (hρ : ∀ r, r < c → rc_RY bK bX bY bS r (ρ r)) (hW : rc_A bW W) (hWl : W.length ≤ 12) (hW3 : ∀ a ∈ W, a ≤ 3)
    (K : ∀ (gS' : Int32) (gM' : Int32) (bR' : Nat → Int32) (bM' : Nat → Int32), post (nI (rc_cd (rc_wa ρ W k))) (nI c, nI W.length, gS', gM', bK, bX, bY, bS, bW, bR', bM', bD)) :
    wpY_after post (nI c, nI W.length, gS, gM, bK, bX, bY, bS, bW, bR, bM, bD) (nI k) := by
  unfold wpY_after
  refine br_f (nI_pos (by omega)) (br_t (nI_le hk (by omega)) ?_)
  refine ry_take hWl hW ?_
  intro bR' k1
  refine ry_all (by omega) (fun r hr => hρ r (by omega)) hWl hW3 k1 ?_
  intro gM' bM' bR' hR
  exact ry_code (rc_wa_len ρ W hWl k) hR (K _ _ _ _)
theorem ry_letter {post : Int32 → SY → Prop} {c : Nat} {x : Int32} {ρ : Nat → rc_R} {W : List Nat} (hc : c ≤ 5) (hρ : ∀ r, r < c → rc_RY bK bX bY bS r (ρ r)) (hW : rc_A bW W) (hWl : W.length ≤ 12) (hW3 : ∀ a ∈ W, a ≤ 3)
    (K1 : (x < 0 ∨ ¬ x < nI (rc_wa ρ W c).length) → ∀ (gS' : Int32) (gM' : Int32) (bR' : Nat → Int32) (bM' : Nat → Int32), post (-4) (nI c, nI W.length, gS', gM', bK, bX, bY, bS, bW, bR', bM', bD))
    (K2 : ∀ i, x = nI i → i < (rc_wa ρ W c).length → ∀ (gS' : Int32) (gM' : Int32) (bR' : Nat → Int32) (bM' : Nat → Int32), post (nI ((rc_wa ρ W c).getD i 0)) (nI c, nI W.length, gS', gM', bK, bX, bY, bS, bW, bR', bM', bD)) :
    wpY_letter post (nI c, nI W.length, gS, gM, bK, bX, bY, bS, bW, bR, bM, bD) x := by
  have hl := rc_wa_len ρ W hWl c
  unfold wpY_letter
  refine ry_take hWl hW ?_
  intro bR' k1
  refine ry_all hc hρ hWl hW3 k1 ?_
  intro gM' bM' bR' hR
  by_cases h0 : x < 0
  · exact br_t h0 (K1 (Or.inl h0) _ _ _ _)
  · refine br_f h0 ?_
    by_cases h1 : x < nI (rc_wa ρ W c).length
    · obtain ⟨i, hi, rfl⟩ := nI_of h0
      have hi2 : i < (rc_wa ρ W c).length := (nI_ltI hi (by omega)).mp h1
      have e : (nI i).toNatClampNeg = i := nI_clamp (by omega)
      refine br_t h1 ⟨vp_in_nI (by omega) (by decide), ?_⟩
      rw [e, hR i hi2]
      exact K2 i rfl hi2 _ _ _ _
    · exact br_f h1 (K1 (Or.inr h1) _ _ _ _)
end
end
section
def rc_Rel (c : Nat) (ρ : Nat → rc_R) (W : List Nat) (aK aF aI aL aR aW bK bX bY bS bW : Nat → Int32) : Prop := c ≤ 5 ∧ W.length ≤ 12 ∧ (∀ a ∈ W, a ≤ 3) ∧ rc_A aW W ∧ rc_A bW W ∧ (∀ r, r < 5 → rc_RA aK aF aI aL aR r (ρ r)) ∧ (∀ r, r < 5 → rc_RY bK bX bY bS r (ρ r))
/-- the same rules, the same word; all else is free -/
def i_Rel (_ : Nat) (u : SX) (v : SY) : Prop := match u with
  | (fR, fS, fL, fC, fG, fE, fW, fF, fA, aK, aF, aI, aL, aR, aW, aT, aB, aH, aN, aC, aG, aO, aM, aY, aP, aQ, aD) => match v with
    | (gC, gL, gS, gM, bK, bX, bY, bS, bW, bR, bM, bD) => ∃ (c : Nat) (ρ : Nat → rc_R) (W : List Nat), fR = nI c ∧ gC = nI c ∧ fS = nI W.length ∧ gL = nI W.length ∧ rc_Rel c ρ W aK aF aI aL aR aW bK bX bY bS bW
section
variable {fR : Int32} {fS : Int32} {fL : Int32} {fC : Int32} {fG : Int32} {fE : Int32} {fW : Int32} {fF : Int32} {fA : Int32} {aK : Nat → Int32} {aF : Nat → Int32} {aI : Nat → Int32} {aL : Nat → Int32} {aR : Nat → Int32} {aW : Nat → Int32} {aT : Nat → Int32} {aB : Nat → Int32} {aH : Nat → Int32} {aN : Nat → Int32} {aC : Nat → Int32} {aG : Nat → Int32} {aO : Nat → Int32} {aM : Nat → Int64} {aY : Nat → Int32} {aP : Nat → Int64} {aQ : Nat → Int32} {aD : Nat → Int32}
variable {gC : Int32} {gL : Int32} {gS : Int32} {gM : Int32} {bK : Nat → Int32} {bX : Nat → Int32} {bY : Nat → Int32} {bS : Nat → Int32} {bW : Nat → Int32} {bR : Nat → Int32} {bM : Nat → Int32} {bD : Nat → Int32}
theorem rc_mkR {k c : Nat} {ρ : Nat → rc_R} {W : List Nat} (h : rc_Rel c ρ W aK aF aI aL aR aW bK bX bY bS bW) : i_Rel k (nI c, nI W.length, fL, fC, fG, fE, fW, fF, fA, aK, aF, aI, aL, aR, aW, aT, aB, aH, aN, aC, aG, aO, aM, aY, aP, aQ, aD) (nI c, nI W.length, gS, gM, bK, bX, bY, bS, bW, bR, bM, bD) := ⟨c, ρ, W, rfl, rfl, rfl, rfl, h⟩
end
theorem rc_el {k : Nat} {u : SX} {v : SY} {P : SX → SY → Prop} (h : ∀ (c : Nat) (ρ : Nat → rc_R) (W : List Nat) (fL : Int32) (fC : Int32) (fG : Int32) (fE : Int32) (fW : Int32) (fF : Int32) (fA : Int32) (aK : Nat → Int32) (aF : Nat → Int32) (aI : Nat → Int32) (aL : Nat → Int32) (aR : Nat → Int32) (aW : Nat → Int32) (aT : Nat → Int32) (aB : Nat → Int32) (aH : Nat → Int32) (aN : Nat → Int32) (aC : Nat → Int32) (aG : Nat → Int32) (aO : Nat → Int32) (aM : Nat → Int64) (aY : Nat → Int32) (aP : Nat → Int64) (aQ : Nat → Int32) (aD : Nat → Int32) (gS : Int32) (gM : Int32) (bK : Nat → Int32) (bX : Nat → Int32) (bY : Nat → Int32) (bS : Nat → Int32) (bW : Nat → Int32) (bR : Nat → Int32) (bM : Nat → Int32) (bD : Nat → Int32), rc_Rel c ρ W aK aF aI aL aR aW bK bX bY bS bW → P (nI c, nI W.length, fL, fC, fG, fE, fW, fF, fA, aK, aF, aI, aL, aR, aW, aT, aB, aH, aN, aC, aG, aO, aM, aY, aP, aQ, aD) (nI c, nI W.length, gS, gM, bK, bX, bY, bS, bW, bR, bM, bD)) (I : i_Rel k u v) : P u v := by
  obtain ⟨fR, fS, fL, fC, fG, fE, fW, fF, fA, aK, aF, aI, aL, aR, aW, aT, aB, aH, aN, aC, aG, aO, aM, aY, aP, aQ, aD⟩ := u
  obtain ⟨gC, gL, gS, gM, bK, bX, bY, bS, bW, bR, bM, bD⟩ := v
  obtain ⟨c, ρ, W, e1, e2, e3, e4, hR⟩ := I
  subst e1 e2 e3 e4
  exact h c ρ W fL fC fG fE fW fF fA aK aF aI aL aR aW aT aB aH aN aC aG aO aM aY aP aQ aD gS gM bK bX bY bS bW bR bM bD hR
theorem rc_pairs {x : Int32} {c : Nat} (hc : c ≤ 5) (h0 : ¬ x < 0) (h1 : x < nI c - 1) : ∃ j : Nat, x = nI j ∧ j + 1 < c := by
  cases c with
  | zero => exact absurd (Int32.lt_trans h1 (show nI 0 - 1 < 0 by decide)) h0
  | succ c =>
    rw [nI_pred] at h1
    obtain ⟨j, hj, rfl⟩ := nI_of h0
    exact ⟨j, rfl, by have := (nI_ltI hj (by omega)).mp h1; omega⟩
theorem rc_cn_lt {P : Nat → Bool} {w v : Nat} (h : w < v) (hP : P w = true) : rc_cn P w < rc_cn P v := by
  have e : rc_cn P (w + 1) = rc_cn P w + (if P w = true then 1 else 0) := rfl
  rw [if_pos hP] at e
  have := rc_cn_mono P (a := w + 1) (b := v) (by omega)
  omega
theorem rc_cn_uq {P : Nat → Bool} {w v : Nat} (hw : P w = true) (hv : P v = true) (h : rc_cn P w = rc_cn P v) : w = v := by
  rcases Nat.lt_trichotomy w v with z | z | z
  · have := rc_cn_lt z hw; omega
  · exact z
  · have := rc_cn_lt z hv; omega
section
variable {gC : Int32} {gL : Int32} {gS : Int32} {gM : Int32} {bK : Nat → Int32} {bX : Nat → Int32} {bY : Nat → Int32} {bS : Nat → Int32} {bW : Nat → Int32} {bR : Nat → Int32} {bM : Nat → Int32} {bD : Nat → Int32}
theorem ry_nopair {post : Int32 → Prop} {x : Int32} (h : x < 0 ∨ ¬ x < gC - 1) (K : post 1) : wpY_noPair post (gC, gL, gS, gM, bK, bX, bY, bS, bW, bR, bM, bD) x := by
  unfold wpY_noPair
  by_cases h0 : x < 0
  · exact br_t h0 K
  · exact br_f h0 (br_f (h.resolve_left h0) K)
end
theorem rc_num (x : Int32) : (∃ n : Nat, n ≤ 5 ∧ x = nI n) ∨ (x < 0 ∨ ¬ x ≤ 5) := by
  by_cases h0 : x < 0
  · exact Or.inr (Or.inl h0)
  · by_cases h5 : x ≤ 5
    · exact Or.inl (nI_of2 (n := 5) (by decide) h0 h5)
    · exact Or.inr (Or.inr h5)
end
section
theorem i_up {k : Nat} {u : SX} {v : SY} (h : i_Rel k u v) : i_Rel (k + 5) u v := h
theorem i_vc0 : wpX_init (fun u => wpY_init (fun v => i_Rel 0 u v)) := by
  refine ⟨0, fun _ => (0, 0, 0, 0, 0), [], rfl, rfl, rfl, rfl, by decide, by decide, fun a h => absurd h List.not_mem_nil, rc_A_nil _, rc_A_nil _, ?_, ?_⟩
  · exact fun r _ => ⟨rfl, rfl, rfl, rfl, rfl, show (0 : Nat) ≤ 2 ∧ (0 : Nat) ≤ 3 ∧ (0 : Nat) ≤ 3 ∧ (0 : Nat) < 32 ∧ (0 : Nat) < 32 from by decide⟩
  · exact fun r _ => ⟨rfl, fun _ => rfl, fun _ => rfl, rfl, show (0 : Nat) ≤ 2 ∧ (0 : Nat) ≤ 3 ∧ (0 : Nat) ≤ 3 ∧ (0 : Nat) < 32 ∧ (0 : Nat) < 32 from by decide⟩
theorem i_vc_rule {k : Nat} {u : SX} {v : SY} (I : i_Rel k u v) (hk : k + 5 ≤ 2560) (v1 : Int32) (v2 : Int32) (v3 : Int32) (v4 : Int32) : wpX_rule (fun r u' => wpY_rule (fun r' v' => r' = r ∧ i_Rel (k + 5) u' v') v v1 v2 v3 v4) u v1 v2 v3 v4 := by
  refine rc_el (P := fun u v => wpX_rule (fun r u' => wpY_rule (fun r' v' => r' = r ∧ i_Rel (k + 5) u' v') v v1 v2 v3 v4) u v1 v2 v3 v4) ?_ I
  intro c ρ W fL fC fG fE fW fF fA aK aF aI aL aR aW aT aB aH aN aC aG aO aM aY aP aQ aD gS gM bK bX bY bS bW bR bM bD hR
  show wpX_rule (fun r u' => wpY_rule (fun r' v' => r' = r ∧ i_Rel (k + 5) u' v') (nI c, nI W.length, gS, gM, bK, bX, bY, bS, bW, bR, bM, bD) v1 v2 v3 v4) (nI c, nI W.length, fL, fC, fG, fE, fW, fF, fA, aK, aF, aI, aL, aR, aW, aT, aB, aH, aN, aC, aG, aO, aM, aY, aP, aQ, aD) v1 v2 v3 v4
  have hR' := hR
  obtain ⟨hc, hl, h3, hA, hB, hX, hY⟩ := hR'
  have hX' : ∀ r, r < c → rc_RA aK aF aI aL aR r (ρ r) := fun r hr => hX r (by omega)
  have hY' : ∀ r, r < c → rc_RY bK bX bY bS r (ρ r) := fun r hr => hY r (by omega)
  by_cases hb : v1 < 0 ∨ 2 < v1
  · exact rx_ruleB hb (ry_ruleB hb ⟨rfl, rc_mkR hR⟩)
  · obtain ⟨κ, hκ, rfl⟩ : ∃ κ : Nat, κ ≤ 2 ∧ v1 = nI κ := nI_of2 (n := 2) (by decide) (fun z => hb (Or.inl z)) (Int32.not_lt.mp (fun z => hb (Or.inr z)))
    refine rx_rule hκ hc ?_ ?_ ?_
    · intro hbad
      exact ry_rule hκ hc (fun _ => ⟨rfl, rc_mkR hR⟩) (fun a b σ h => absurd hbad (rc_okr_bad h)) (fun a b σ h => absurd hbad (rc_okr_bad h))
    · intro a b σ hok h5
      exact ry_rule hκ hc (fun hbad => absurd hbad (rc_okr_bad hok)) (fun _ _ _ _ _ => ⟨rfl, rc_mkR hR⟩) (fun _ _ _ _ h => absurd h5 (by omega))
    · intro a b σ hok h5
      exact ry_rule hκ hc (fun hbad => absurd hbad (rc_okr_bad hok)) (fun _ _ _ _ h => absurd h (by omega)) (fun a' b' σ' hok' _ => ⟨rfl, rc_mkR ⟨by omega, hl, h3, hA, hB, rc_RA_put hX (rc_mk_ok hκ hok), rc_RY_mk hκ hok hY⟩⟩)
theorem i_vc_drop {k : Nat} {u : SX} {v : SY} (I : i_Rel k u v) (hk : k + 5 ≤ 2560) (v1 : Int32) : wpX_drop (fun r u' => wpY_drop (fun r' v' => r' = r ∧ i_Rel (k + 5) u' v') v v1) u v1 := by
  refine rc_el (P := fun u v => wpX_drop (fun r u' => wpY_drop (fun r' v' => r' = r ∧ i_Rel (k + 5) u' v') v v1) u v1) ?_ I
  intro c ρ W fL fC fG fE fW fF fA aK aF aI aL aR aW aT aB aH aN aC aG aO aM aY aP aQ aD gS gM bK bX bY bS bW bR bM bD hR
  show wpX_drop (fun r u' => wpY_drop (fun r' v' => r' = r ∧ i_Rel (k + 5) u' v') (nI c, nI W.length, gS, gM, bK, bX, bY, bS, bW, bR, bM, bD) v1) (nI c, nI W.length, fL, fC, fG, fE, fW, fF, fA, aK, aF, aI, aL, aR, aW, aT, aB, aH, aN, aC, aG, aO, aM, aY, aP, aQ, aD) v1
  have hR' := hR
  obtain ⟨hc, hl, h3, hA, hB, hX, hY⟩ := hR'
  have hX' : ∀ r, r < c → rc_RA aK aF aI aL aR r (ρ r) := fun r hr => hX r (by omega)
  have hY' : ∀ r, r < c → rc_RY bK bX bY bS r (ρ r) := fun r hr => hY r (by omega)
  by_cases h0 : v1 < 0
  · exact br_t h0 (br_t h0 ⟨rfl, rc_mkR hR⟩)
  · by_cases h1 : v1 < nI c
    · obtain ⟨j, hj, rfl⟩ := nI_of h0
      have hjc : j < c := (nI_ltI hj (by omega)).mp h1
      refine rx_drop hc hjc hX ?_
      intro aK' aF' aI' aL' aR' hX2
      refine ry_drop hc hjc hY ?_
      intro bK' bX' bY' bS' hY2
      exact ⟨rfl, rc_mkR ⟨by omega, hl, h3, hA, hB, hX2, hY2⟩⟩
    · exact br_f h0 (br_f h1 (br_f h0 (br_f h1 ⟨rfl, rc_mkR hR⟩)))
theorem i_vc_swap {k : Nat} {u : SX} {v : SY} (I : i_Rel k u v) (hk : k + 5 ≤ 2560) (v1 : Int32) : wpX_swap (fun r u' => wpY_swap (fun r' v' => r' = r ∧ i_Rel (k + 5) u' v') v v1) u v1 := by
  refine rc_el (P := fun u v => wpX_swap (fun r u' => wpY_swap (fun r' v' => r' = r ∧ i_Rel (k + 5) u' v') v v1) u v1) ?_ I
  intro c ρ W fL fC fG fE fW fF fA aK aF aI aL aR aW aT aB aH aN aC aG aO aM aY aP aQ aD gS gM bK bX bY bS bW bR bM bD hR
  show wpX_swap (fun r u' => wpY_swap (fun r' v' => r' = r ∧ i_Rel (k + 5) u' v') (nI c, nI W.length, gS, gM, bK, bX, bY, bS, bW, bR, bM, bD) v1) (nI c, nI W.length, fL, fC, fG, fE, fW, fF, fA, aK, aF, aI, aL, aR, aW, aT, aB, aH, aN, aC, aG, aO, aM, aY, aP, aQ, aD) v1
  have hR' := hR
  obtain ⟨hc, hl, h3, hA, hB, hX, hY⟩ := hR'
  have hX' : ∀ r, r < c → rc_RA aK aF aI aL aR r (ρ r) := fun r hr => hX r (by omega)
  have hY' : ∀ r, r < c → rc_RY bK bX bY bS r (ρ r) := fun r hr => hY r (by omega)
  by_cases h0 : v1 < 0
  · refine br_t h0 ?_
    unfold wpY_swap
    exact ry_nopair (Or.inl h0) (br_f (by decide) ⟨rfl, rc_mkR hR⟩)
  · by_cases h1 : v1 < nI c - 1
    · obtain ⟨j, rfl, hjc⟩ := rc_pairs hc h0 h1
      refine rx_swap hc hjc hX ?_
      intro aK' aF' aI' aL' aR' hX2
      refine ry_swap hc hjc hY ?_
      intro bK' bX' bY' bS' hY2
      exact ⟨rfl, rc_mkR ⟨hc, hl, h3, hA, hB, hX2, hY2⟩⟩
    · refine br_f h0 (br_f h1 ?_)
      unfold wpY_swap
      exact ry_nopair (Or.inr h1) (br_f (by decide) ⟨rfl, rc_mkR hR⟩)
theorem i_vc_push {k : Nat} {u : SX} {v : SY} (I : i_Rel k u v) (hk : k + 5 ≤ 2560) (v1 : Int32) : wpX_push (fun r u' => wpY_push (fun r' v' => r' = r ∧ i_Rel (k + 5) u' v') v v1) u v1 := by
  refine rc_el (P := fun u v => wpX_push (fun r u' => wpY_push (fun r' v' => r' = r ∧ i_Rel (k + 5) u' v') v v1) u v1) ?_ I
  intro c ρ W fL fC fG fE fW fF fA aK aF aI aL aR aW aT aB aH aN aC aG aO aM aY aP aQ aD gS gM bK bX bY bS bW bR bM bD hR
  show wpX_push (fun r u' => wpY_push (fun r' v' => r' = r ∧ i_Rel (k + 5) u' v') (nI c, nI W.length, gS, gM, bK, bX, bY, bS, bW, bR, bM, bD) v1) (nI c, nI W.length, fL, fC, fG, fE, fW, fF, fA, aK, aF, aI, aL, aR, aW, aT, aB, aH, aN, aC, aG, aO, aM, aY, aP, aQ, aD) v1
  have hR' := hR
  obtain ⟨hc, hl, h3, hA, hB, hX, hY⟩ := hR'
  have hX' : ∀ r, r < c → rc_RA aK aF aI aL aR r (ρ r) := fun r hr => hX r (by omega)
  have hY' : ∀ r, r < c → rc_RY bK bX bY bS r (ρ r) := fun r hr => hY r (by omega)
  have hno : ∀ a : Nat, a ≤ 3 → v1 = nI a → ¬ (v1 < 0 ∨ ¬ v1 ≤ 3) := by
    intro a ha e h
    rw [e] at h
    exact h.elim (nI_pos (by omega)) (fun z => z (nI_le (b := 3) ha (by decide)))
  refine rx_push hl hA ?_ ?_ ?_
  · intro hbad
    exact ry_push hl hB (fun _ => ⟨rfl, rc_mkR hR⟩) (fun a ha e _ => absurd hbad (hno a ha e)) (fun a _ ha e _ _ => absurd hbad (hno a ha e))
  · intro a ha e h12
    exact ry_push hl hB (fun hbad => absurd hbad (hno a ha e)) (fun _ _ _ _ => ⟨rfl, rc_mkR hR⟩) (fun _ _ _ _ h => absurd h12 (by omega))
  · intro a aW' ha e h12 hA'
    refine ry_push hl hB (fun hbad => absurd hbad (hno a ha e)) (fun _ _ _ h => absurd h (by omega)) ?_
    intro b bW' hb eb _ hB'
    have hab : a = b := rc_nI8 (by omega) (by omega) (e.symm.trans eb)
    subst hab
    refine ⟨rfl, rc_mkR ⟨hc, ?_, ?_, hA', hB', hX, hY⟩⟩
    · rw [List.length_append]
      show W.length + 1 ≤ 12
      omega
    · intro x hx
      rcases List.mem_append.mp hx with z | z
      · exact h3 x z
      · rw [List.mem_singleton] at z; omega
theorem i_vc_clear {k : Nat} {u : SX} {v : SY} (I : i_Rel k u v) (hk : k + 5 ≤ 2560) : wpX_clear (fun r u' => wpY_clear (fun r' v' => r' = r ∧ i_Rel (k + 5) u' v') v) u := by
  refine rc_el (P := fun u v => wpX_clear (fun r u' => wpY_clear (fun r' v' => r' = r ∧ i_Rel (k + 5) u' v') v) u) ?_ I
  intro c ρ W fL fC fG fE fW fF fA aK aF aI aL aR aW aT aB aH aN aC aG aO aM aY aP aQ aD gS gM bK bX bY bS bW bR bM bD hR
  show wpX_clear (fun r u' => wpY_clear (fun r' v' => r' = r ∧ i_Rel (k + 5) u' v') (nI c, nI W.length, gS, gM, bK, bX, bY, bS, bW, bR, bM, bD)) (nI c, nI W.length, fL, fC, fG, fE, fW, fF, fA, aK, aF, aI, aL, aR, aW, aT, aB, aH, aN, aC, aG, aO, aM, aY, aP, aQ, aD)
  have hR' := hR
  obtain ⟨hc, hl, h3, hA, hB, hX, hY⟩ := hR'
  have hX' : ∀ r, r < c → rc_RA aK aF aI aL aR r (ρ r) := fun r hr => hX r (by omega)
  have hY' : ∀ r, r < c → rc_RY bK bX bY bS r (ρ r) := fun r hr => hY r (by omega)
  exact ⟨rfl, rc_mkR (W := []) ⟨hc, by decide, fun a h => absurd h List.not_mem_nil, rc_A_nil _, rc_A_nil _, hX, hY⟩⟩
theorem i_vc_apply {k : Nat} {u : SX} {v : SY} (I : i_Rel k u v) (hk : k + 5 ≤ 2560) : wpX_apply (fun r u' => wpY_apply (fun r' v' => r' = r ∧ i_Rel (k + 5) u' v') v) u := by
  refine rc_el (P := fun u v => wpX_apply (fun r u' => wpY_apply (fun r' v' => r' = r ∧ i_Rel (k + 5) u' v') v) u) ?_ I
  intro c ρ W fL fC fG fE fW fF fA aK aF aI aL aR aW aT aB aH aN aC aG aO aM aY aP aQ aD gS gM bK bX bY bS bW bR bM bD hR
  show wpX_apply (fun r u' => wpY_apply (fun r' v' => r' = r ∧ i_Rel (k + 5) u' v') (nI c, nI W.length, gS, gM, bK, bX, bY, bS, bW, bR, bM, bD)) (nI c, nI W.length, fL, fC, fG, fE, fW, fF, fA, aK, aF, aI, aL, aR, aW, aT, aB, aH, aN, aC, aG, aO, aM, aY, aP, aQ, aD)
  have hR' := hR
  obtain ⟨hc, hl, h3, hA, hB, hX, hY⟩ := hR'
  have hX' : ∀ r, r < c → rc_RA aK aF aI aL aR r (ρ r) := fun r hr => hX r (by omega)
  have hY' : ∀ r, r < c → rc_RY bK bX bY bS r (ρ r) := fun r hr => hY r (by omega)
  have ok : ∀ s, s < c → rc_ok (ρ s) := fun s hs => (hX' s hs).2.2.2.2.2
  refine rx_apply hc hX' hA hl h3 ?_
  intro fL' fC' fG' fE' fW' aW' aT' aB' aH' aN' aC' aG' aO' hA'
  refine ry_apply hc hY' hB hl h3 ?_
  intro gS' gM' bW' bR' bM' hB'
  exact ⟨rfl, rc_mkR ⟨hc, rc_wa_len ρ W hl c, rc_wa_le ρ ok W h3 c (Nat.le_refl c), hA', hB', hX, hY⟩⟩
theorem i_vc_after {k : Nat} {u : SX} {v : SY} (I : i_Rel k u v) (hk : k + 5 ≤ 2560) (v1 : Int32) : wpX_after (fun r u' => wpY_after (fun r' v' => r' = r ∧ i_Rel (k + 5) u' v') v v1) u v1 := by
  refine rc_el (P := fun u v => wpX_after (fun r u' => wpY_after (fun r' v' => r' = r ∧ i_Rel (k + 5) u' v') v v1) u v1) ?_ I
  intro c ρ W fL fC fG fE fW fF fA aK aF aI aL aR aW aT aB aH aN aC aG aO aM aY aP aQ aD gS gM bK bX bY bS bW bR bM bD hR
  show wpX_after (fun r u' => wpY_after (fun r' v' => r' = r ∧ i_Rel (k + 5) u' v') (nI c, nI W.length, gS, gM, bK, bX, bY, bS, bW, bR, bM, bD) v1) (nI c, nI W.length, fL, fC, fG, fE, fW, fF, fA, aK, aF, aI, aL, aR, aW, aT, aB, aH, aN, aC, aG, aO, aM, aY, aP, aQ, aD) v1
  have hR' := hR
  obtain ⟨hc, hl, h3, hA, hB, hX, hY⟩ := hR'
  have hX' : ∀ r, r < c → rc_RA aK aF aI aL aR r (ρ r) := fun r hr => hX r (by omega)
  have hY' : ∀ r, r < c → rc_RY bK bX bY bS r (ρ r) := fun r hr => hY r (by omega)
  by_cases h0 : v1 < 0
  · exact br_t h0 (br_t h0 ⟨rfl, rc_mkR hR⟩)
  · by_cases h1 : v1 ≤ nI c
    · obtain ⟨j, hj, rfl⟩ := nI_of h0
      have hjc : j ≤ c := (nI_leI hj (by omega)).mp h1
      refine rx_after hc hjc hX' hA hl h3 ?_
      intro fL' fC' fG' fE' fW' aT' aB' aH' aN' aC' aG' aO'
      refine ry_after hc hjc hY' hB hl h3 ?_
      intro gS' gM' bR' bM'
      exact ⟨rfl, rc_mkR hR⟩
    · exact br_f h0 (br_f h1 (br_f h0 (br_f h1 ⟨rfl, rc_mkR hR⟩)))
theorem i_vc_letter {k : Nat} {u : SX} {v : SY} (I : i_Rel k u v) (hk : k + 5 ≤ 2560) (v1 : Int32) : wpX_letter (fun r u' => wpY_letter (fun r' v' => r' = r ∧ i_Rel (k + 5) u' v') v v1) u v1 := by
  refine rc_el (P := fun u v => wpX_letter (fun r u' => wpY_letter (fun r' v' => r' = r ∧ i_Rel (k + 5) u' v') v v1) u v1) ?_ I
  intro c ρ W fL fC fG fE fW fF fA aK aF aI aL aR aW aT aB aH aN aC aG aO aM aY aP aQ aD gS gM bK bX bY bS bW bR bM bD hR
  show wpX_letter (fun r u' => wpY_letter (fun r' v' => r' = r ∧ i_Rel (k + 5) u' v') (nI c, nI W.length, gS, gM, bK, bX, bY, bS, bW, bR, bM, bD) v1) (nI c, nI W.length, fL, fC, fG, fE, fW, fF, fA, aK, aF, aI, aL, aR, aW, aT, aB, aH, aN, aC, aG, aO, aM, aY, aP, aQ, aD) v1
  have hR' := hR
  obtain ⟨hc, hl, h3, hA, hB, hX, hY⟩ := hR'
  have hX' : ∀ r, r < c → rc_RA aK aF aI aL aR r (ρ r) := fun r hr => hX r (by omega)
  have hY' : ∀ r, r < c → rc_RY bK bX bY bS r (ρ r) := fun r hr => hY r (by omega)
  have hl2 := rc_wa_len ρ W hl c
  have hno : ∀ i : Nat, v1 = nI i → i < (rc_wa ρ W c).length → ¬ (v1 < 0 ∨ ¬ v1 < nI (rc_wa ρ W c).length) := by
    intro i e hi h
    rw [e] at h
    exact h.elim (nI_pos (by omega)) (fun z => z (nI_lt hi (by omega)))
  refine rx_letter hc hX' hA hl h3 ?_ ?_
  · intro hbad fL' fC' fG' fE' fW' aT' aB' aH' aN' aC' aG' aO'
    exact ry_letter hc hY' hB hl h3 (fun _ _ _ _ _ => ⟨rfl, rc_mkR hR⟩) (fun i e hi => absurd hbad (hno i e hi))
  · intro i e hi fL' fC' fG' fE' fW' aT' aB' aH' aN' aC' aG' aO'
    refine ry_letter hc hY' hB hl h3 (fun hbad => absurd hbad (hno i e hi)) ?_
    intro j ej hj gS' gM' bR' bM'
    have hij : i = j := rc_nI8 (by omega) (by omega) (e.symm.trans ej)
    subst hij
    exact ⟨rfl, rc_mkR hR⟩
theorem i_vc_sources {k : Nat} {u : SX} {v : SY} (I : i_Rel k u v) (hk : k + 5 ≤ 2560) (v1 : Int32) : wpX_sources (fun r u' => wpY_sources (fun r' v' => r' = r ∧ i_Rel (k + 5) u' v') v v1) u v1 := by
  refine rc_el (P := fun u v => wpX_sources (fun r u' => wpY_sources (fun r' v' => r' = r ∧ i_Rel (k + 5) u' v') v v1) u v1) ?_ I
  intro c ρ W fL fC fG fE fW fF fA aK aF aI aL aR aW aT aB aH aN aC aG aO aM aY aP aQ aD gS gM bK bX bY bS bW bR bM bD hR
  show wpX_sources (fun r u' => wpY_sources (fun r' v' => r' = r ∧ i_Rel (k + 5) u' v') (nI c, nI W.length, gS, gM, bK, bX, bY, bS, bW, bR, bM, bD) v1) (nI c, nI W.length, fL, fC, fG, fE, fW, fF, fA, aK, aF, aI, aL, aR, aW, aT, aB, aH, aN, aC, aG, aO, aM, aY, aP, aQ, aD) v1
  have hR' := hR
  obtain ⟨hc, hl, h3, hA, hB, hX, hY⟩ := hR'
  have hX' : ∀ r, r < c → rc_RA aK aF aI aL aR r (ρ r) := fun r hr => hX r (by omega)
  have hY' : ∀ r, r < c → rc_RY bK bX bY bS r (ρ r) := fun r hr => hY r (by omega)
  rcases rc_num v1 with ⟨n, hn, rfl⟩ | hb
  · refine rx_sources hc hX' hA hl h3 hn ?_
    intro fL' fC' fG' fE' fW' fF' fA' aT' aB' aH' aN' aC' aG' aO' aM' aY' aP' aQ'
    refine ry_sources hc hY' hB hl h3 hn ?_
    intro gS' gM' bM' bR'
    exact ⟨rfl, rc_mkR hR⟩
  · unfold wpX_sources wpY_sources
    exact rx_no5 hb (br_f (by decide) (ry_no5 hb (br_f (by decide) ⟨rfl, rc_mkR hR⟩)))
theorem i_vc_source {k : Nat} {u : SX} {v : SY} (I : i_Rel k u v) (hk : k + 5 ≤ 2560) (v1 : Int32) (v2 : Int32) : wpX_source (fun r u' => wpY_source (fun r' v' => r' = r ∧ i_Rel (k + 5) u' v') v v1 v2) u v1 v2 := by
  refine rc_el (P := fun u v => wpX_source (fun r u' => wpY_source (fun r' v' => r' = r ∧ i_Rel (k + 5) u' v') v v1 v2) u v1 v2) ?_ I
  intro c ρ W fL fC fG fE fW fF fA aK aF aI aL aR aW aT aB aH aN aC aG aO aM aY aP aQ aD gS gM bK bX bY bS bW bR bM bD hR
  show wpX_source (fun r u' => wpY_source (fun r' v' => r' = r ∧ i_Rel (k + 5) u' v') (nI c, nI W.length, gS, gM, bK, bX, bY, bS, bW, bR, bM, bD) v1 v2) (nI c, nI W.length, fL, fC, fG, fE, fW, fF, fA, aK, aF, aI, aL, aR, aW, aT, aB, aH, aN, aC, aG, aO, aM, aY, aP, aQ, aD) v1 v2
  have hR' := hR
  obtain ⟨hc, hl, h3, hA, hB, hX, hY⟩ := hR'
  have hX' : ∀ r, r < c → rc_RA aK aF aI aL aR r (ρ r) := fun r hr => hX r (by omega)
  have hY' : ∀ r, r < c → rc_RY bK bX bY bS r (ρ r) := fun r hr => hY r (by omega)
  rcases rc_num v1 with ⟨n, hn, rfl⟩ | hb
  · have h4 := rc_4n n hn
    have hcn := rc_cn_le (rc_P ρ c W n) (4 ^ n)
    refine rx_source hc hX' hA hl h3 hn ?_ ?_
    · intro hno fL' fC' fG' fE' fW' fF' fA' aT' aB' aH' aN' aC' aG' aO' aM' aY' aP' aQ'
      refine ry_source hc hY' hB hl h3 hn (fun _ _ _ _ _ => ⟨rfl, rc_mkR hR⟩) ?_
      intro w hw hP e
      exfalso
      have hlt := rc_cn_lt hw hP
      rcases hno with h0 | ⟨κ, hx, hκ, hle⟩
      · rw [← e] at h0
        exact nI_pos (by omega) h0
      · have := rc_nI8 (by omega) hκ (e.trans hx)
        omega
    · intro κ w hx hκ hw hP hcw fL' fC' fG' fE' fW' fF' fA' aT' aB' aH' aN' aC' aG' aO' aM' aY' aP' aQ'
      refine ry_source hc hY' hB hl h3 hn ?_ ?_
      · intro hno
        exact absurd (by rw [hcw, hx]) (hno w hw hP)
      · intro w' hw' hP' e gS' gM' bM' bR'
        have hlt := rc_cn_lt hw' hP'
        have e2 := rc_nI8 (by omega) hκ (e.trans hx)
        have e3 : w = w' := rc_cn_uq hP hP' (by omega)
        subst e3
        exact ⟨rfl, rc_mkR hR⟩
  · unfold wpX_source wpY_source
    exact rx_no5 hb (br_f (by decide) (ry_no5 hb (br_f (by decide) ⟨rfl, rc_mkR hR⟩)))
theorem i_vc_images {k : Nat} {u : SX} {v : SY} (I : i_Rel k u v) (hk : k + 5 ≤ 2560) (v1 : Int32) : wpX_images (fun r u' => wpY_images (fun r' v' => r' = r ∧ i_Rel (k + 5) u' v') v v1) u v1 := by
  refine rc_el (P := fun u v => wpX_images (fun r u' => wpY_images (fun r' v' => r' = r ∧ i_Rel (k + 5) u' v') v v1) u v1) ?_ I
  intro c ρ W fL fC fG fE fW fF fA aK aF aI aL aR aW aT aB aH aN aC aG aO aM aY aP aQ aD gS gM bK bX bY bS bW bR bM bD hR
  show wpX_images (fun r u' => wpY_images (fun r' v' => r' = r ∧ i_Rel (k + 5) u' v') (nI c, nI W.length, gS, gM, bK, bX, bY, bS, bW, bR, bM, bD) v1) (nI c, nI W.length, fL, fC, fG, fE, fW, fF, fA, aK, aF, aI, aL, aR, aW, aT, aB, aH, aN, aC, aG, aO, aM, aY, aP, aQ, aD) v1
  have hR' := hR
  obtain ⟨hc, hl, h3, hA, hB, hX, hY⟩ := hR'
  have hX' : ∀ r, r < c → rc_RA aK aF aI aL aR r (ρ r) := fun r hr => hX r (by omega)
  have hY' : ∀ r, r < c → rc_RY bK bX bY bS r (ρ r) := fun r hr => hY r (by omega)
  rcases rc_num v1 with ⟨n, hn, rfl⟩ | hb
  · refine rx_images hc hX' hA hl h3 hn ?_
    intro fL' fC' fG' fE' fW' aT' aB' aH' aN' aC' aG' aO' aD'
    refine ry_images hc hY' hn ?_
    intro gS' gM' bM' bR' bD'
    exact ⟨rfl, rc_mkR hR⟩
  · unfold wpX_images wpY_images
    exact rx_no5 hb (br_f (by decide) (ry_no5 hb (br_f (by decide) ⟨rfl, rc_mkR hR⟩)))
theorem i_vc_commute {k : Nat} {u : SX} {v : SY} (I : i_Rel k u v) (hk : k + 5 ≤ 2560) (v1 : Int32) (v2 : Int32) : wpX_commute (fun r u' => wpY_commute (fun r' v' => r' = r ∧ i_Rel (k + 5) u' v') v v1 v2) u v1 v2 := by
  refine rc_el (P := fun u v => wpX_commute (fun r u' => wpY_commute (fun r' v' => r' = r ∧ i_Rel (k + 5) u' v') v v1 v2) u v1 v2) ?_ I
  intro c ρ W fL fC fG fE fW fF fA aK aF aI aL aR aW aT aB aH aN aC aG aO aM aY aP aQ aD gS gM bK bX bY bS bW bR bM bD hR
  show wpX_commute (fun r u' => wpY_commute (fun r' v' => r' = r ∧ i_Rel (k + 5) u' v') (nI c, nI W.length, gS, gM, bK, bX, bY, bS, bW, bR, bM, bD) v1 v2) (nI c, nI W.length, fL, fC, fG, fE, fW, fF, fA, aK, aF, aI, aL, aR, aW, aT, aB, aH, aN, aC, aG, aO, aM, aY, aP, aQ, aD) v1 v2
  have hR' := hR
  obtain ⟨hc, hl, h3, hA, hB, hX, hY⟩ := hR'
  have hX' : ∀ r, r < c → rc_RA aK aF aI aL aR r (ρ r) := fun r hr => hX r (by omega)
  have hY' : ∀ r, r < c → rc_RY bK bX bY bS r (ρ r) := fun r hr => hY r (by omega)
  by_cases h0 : v1 < 0
  · refine br_t h0 ?_
    unfold wpY_commute
    exact ry_nopair (Or.inl h0) (br_f (by decide) ⟨rfl, rc_mkR hR⟩)
  · by_cases h1 : v1 < nI c - 1
    · obtain ⟨j, rfl, hjc⟩ := rc_pairs hc h0 h1
      rcases rc_num v2 with ⟨n, hn, rfl⟩ | hb
      · refine rx_commute hc hX' hA hl h3 hn hjc ?_
        intro fL' fC' fG' fE' fW' aT' aB' aH' aN' aC' aG' aO' aD'
        refine ry_commute hc hjc hY hn ?_
        intro gS' gM' bK' bX' bY' bS' bM' bR' bD' hY2
        exact ⟨rfl, rc_mkR ⟨hc, hl, h3, hA, hB, hX, hY2⟩⟩
      · unfold wpX_commute wpY_commute
        exact br_f h0 (br_t h1 (rx_no5 hb (br_f (by decide) (ry_pair hc hjc (br_t rfl (ry_no5 hb (br_f (by decide) ⟨rfl, rc_mkR hR⟩)))))))
    · refine br_f h0 (br_f h1 ?_)
      unfold wpY_commute
      exact ry_nopair (Or.inr h1) (br_f (by decide) ⟨rfl, rc_mkR hR⟩)
theorem i_vc_idle {k : Nat} {u : SX} {v : SY} (I : i_Rel k u v) (hk : k + 5 ≤ 2560) (v1 : Int32) (v2 : Int32) : wpX_idle (fun r u' => wpY_idle (fun r' v' => r' = r ∧ i_Rel (k + 5) u' v') v v1 v2) u v1 v2 := by
  refine rc_el (P := fun u v => wpX_idle (fun r u' => wpY_idle (fun r' v' => r' = r ∧ i_Rel (k + 5) u' v') v v1 v2) u v1 v2) ?_ I
  intro c ρ W fL fC fG fE fW fF fA aK aF aI aL aR aW aT aB aH aN aC aG aO aM aY aP aQ aD gS gM bK bX bY bS bW bR bM bD hR
  show wpX_idle (fun r u' => wpY_idle (fun r' v' => r' = r ∧ i_Rel (k + 5) u' v') (nI c, nI W.length, gS, gM, bK, bX, bY, bS, bW, bR, bM, bD) v1 v2) (nI c, nI W.length, fL, fC, fG, fE, fW, fF, fA, aK, aF, aI, aL, aR, aW, aT, aB, aH, aN, aC, aG, aO, aM, aY, aP, aQ, aD) v1 v2
  have hR' := hR
  obtain ⟨hc, hl, h3, hA, hB, hX, hY⟩ := hR'
  have hX' : ∀ r, r < c → rc_RA aK aF aI aL aR r (ρ r) := fun r hr => hX r (by omega)
  have hY' : ∀ r, r < c → rc_RY bK bX bY bS r (ρ r) := fun r hr => hY r (by omega)
  by_cases h0 : v1 < 0
  · exact br_t h0 (br_t h0 ⟨rfl, rc_mkR hR⟩)
  · by_cases h1 : v1 < nI c
    · obtain ⟨j, hj, rfl⟩ := nI_of h0
      have hjc : j < c := (nI_ltI hj (by omega)).mp h1
      rcases rc_num v2 with ⟨n, hn, rfl⟩ | hb
      · refine rx_idle hc hX' hA hl h3 hn hjc ?_
        intro fL' fC' fG' fE' fW' aT' aB' aH' aN' aC' aG' aO' aD'
        refine ry_idle hc hjc hY' hn ?_
        intro gS' gM' bM' bR'
        exact ⟨rfl, rc_mkR hR⟩
      · unfold wpX_idle wpY_idle
        exact br_f h0 (br_t h1 (rx_no5 hb (br_f (by decide) (br_f h0 (br_t h1 (ry_no5 hb (br_f (by decide) ⟨rfl, rc_mkR hR⟩)))))))
    · exact br_f h0 (br_f h1 (br_f h0 (br_f h1 ⟨rfl, rc_mkR hR⟩)))
theorem i_vc_still {k : Nat} {u : SX} {v : SY} (I : i_Rel k u v) (hk : k + 5 ≤ 2560) (v1 : Int32) : wpX_still (fun r u' => wpY_still (fun r' v' => r' = r ∧ i_Rel (k + 5) u' v') v v1) u v1 := by
  refine rc_el (P := fun u v => wpX_still (fun r u' => wpY_still (fun r' v' => r' = r ∧ i_Rel (k + 5) u' v') v v1) u v1) ?_ I
  intro c ρ W fL fC fG fE fW fF fA aK aF aI aL aR aW aT aB aH aN aC aG aO aM aY aP aQ aD gS gM bK bX bY bS bW bR bM bD hR
  show wpX_still (fun r u' => wpY_still (fun r' v' => r' = r ∧ i_Rel (k + 5) u' v') (nI c, nI W.length, gS, gM, bK, bX, bY, bS, bW, bR, bM, bD) v1) (nI c, nI W.length, fL, fC, fG, fE, fW, fF, fA, aK, aF, aI, aL, aR, aW, aT, aB, aH, aN, aC, aG, aO, aM, aY, aP, aQ, aD) v1
  have hR' := hR
  obtain ⟨hc, hl, h3, hA, hB, hX, hY⟩ := hR'
  have hX' : ∀ r, r < c → rc_RA aK aF aI aL aR r (ρ r) := fun r hr => hX r (by omega)
  have hY' : ∀ r, r < c → rc_RY bK bX bY bS r (ρ r) := fun r hr => hY r (by omega)
  rcases rc_num v1 with ⟨n, hn, rfl⟩ | hb
  · refine rx_still hc hX' hA hl h3 hn ?_
    intro fL' fC' fG' fE' fW' aT' aB' aH' aN' aC' aG' aO'
    refine ry_still hc hY' hn ?_
    intro gS' gM' bM' bR'
    exact ⟨rfl, rc_mkR hR⟩
  · unfold wpX_still wpY_still
    exact rx_no5 hb (br_f (by decide) (ry_no5 hb (br_f (by decide) ⟨rfl, rc_mkR hR⟩)))
end
