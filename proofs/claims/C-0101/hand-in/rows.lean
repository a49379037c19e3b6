section
/-! pure rows to paste: stores, nI and lN arithmetic, masks, shifts, narrowing, branches by naturals (pk_le, pk_lt, pk_eq), loops (lp1 .. lp16: the measure of the state; rp1 ..: recursion), negatives. Take what you need -/
theorem pk_us {f : Nat → Int32} {k : Nat} {x : Int32} : upd f k x k = x := if_pos rfl
theorem pk_un {f : Nat → Int32} {k j : Nat} {x : Int32} (h : j ≠ k) : upd f k x j = f j := if_neg h
theorem pk_uLs {f : Nat → Int64} {k : Nat} {x : Int64} : vp_updL f k x k = x := if_pos rfl
theorem pk_uLn {f : Nat → Int64} {k j : Nat} {x : Int64} (h : j ≠ k) : vp_updL f k x j = f j := if_neg h
theorem pk_sub {a b : Nat} (h : b ≤ a) : nI a - nI b = nI (a - b) := by
  obtain ⟨c, rfl⟩ : ∃ c, a = c + b := ⟨a - b, by omega⟩
  rw [← nI_add, Int32.add_sub_cancel, Nat.add_sub_cancel]
theorem pk_m1 (n : Nat) : nI (n + 1) + (-1) = nI n := by
  rw [← nI_1, Int32.add_assoc, show (1 : Int32) + (-1) = 0 from rfl, Int32.add_zero]
theorem pk_mul (a b : Nat) : nI a * nI b = nI (a * b) := (Int32.ofNat_mul a b).symm
theorem pk_div {a d : Nat} (ha : a < 2 ^ 31) (h0 : 0 < d) (hd : d < 2 ^ 31) : nI a / nI d = nI (a / d) := by
  apply Int32.toInt_inj.mp
  rw [lg_idiv_nonneg (by rw [nI_toInt ha]; omega) (by rw [nI_toInt hd]; omega), nI_toInt ha, nI_toInt hd, nI_toInt (Nat.lt_of_le_of_lt (Nat.div_le_self a d) ha)]
  first | rfl | exact (Int.natCast_ediv _ _).symm
theorem pk_rem {a d : Nat} (ha : a < 2 ^ 31) (h0 : 0 < d) (hd : d < 2 ^ 31) : nI a - nI a / nI d * nI d = nI (a % d) := by
  rw [pk_div ha h0 hd, pk_mul, pk_sub (Nat.div_mul_le_self a d)]
  exact congrArg nI (by have := Nat.div_add_mod' a d; omega)
theorem pk_sub_toInt {a b : Nat} (ha : a < 2 ^ 30) (hb : b < 2 ^ 30) : (nI a - nI b).toInt = (a : Int) - b := by
  rw [Int32.toInt_sub, nI_toInt (by omega), nI_toInt (by omega)]
  exact Int.bmod_eq_of_le (by omega) (by omega)
theorem pk_sneg {a b : Nat} (hb : b < 2 ^ 30) (h : a < b) : nI a - nI b < 0 := by
  rw [Int32.lt_iff_toInt_lt, pk_sub_toInt (by omega) hb, show (0 : Int32).toInt = 0 from by decide]
  omega
theorem pk_ix (x : Int32) {n : Nat} (hn : n < 2 ^ 31) : x < 0 ∨ nI n ≤ x ∨ ∃ j : Nat, j < n ∧ x = nI j := by
  by_cases h : x < 0
  · exact Or.inl h
  · obtain ⟨j, hj, rfl⟩ := nI_of h
    by_cases h2 : j < n
    · exact Or.inr (Or.inr ⟨j, h2, rfl⟩)
    · exact Or.inr (Or.inl (nI_le (by omega) hj))
theorem pk_le {x y : Int32} {A B : Prop} (a b : Nat) (f : a ≤ b → A) (g : b < a → B) (hx : x = nI a := by rfl) (hy : y = nI b := by rfl) (ha : a < 2 ^ 31 := by omega) (hb : b < 2 ^ 31 := by omega) : (x ≤ y → A) ∧ (¬ x ≤ y → B) := by
  subst hx hy
  rw [nI_leI ha hb]
  exact ⟨f, fun z => g (by omega)⟩
theorem pk_lt {x y : Int32} {A B : Prop} (a b : Nat) (f : a < b → A) (g : b ≤ a → B) (hx : x = nI a := by rfl) (hy : y = nI b := by rfl) (ha : a < 2 ^ 31 := by omega) (hb : b < 2 ^ 31 := by omega) : (x < y → A) ∧ (¬ x < y → B) := by
  subst hx hy
  rw [nI_ltI ha hb]
  exact ⟨f, fun z => g (by omega)⟩
theorem pk_eq {x y : Int32} {A B : Prop} (a b : Nat) (f : a = b → A) (g : a ≠ b → B) (hx : x = nI a := by rfl) (hy : y = nI b := by rfl) (ha : a < 2 ^ 31 := by omega) (hb : b < 2 ^ 31 := by omega) : (x = y → A) ∧ (¬ x = y → B) := by
  subst hx hy
  rw [nI_eq ha hb]
  exact ⟨f, g⟩
theorem pk_in {x : Int32} (n N : Nat) (h : n < N) (hx : x = nI n := by rfl) (hN : N < 2 ^ 31 := by omega) : vp_in x N := by
  subst hx
  exact vp_in_nI h hN
theorem pk_cl {x : Int32} (n : Nat) (hx : x = nI n := by rfl) (h : n < 2 ^ 31 := by omega) : x.toNatClampNeg = n := by
  subst hx
  exact nI_clamp h
theorem pk_tn {n : Nat} (h : n < 2 ^ 32) : (nI n).toBitVec.toNat = n := Nat.mod_eq_of_lt h
theorem pk_and (x : Int32) {m : Int32} (k : Nat) (hm : m.toBitVec.toNat = 2 ^ k - 1) : x &&& m = nI (x.toBitVec.toNat % 2 ^ k) := by
  apply Int32.toBitVec_inj.mp
  apply BitVec.eq_of_toNat_eq
  rw [Int32.toBitVec_and, BitVec.toNat_and, hm, Nat.and_two_pow_sub_one_eq_mod]
  show _ = (BitVec.ofNat 32 _).toNat
  rw [BitVec.toNat_ofNat]
  exact (Nat.mod_eq_of_lt (Nat.lt_of_le_of_lt (Nat.mod_le _ _) x.toBitVec.isLt)).symm
theorem pk_andN {n : Nat} (h : n < 2 ^ 32) {m : Int32} (k : Nat) (hm : m.toBitVec.toNat = 2 ^ k - 1) : nI n &&& m = nI (n % 2 ^ k) := by
  rw [pk_and _ k hm, pk_tn h]
theorem pk_andE (x : Int32) {m : Int32} (k : Nat) (hm : m.toBitVec.toNat = 2 ^ k - 1) : ∃ j : Nat, j < 2 ^ k ∧ x &&& m = nI j := ⟨_, Nat.mod_lt _ (Nat.two_pow_pos k), pk_and x k hm⟩
theorem pk_andIn (x : Int32) {m : Int32} (k : Nat) (hm : m.toBitVec.toNat = 2 ^ k - 1) (hk : k ≤ 30) : vp_in (x &&& m) (2 ^ k) := by
  obtain ⟨j, hj, e⟩ := pk_andE x k hm
  rw [e]
  exact vp_in_nI hj (Nat.lt_of_le_of_lt (Nat.pow_le_pow_right (by decide) hk) (by decide))
theorem pk_shl (a s : Int32) (k : Nat) (hs : (s.toBitVec.smod 32).toNat = k) : (a <<< s).toBitVec.toNat = a.toBitVec.toNat * 2 ^ k % 2 ^ 32 := by
  show (a.toBitVec <<< (s.toBitVec.smod 32).toNat).toNat = _
  rw [hs, BitVec.toNat_shiftLeft, Nat.shiftLeft_eq]
theorem pk_shlN {n : Nat} (s : Int32) (k : Nat) (hs : (s.toBitVec.smod 32).toNat = k) (h : n * 2 ^ k < 2 ^ 32) : nI n <<< s = nI (n * 2 ^ k) := by
  apply Int32.toBitVec_inj.mp
  apply BitVec.eq_of_toNat_eq
  have hn : n < 2 ^ 32 := Nat.lt_of_le_of_lt (Nat.le_mul_of_pos_right n (Nat.two_pow_pos k)) h
  rw [pk_shl _ _ k hs, pk_tn hn, pk_tn h, Nat.mod_eq_of_lt h]
theorem pk_shr (a s : Int32) (k : Nat) (hs : (s.toBitVec.smod 32).toNat = k) : (a >>> s).toInt = a.toInt >>> k := by
  show (a.toBitVec.sshiftRight (s.toBitVec.smod 32).toNat).toInt = _
  rw [hs, BitVec.toInt_sshiftRight]
  rfl
theorem pk_shrN {n : Nat} (h : n < 2 ^ 31) (s : Int32) (k : Nat) (hs : (s.toBitVec.smod 32).toNat = k) : nI n >>> s = nI (n / 2 ^ k) := by
  apply Int32.toInt_inj.mp
  have h2 : n / 2 ^ k ≤ n := Nat.div_le_self _ _
  rw [pk_shr _ _ k hs, nI_toInt h, nI_toInt (by omega), Int.shiftRight_eq_div_pow]
  rfl
theorem pk_ushr (x s : Int32) (k : Nat) (hs : ((s.toUInt32 &&& Int32.toUInt32 31).toBitVec % 32).toNat = k) : (x.toUInt32 >>> (s.toUInt32 &&& Int32.toUInt32 31)).toInt32.toBitVec.toNat = x.toBitVec.toNat / 2 ^ k := by
  have e : (x.toUInt32 >>> (s.toUInt32 &&& Int32.toUInt32 31)).toInt32.toBitVec = x.toBitVec >>> k := by
    rw [← hs]
    exact UInt32.toBitVec_shiftRight _ _
  rw [e, BitVec.toNat_ushiftRight, Nat.shiftRight_eq_div_pow]
theorem pk_ushrN {n : Nat} (hn : n < 2 ^ 32) (s : Int32) (k : Nat) (hs : ((s.toUInt32 &&& Int32.toUInt32 31).toBitVec % 32).toNat = k) : ((nI n).toUInt32 >>> (s.toUInt32 &&& Int32.toUInt32 31)).toInt32 = nI (n / 2 ^ k) := by
  apply Int32.toBitVec_inj.mp
  apply BitVec.eq_of_toNat_eq
  rw [pk_ushr _ s k hs, pk_tn hn, pk_tn (Nat.lt_of_le_of_lt (Nat.div_le_self _ _) hn)]
theorem pk_nb (z : Int32) : narrow .byte (.int z.toInt8.toInt32) = .int z.toInt8.toInt32 := congrArg Value.int (by simp)
theorem pk_ns (z : Int32) : narrow .short (.int z.toInt16.toInt32) = .int z.toInt16.toInt32 := congrArg Value.int (by simp)
theorem pk_fb (r : Int32) : fits .byte (.int r.toInt8.toInt32) = true := by
  have ⟨a, b⟩ := lg_i2b_range r
  have h1 : (-128 : Int32).toInt = -128 := by decide
  have h2 : (127 : Int32).toInt = 127 := by decide
  simp only [fits, Bool.and_eq_true, decide_eq_true_eq, Int32.le_iff_toInt_le, h1, h2]
  omega
theorem pk_fs (r : Int32) : fits .short (.int r.toInt16.toInt32) = true := by
  have ⟨a, b⟩ := lg_i2s_range r
  have h1 : (-32768 : Int32).toInt = -32768 := by decide
  have h2 : (32767 : Int32).toInt = 32767 := by decide
  simp only [fits, Bool.and_eq_true, decide_eq_true_eq, Int32.le_iff_toInt_le, h1, h2]
  omega
theorem pk_charN {q : Nat} (hq : q < 65536) : narrow .char (.int (nI q)) = .int (nI q) ∧ fits .char (.int (nI q)) = true := by
  constructor
  · have e : (nI q).toUInt32.toUInt16.toUInt32.toInt32 = nI q := by
      apply Int32.toBitVec_inj.mp
      apply BitVec.eq_of_toNat_eq
      show (nI q).toUInt32.toUInt16.toUInt32.toNat = q % 2 ^ 32
      rw [UInt16.toNat_toUInt32, UInt32.toNat_toUInt16, show (nI q).toUInt32.toNat = q % 2 ^ 32 from rfl]
      omega
    exact congrArg Value.int e
  · have a : (0 : Int32) ≤ nI q := nI_pos' (by omega)
    have b : nI q ≤ 65535 := nI_le (b := 65535) (by omega) (by decide)
    show (decide ((0 : Int32) ≤ nI q) && decide (nI q ≤ 65535)) = true
    rw [decide_eq_true a, decide_eq_true b]
    rfl
theorem pk_char (x : Int32) : (x.toUInt32 % 65536).toInt32 = nI (x.toBitVec.toNat % 65536) := by
  apply Int32.toBitVec_inj.mp
  apply BitVec.eq_of_toNat_eq
  rw [pk_tn (by omega)]
  show (x.toUInt32 % 65536).toNat = _
  rw [UInt32.toNat_mod]
  rfl
theorem pk_nc (x : Int32) : narrow .char (.int (x.toUInt32 % 65536).toInt32) = .int (x.toUInt32 % 65536).toInt32 := by
  rw [pk_char]
  exact (pk_charN (Nat.mod_lt _ (by decide))).1
theorem pk_fc (x : Int32) : fits .char (.int (x.toUInt32 % 65536).toInt32) = true := by
  rw [pk_char]
  exact (pk_charN (Nat.mod_lt _ (by decide))).2
theorem pk_vb (z : Int32) : vp_nar .byte z.toInt8.toInt32 = z.toInt8.toInt32 := by rw [vp_nar_byte]; simp
theorem pk_vs (z : Int32) : vp_nar .short z.toInt16.toInt32 = z.toInt16.toInt32 := by rw [vp_nar_short]; simp
theorem pk_vc (z : Int32) : vp_nar .char (z.toUInt32 % 65536).toInt32 = (z.toUInt32 % 65536).toInt32 := Value.int.inj (pk_nc z)
theorem pk_lT {n : Nat} (h : n < 2 ^ 63) : (lN n).toInt = (n : Int) := lg_ofNat_toInt h
theorem pk_lLT {a b : Nat} (ha : a < 2 ^ 63) (hb : b < 2 ^ 63) : lN a < lN b ↔ a < b := by
  rw [Int64.lt_iff_toInt_lt, pk_lT ha, pk_lT hb]; omega
theorem pk_lLE {a b : Nat} (ha : a < 2 ^ 63) (hb : b < 2 ^ 63) : lN a ≤ lN b ↔ a ≤ b := by
  rw [Int64.le_iff_toInt_le, pk_lT ha, pk_lT hb]; omega
theorem pk_lEQ {a b : Nat} (ha : a < 2 ^ 63) (hb : b < 2 ^ 63) : lN a = lN b ↔ a = b := by
  rw [← Int64.toInt_inj, pk_lT ha, pk_lT hb]; omega
theorem pk_lOf {x : Int64} (h : ¬ x < 0) : ∃ k : Nat, k < 2 ^ 63 ∧ x = lN k := by
  rw [Int64.lt_iff_toInt_lt] at h
  have h0 : (0 : Int64).toInt = 0 := by decide
  have hx := Int64.toInt_lt x
  refine ⟨x.toInt.toNat, by omega, Int64.toInt_inj.mp ?_⟩
  rw [pk_lT (by omega)]
  omega
theorem pk_lDiv {a b : Nat} (ha : a < 2 ^ 63) (h0 : 0 < b) (hb : b < 2 ^ 63) : lN a / lN b = lN (a / b) := by
  apply Int64.toInt_inj.mp
  rw [lg_ldiv_nonneg (by rw [pk_lT ha]; omega) (by rw [pk_lT hb]; omega), pk_lT ha, pk_lT hb, pk_lT (Nat.lt_of_le_of_lt (Nat.div_le_self a b) ha)]
  rfl
theorem pk_lRem {a b : Nat} (ha : a < 2 ^ 63) (h0 : 0 < b) (hb : b < 2 ^ 63) : lN a - lN a / lN b * lN b = lN (a % b) := by
  rw [pk_lDiv ha h0 hb, lN_mul, lN_sub (Nat.div_mul_le_self a b)]
  exact congrArg lN (by have := Nat.div_add_mod' a b; omega)
theorem pk_loop {σ : Type} (W : Nat → Nat → σ → Prop) (I : Nat → σ → Prop) (e i0 : Nat) (s : σ) (hi : i0 ≤ e) (h0 : I i0 s) (hx : ∀ n s, I e s → W (n + 1) e s)
    (hs : ∀ n i s, i < e → I i s → (∀ s', I (i + 1) s' → W n (i + 1) s') → W (n + 1) i s) : ∃ n, W n i0 s :=
  ⟨e + 1, loop_i W I e hx hs (e + 1) i0 s hi (by omega) h0⟩
theorem pk_loopD {σ : Type} (W : Nat → Nat → σ → Prop) (I : Nat → σ → Prop) (hx : ∀ n s, I 0 s → W (n + 1) 0 s)
    (hs : ∀ n i s, I (i + 1) s → (∀ s', I i s' → W n i s') → W (n + 1) (i + 1) s) : ∀ (e : Nat) (s : σ), I e s → W (e + 1) e s := by
  intro e
  induction e with
  | zero => exact fun s h => hx 0 s h
  | succ e ih => exact fun s h => hs (e + 1) e s h (fun s' h' => ih s' h')
theorem lp1 {A1 : Type} (W : Nat → A1 → Prop) (I : A1 → Prop) (μ : A1 → Nat) (hs : ∀ (n : Nat) (a1 : A1), I a1 → (∀ (b1 : A1), I b1 → μ b1 < μ a1 → W n b1) → W (n + 1) a1) (a1 : A1) (h : I a1) : ∃ n, W n a1 :=
  loop_m (σ := A1) (fun n s => W n s) (fun s => I s) (fun s => μ s) (fun n s hI hk => hs n s hI (fun b1 h9 hm => hk b1 h9 hm)) a1 h
theorem lp2 {A1 A2 : Type} (W : Nat → A1 → A2 → Prop) (I : A1 → A2 → Prop) (μ : A1 → A2 → Nat) (hs : ∀ (n : Nat) (a1 : A1) (a2 : A2), I a1 a2 → (∀ (b1 : A1) (b2 : A2), I b1 b2 → μ b1 b2 < μ a1 a2 → W n b1 b2) → W (n + 1) a1 a2) (a1 : A1) (a2 : A2) (h : I a1 a2) : ∃ n, W n a1 a2 :=
  loop_m (σ := A1 × A2) (fun n s => W n s.1 s.2) (fun s => I s.1 s.2) (fun s => μ s.1 s.2) (fun n s hI hk => hs n s.1 s.2 hI (fun b1 b2 h9 hm => hk (b1, b2) h9 hm)) (a1, a2) h
theorem lp3 {A1 A2 A3 : Type} (W : Nat → A1 → A2 → A3 → Prop) (I : A1 → A2 → A3 → Prop) (μ : A1 → A2 → A3 → Nat) (hs : ∀ (n : Nat) (a1 : A1) (a2 : A2) (a3 : A3), I a1 a2 a3 → (∀ (b1 : A1) (b2 : A2) (b3 : A3), I b1 b2 b3 → μ b1 b2 b3 < μ a1 a2 a3 → W n b1 b2 b3) → W (n + 1) a1 a2 a3) (a1 : A1) (a2 : A2) (a3 : A3) (h : I a1 a2 a3) : ∃ n, W n a1 a2 a3 :=
  loop_m (σ := A1 × A2 × A3) (fun n s => W n s.1 s.2.1 s.2.2) (fun s => I s.1 s.2.1 s.2.2) (fun s => μ s.1 s.2.1 s.2.2) (fun n s hI hk => hs n s.1 s.2.1 s.2.2 hI (fun b1 b2 b3 h9 hm => hk (b1, b2, b3) h9 hm)) (a1, a2, a3) h
theorem lp4 {A1 A2 A3 A4 : Type} (W : Nat → A1 → A2 → A3 → A4 → Prop) (I : A1 → A2 → A3 → A4 → Prop) (μ : A1 → A2 → A3 → A4 → Nat) (hs : ∀ (n : Nat) (a1 : A1) (a2 : A2) (a3 : A3) (a4 : A4), I a1 a2 a3 a4 → (∀ (b1 : A1) (b2 : A2) (b3 : A3) (b4 : A4), I b1 b2 b3 b4 → μ b1 b2 b3 b4 < μ a1 a2 a3 a4 → W n b1 b2 b3 b4) → W (n + 1) a1 a2 a3 a4) (a1 : A1) (a2 : A2) (a3 : A3) (a4 : A4) (h : I a1 a2 a3 a4) : ∃ n, W n a1 a2 a3 a4 :=
  loop_m (σ := A1 × A2 × A3 × A4) (fun n s => W n s.1 s.2.1 s.2.2.1 s.2.2.2) (fun s => I s.1 s.2.1 s.2.2.1 s.2.2.2) (fun s => μ s.1 s.2.1 s.2.2.1 s.2.2.2) (fun n s hI hk => hs n s.1 s.2.1 s.2.2.1 s.2.2.2 hI (fun b1 b2 b3 b4 h9 hm => hk (b1, b2, b3, b4) h9 hm)) (a1, a2, a3, a4) h
theorem lp5 {A1 A2 A3 A4 A5 : Type} (W : Nat → A1 → A2 → A3 → A4 → A5 → Prop) (I : A1 → A2 → A3 → A4 → A5 → Prop) (μ : A1 → A2 → A3 → A4 → A5 → Nat) (hs : ∀ (n : Nat) (a1 : A1) (a2 : A2) (a3 : A3) (a4 : A4) (a5 : A5), I a1 a2 a3 a4 a5 → (∀ (b1 : A1) (b2 : A2) (b3 : A3) (b4 : A4) (b5 : A5), I b1 b2 b3 b4 b5 → μ b1 b2 b3 b4 b5 < μ a1 a2 a3 a4 a5 → W n b1 b2 b3 b4 b5) → W (n + 1) a1 a2 a3 a4 a5) (a1 : A1) (a2 : A2) (a3 : A3) (a4 : A4) (a5 : A5) (h : I a1 a2 a3 a4 a5) : ∃ n, W n a1 a2 a3 a4 a5 :=
  loop_m (σ := A1 × A2 × A3 × A4 × A5) (fun n s => W n s.1 s.2.1 s.2.2.1 s.2.2.2.1 s.2.2.2.2) (fun s => I s.1 s.2.1 s.2.2.1 s.2.2.2.1 s.2.2.2.2) (fun s => μ s.1 s.2.1 s.2.2.1 s.2.2.2.1 s.2.2.2.2) (fun n s hI hk => hs n s.1 s.2.1 s.2.2.1 s.2.2.2.1 s.2.2.2.2 hI (fun b1 b2 b3 b4 b5 h9 hm => hk (b1, b2, b3, b4, b5) h9 hm)) (a1, a2, a3, a4, a5) h
theorem lp6 {A1 A2 A3 A4 A5 A6 : Type} (W : Nat → A1 → A2 → A3 → A4 → A5 → A6 → Prop) (I : A1 → A2 → A3 → A4 → A5 → A6 → Prop) (μ : A1 → A2 → A3 → A4 → A5 → A6 → Nat) (hs : ∀ (n : Nat) (a1 : A1) (a2 : A2) (a3 : A3) (a4 : A4) (a5 : A5) (a6 : A6), I a1 a2 a3 a4 a5 a6 → (∀ (b1 : A1) (b2 : A2) (b3 : A3) (b4 : A4) (b5 : A5) (b6 : A6), I b1 b2 b3 b4 b5 b6 → μ b1 b2 b3 b4 b5 b6 < μ a1 a2 a3 a4 a5 a6 → W n b1 b2 b3 b4 b5 b6) → W (n + 1) a1 a2 a3 a4 a5 a6) (a1 : A1) (a2 : A2) (a3 : A3) (a4 : A4) (a5 : A5) (a6 : A6) (h : I a1 a2 a3 a4 a5 a6) : ∃ n, W n a1 a2 a3 a4 a5 a6 :=
  loop_m (σ := A1 × A2 × A3 × A4 × A5 × A6) (fun n s => W n s.1 s.2.1 s.2.2.1 s.2.2.2.1 s.2.2.2.2.1 s.2.2.2.2.2) (fun s => I s.1 s.2.1 s.2.2.1 s.2.2.2.1 s.2.2.2.2.1 s.2.2.2.2.2) (fun s => μ s.1 s.2.1 s.2.2.1 s.2.2.2.1 s.2.2.2.2.1 s.2.2.2.2.2) (fun n s hI hk => hs n s.1 s.2.1 s.2.2.1 s.2.2.2.1 s.2.2.2.2.1 s.2.2.2.2.2 hI (fun b1 b2 b3 b4 b5 b6 h9 hm => hk (b1, b2, b3, b4, b5, b6) h9 hm)) (a1, a2, a3, a4, a5, a6) h
theorem lp7 {A1 A2 A3 A4 A5 A6 A7 : Type} (W : Nat → A1 → A2 → A3 → A4 → A5 → A6 → A7 → Prop) (I : A1 → A2 → A3 → A4 → A5 → A6 → A7 → Prop) (μ : A1 → A2 → A3 → A4 → A5 → A6 → A7 → Nat) (hs : ∀ (n : Nat) (a1 : A1) (a2 : A2) (a3 : A3) (a4 : A4) (a5 : A5) (a6 : A6) (a7 : A7), I a1 a2 a3 a4 a5 a6 a7 → (∀ (b1 : A1) (b2 : A2) (b3 : A3) (b4 : A4) (b5 : A5) (b6 : A6) (b7 : A7), I b1 b2 b3 b4 b5 b6 b7 → μ b1 b2 b3 b4 b5 b6 b7 < μ a1 a2 a3 a4 a5 a6 a7 → W n b1 b2 b3 b4 b5 b6 b7) → W (n + 1) a1 a2 a3 a4 a5 a6 a7) (a1 : A1) (a2 : A2) (a3 : A3) (a4 : A4) (a5 : A5) (a6 : A6) (a7 : A7) (h : I a1 a2 a3 a4 a5 a6 a7) : ∃ n, W n a1 a2 a3 a4 a5 a6 a7 :=
  loop_m (σ := A1 × A2 × A3 × A4 × A5 × A6 × A7) (fun n s => W n s.1 s.2.1 s.2.2.1 s.2.2.2.1 s.2.2.2.2.1 s.2.2.2.2.2.1 s.2.2.2.2.2.2) (fun s => I s.1 s.2.1 s.2.2.1 s.2.2.2.1 s.2.2.2.2.1 s.2.2.2.2.2.1 s.2.2.2.2.2.2) (fun s => μ s.1 s.2.1 s.2.2.1 s.2.2.2.1 s.2.2.2.2.1 s.2.2.2.2.2.1 s.2.2.2.2.2.2) (fun n s hI hk => hs n s.1 s.2.1 s.2.2.1 s.2.2.2.1 s.2.2.2.2.1 s.2.2.2.2.2.1 s.2.2.2.2.2.2 hI (fun b1 b2 b3 b4 b5 b6 b7 h9 hm => hk (b1, b2, b3, b4, b5, b6, b7) h9 hm)) (a1, a2, a3, a4, a5, a6, a7) h
theorem lp8 {A1 A2 A3 A4 A5 A6 A7 A8 : Type} (W : Nat → A1 → A2 → A3 → A4 → A5 → A6 → A7 → A8 → Prop) (I : A1 → A2 → A3 → A4 → A5 → A6 → A7 → A8 → Prop) (μ : A1 → A2 → A3 → A4 → A5 → A6 → A7 → A8 → Nat) (hs : ∀ (n : Nat) (a1 : A1) (a2 : A2) (a3 : A3) (a4 : A4) (a5 : A5) (a6 : A6) (a7 : A7) (a8 : A8), I a1 a2 a3 a4 a5 a6 a7 a8 → (∀ (b1 : A1) (b2 : A2) (b3 : A3) (b4 : A4) (b5 : A5) (b6 : A6) (b7 : A7) (b8 : A8), I b1 b2 b3 b4 b5 b6 b7 b8 → μ b1 b2 b3 b4 b5 b6 b7 b8 < μ a1 a2 a3 a4 a5 a6 a7 a8 → W n b1 b2 b3 b4 b5 b6 b7 b8) → W (n + 1) a1 a2 a3 a4 a5 a6 a7 a8) (a1 : A1) (a2 : A2) (a3 : A3) (a4 : A4) (a5 : A5) (a6 : A6) (a7 : A7) (a8 : A8) (h : I a1 a2 a3 a4 a5 a6 a7 a8) : ∃ n, W n a1 a2 a3 a4 a5 a6 a7 a8 :=
  loop_m (σ := A1 × A2 × A3 × A4 × A5 × A6 × A7 × A8) (fun n s => W n s.1 s.2.1 s.2.2.1 s.2.2.2.1 s.2.2.2.2.1 s.2.2.2.2.2.1 s.2.2.2.2.2.2.1 s.2.2.2.2.2.2.2) (fun s => I s.1 s.2.1 s.2.2.1 s.2.2.2.1 s.2.2.2.2.1 s.2.2.2.2.2.1 s.2.2.2.2.2.2.1 s.2.2.2.2.2.2.2) (fun s => μ s.1 s.2.1 s.2.2.1 s.2.2.2.1 s.2.2.2.2.1 s.2.2.2.2.2.1 s.2.2.2.2.2.2.1 s.2.2.2.2.2.2.2) (fun n s hI hk => hs n s.1 s.2.1 s.2.2.1 s.2.2.2.1 s.2.2.2.2.1 s.2.2.2.2.2.1 s.2.2.2.2.2.2.1 s.2.2.2.2.2.2.2 hI (fun b1 b2 b3 b4 b5 b6 b7 b8 h9 hm => hk (b1, b2, b3, b4, b5, b6, b7, b8) h9 hm)) (a1, a2, a3, a4, a5, a6, a7, a8) h
theorem lp9 {A1 A2 A3 A4 A5 A6 A7 A8 A9 : Type} (W : Nat → A1 → A2 → A3 → A4 → A5 → A6 → A7 → A8 → A9 → Prop) (I : A1 → A2 → A3 → A4 → A5 → A6 → A7 → A8 → A9 → Prop) (μ : A1 → A2 → A3 → A4 → A5 → A6 → A7 → A8 → A9 → Nat) (hs : ∀ (n : Nat) (a1 : A1) (a2 : A2) (a3 : A3) (a4 : A4) (a5 : A5) (a6 : A6) (a7 : A7) (a8 : A8) (a9 : A9), I a1 a2 a3 a4 a5 a6 a7 a8 a9 → (∀ (b1 : A1) (b2 : A2) (b3 : A3) (b4 : A4) (b5 : A5) (b6 : A6) (b7 : A7) (b8 : A8) (b9 : A9), I b1 b2 b3 b4 b5 b6 b7 b8 b9 → μ b1 b2 b3 b4 b5 b6 b7 b8 b9 < μ a1 a2 a3 a4 a5 a6 a7 a8 a9 → W n b1 b2 b3 b4 b5 b6 b7 b8 b9) → W (n + 1) a1 a2 a3 a4 a5 a6 a7 a8 a9) (a1 : A1) (a2 : A2) (a3 : A3) (a4 : A4) (a5 : A5) (a6 : A6) (a7 : A7) (a8 : A8) (a9 : A9) (h : I a1 a2 a3 a4 a5 a6 a7 a8 a9) : ∃ n, W n a1 a2 a3 a4 a5 a6 a7 a8 a9 :=
  loop_m (σ := A1 × A2 × A3 × A4 × A5 × A6 × A7 × A8 × A9) (fun n s => W n s.1 s.2.1 s.2.2.1 s.2.2.2.1 s.2.2.2.2.1 s.2.2.2.2.2.1 s.2.2.2.2.2.2.1 s.2.2.2.2.2.2.2.1 s.2.2.2.2.2.2.2.2) (fun s => I s.1 s.2.1 s.2.2.1 s.2.2.2.1 s.2.2.2.2.1 s.2.2.2.2.2.1 s.2.2.2.2.2.2.1 s.2.2.2.2.2.2.2.1 s.2.2.2.2.2.2.2.2) (fun s => μ s.1 s.2.1 s.2.2.1 s.2.2.2.1 s.2.2.2.2.1 s.2.2.2.2.2.1 s.2.2.2.2.2.2.1 s.2.2.2.2.2.2.2.1 s.2.2.2.2.2.2.2.2) (fun n s hI hk => hs n s.1 s.2.1 s.2.2.1 s.2.2.2.1 s.2.2.2.2.1 s.2.2.2.2.2.1 s.2.2.2.2.2.2.1 s.2.2.2.2.2.2.2.1 s.2.2.2.2.2.2.2.2 hI (fun b1 b2 b3 b4 b5 b6 b7 b8 b9 h9 hm => hk (b1, b2, b3, b4, b5, b6, b7, b8, b9) h9 hm)) (a1, a2, a3, a4, a5, a6, a7, a8, a9) h
theorem lp10 {A1 A2 A3 A4 A5 A6 A7 A8 A9 A10 : Type} (W : Nat → A1 → A2 → A3 → A4 → A5 → A6 → A7 → A8 → A9 → A10 → Prop) (I : A1 → A2 → A3 → A4 → A5 → A6 → A7 → A8 → A9 → A10 → Prop) (μ : A1 → A2 → A3 → A4 → A5 → A6 → A7 → A8 → A9 → A10 → Nat) (hs : ∀ (n : Nat) (a1 : A1) (a2 : A2) (a3 : A3) (a4 : A4) (a5 : A5) (a6 : A6) (a7 : A7) (a8 : A8) (a9 : A9) (a10 : A10), I a1 a2 a3 a4 a5 a6 a7 a8 a9 a10 → (∀ (b1 : A1) (b2 : A2) (b3 : A3) (b4 : A4) (b5 : A5) (b6 : A6) (b7 : A7) (b8 : A8) (b9 : A9) (b10 : A10), I b1 b2 b3 b4 b5 b6 b7 b8 b9 b10 → μ b1 b2 b3 b4 b5 b6 b7 b8 b9 b10 < μ a1 a2 a3 a4 a5 a6 a7 a8 a9 a10 → W n b1 b2 b3 b4 b5 b6 b7 b8 b9 b10) → W (n + 1) a1 a2 a3 a4 a5 a6 a7 a8 a9 a10) (a1 : A1) (a2 : A2) (a3 : A3) (a4 : A4) (a5 : A5) (a6 : A6) (a7 : A7) (a8 : A8) (a9 : A9) (a10 : A10) (h : I a1 a2 a3 a4 a5 a6 a7 a8 a9 a10) : ∃ n, W n a1 a2 a3 a4 a5 a6 a7 a8 a9 a10 :=
  loop_m (σ := A1 × A2 × A3 × A4 × A5 × A6 × A7 × A8 × A9 × A10) (fun n s => W n s.1 s.2.1 s.2.2.1 s.2.2.2.1 s.2.2.2.2.1 s.2.2.2.2.2.1 s.2.2.2.2.2.2.1 s.2.2.2.2.2.2.2.1 s.2.2.2.2.2.2.2.2.1 s.2.2.2.2.2.2.2.2.2) (fun s => I s.1 s.2.1 s.2.2.1 s.2.2.2.1 s.2.2.2.2.1 s.2.2.2.2.2.1 s.2.2.2.2.2.2.1 s.2.2.2.2.2.2.2.1 s.2.2.2.2.2.2.2.2.1 s.2.2.2.2.2.2.2.2.2) (fun s => μ s.1 s.2.1 s.2.2.1 s.2.2.2.1 s.2.2.2.2.1 s.2.2.2.2.2.1 s.2.2.2.2.2.2.1 s.2.2.2.2.2.2.2.1 s.2.2.2.2.2.2.2.2.1 s.2.2.2.2.2.2.2.2.2) (fun n s hI hk => hs n s.1 s.2.1 s.2.2.1 s.2.2.2.1 s.2.2.2.2.1 s.2.2.2.2.2.1 s.2.2.2.2.2.2.1 s.2.2.2.2.2.2.2.1 s.2.2.2.2.2.2.2.2.1 s.2.2.2.2.2.2.2.2.2 hI (fun b1 b2 b3 b4 b5 b6 b7 b8 b9 b10 h9 hm => hk (b1, b2, b3, b4, b5, b6, b7, b8, b9, b10) h9 hm)) (a1, a2, a3, a4, a5, a6, a7, a8, a9, a10) h
theorem lp11 {A1 A2 A3 A4 A5 A6 A7 A8 A9 A10 A11 : Type} (W : Nat → A1 → A2 → A3 → A4 → A5 → A6 → A7 → A8 → A9 → A10 → A11 → Prop) (I : A1 → A2 → A3 → A4 → A5 → A6 → A7 → A8 → A9 → A10 → A11 → Prop) (μ : A1 → A2 → A3 → A4 → A5 → A6 → A7 → A8 → A9 → A10 → A11 → Nat) (hs : ∀ (n : Nat) (a1 : A1) (a2 : A2) (a3 : A3) (a4 : A4) (a5 : A5) (a6 : A6) (a7 : A7) (a8 : A8) (a9 : A9) (a10 : A10) (a11 : A11), I a1 a2 a3 a4 a5 a6 a7 a8 a9 a10 a11 → (∀ (b1 : A1) (b2 : A2) (b3 : A3) (b4 : A4) (b5 : A5) (b6 : A6) (b7 : A7) (b8 : A8) (b9 : A9) (b10 : A10) (b11 : A11), I b1 b2 b3 b4 b5 b6 b7 b8 b9 b10 b11 → μ b1 b2 b3 b4 b5 b6 b7 b8 b9 b10 b11 < μ a1 a2 a3 a4 a5 a6 a7 a8 a9 a10 a11 → W n b1 b2 b3 b4 b5 b6 b7 b8 b9 b10 b11) → W (n + 1) a1 a2 a3 a4 a5 a6 a7 a8 a9 a10 a11) (a1 : A1) (a2 : A2) (a3 : A3) (a4 : A4) (a5 : A5) (a6 : A6) (a7 : A7) (a8 : A8) (a9 : A9) (a10 : A10) (a11 : A11) (h : I a1 a2 a3 a4 a5 a6 a7 a8 a9 a10 a11) : ∃ n, W n a1 a2 a3 a4 a5 a6 a7 a8 a9 a10 a11 :=
  loop_m (σ := A1 × A2 × A3 × A4 × A5 × A6 × A7 × A8 × A9 × A10 × A11) (fun n s => W n s.1 s.2.1 s.2.2.1 s.2.2.2.1 s.2.2.2.2.1 s.2.2.2.2.2.1 s.2.2.2.2.2.2.1 s.2.2.2.2.2.2.2.1 s.2.2.2.2.2.2.2.2.1 s.2.2.2.2.2.2.2.2.2.1 s.2.2.2.2.2.2.2.2.2.2) (fun s => I s.1 s.2.1 s.2.2.1 s.2.2.2.1 s.2.2.2.2.1 s.2.2.2.2.2.1 s.2.2.2.2.2.2.1 s.2.2.2.2.2.2.2.1 s.2.2.2.2.2.2.2.2.1 s.2.2.2.2.2.2.2.2.2.1 s.2.2.2.2.2.2.2.2.2.2) (fun s => μ s.1 s.2.1 s.2.2.1 s.2.2.2.1 s.2.2.2.2.1 s.2.2.2.2.2.1 s.2.2.2.2.2.2.1 s.2.2.2.2.2.2.2.1 s.2.2.2.2.2.2.2.2.1 s.2.2.2.2.2.2.2.2.2.1 s.2.2.2.2.2.2.2.2.2.2) (fun n s hI hk => hs n s.1 s.2.1 s.2.2.1 s.2.2.2.1 s.2.2.2.2.1 s.2.2.2.2.2.1 s.2.2.2.2.2.2.1 s.2.2.2.2.2.2.2.1 s.2.2.2.2.2.2.2.2.1 s.2.2.2.2.2.2.2.2.2.1 s.2.2.2.2.2.2.2.2.2.2 hI (fun b1 b2 b3 b4 b5 b6 b7 b8 b9 b10 b11 h9 hm => hk (b1, b2, b3, b4, b5, b6, b7, b8, b9, b10, b11) h9 hm)) (a1, a2, a3, a4, a5, a6, a7, a8, a9, a10, a11) h
theorem lp12 {A1 A2 A3 A4 A5 A6 A7 A8 A9 A10 A11 A12 : Type} (W : Nat → A1 → A2 → A3 → A4 → A5 → A6 → A7 → A8 → A9 → A10 → A11 → A12 → Prop) (I : A1 → A2 → A3 → A4 → A5 → A6 → A7 → A8 → A9 → A10 → A11 → A12 → Prop) (μ : A1 → A2 → A3 → A4 → A5 → A6 → A7 → A8 → A9 → A10 → A11 → A12 → Nat) (hs : ∀ (n : Nat) (a1 : A1) (a2 : A2) (a3 : A3) (a4 : A4) (a5 : A5) (a6 : A6) (a7 : A7) (a8 : A8) (a9 : A9) (a10 : A10) (a11 : A11) (a12 : A12), I a1 a2 a3 a4 a5 a6 a7 a8 a9 a10 a11 a12 → (∀ (b1 : A1) (b2 : A2) (b3 : A3) (b4 : A4) (b5 : A5) (b6 : A6) (b7 : A7) (b8 : A8) (b9 : A9) (b10 : A10) (b11 : A11) (b12 : A12), I b1 b2 b3 b4 b5 b6 b7 b8 b9 b10 b11 b12 → μ b1 b2 b3 b4 b5 b6 b7 b8 b9 b10 b11 b12 < μ a1 a2 a3 a4 a5 a6 a7 a8 a9 a10 a11 a12 → W n b1 b2 b3 b4 b5 b6 b7 b8 b9 b10 b11 b12) → W (n + 1) a1 a2 a3 a4 a5 a6 a7 a8 a9 a10 a11 a12) (a1 : A1) (a2 : A2) (a3 : A3) (a4 : A4) (a5 : A5) (a6 : A6) (a7 : A7) (a8 : A8) (a9 : A9) (a10 : A10) (a11 : A11) (a12 : A12) (h : I a1 a2 a3 a4 a5 a6 a7 a8 a9 a10 a11 a12) : ∃ n, W n a1 a2 a3 a4 a5 a6 a7 a8 a9 a10 a11 a12 :=
  loop_m (σ := A1 × A2 × A3 × A4 × A5 × A6 × A7 × A8 × A9 × A10 × A11 × A12) (fun n s => W n s.1 s.2.1 s.2.2.1 s.2.2.2.1 s.2.2.2.2.1 s.2.2.2.2.2.1 s.2.2.2.2.2.2.1 s.2.2.2.2.2.2.2.1 s.2.2.2.2.2.2.2.2.1 s.2.2.2.2.2.2.2.2.2.1 s.2.2.2.2.2.2.2.2.2.2.1 s.2.2.2.2.2.2.2.2.2.2.2) (fun s => I s.1 s.2.1 s.2.2.1 s.2.2.2.1 s.2.2.2.2.1 s.2.2.2.2.2.1 s.2.2.2.2.2.2.1 s.2.2.2.2.2.2.2.1 s.2.2.2.2.2.2.2.2.1 s.2.2.2.2.2.2.2.2.2.1 s.2.2.2.2.2.2.2.2.2.2.1 s.2.2.2.2.2.2.2.2.2.2.2) (fun s => μ s.1 s.2.1 s.2.2.1 s.2.2.2.1 s.2.2.2.2.1 s.2.2.2.2.2.1 s.2.2.2.2.2.2.1 s.2.2.2.2.2.2.2.1 s.2.2.2.2.2.2.2.2.1 s.2.2.2.2.2.2.2.2.2.1 s.2.2.2.2.2.2.2.2.2.2.1 s.2.2.2.2.2.2.2.2.2.2.2) (fun n s hI hk => hs n s.1 s.2.1 s.2.2.1 s.2.2.2.1 s.2.2.2.2.1 s.2.2.2.2.2.1 s.2.2.2.2.2.2.1 s.2.2.2.2.2.2.2.1 s.2.2.2.2.2.2.2.2.1 s.2.2.2.2.2.2.2.2.2.1 s.2.2.2.2.2.2.2.2.2.2.1 s.2.2.2.2.2.2.2.2.2.2.2 hI (fun b1 b2 b3 b4 b5 b6 b7 b8 b9 b10 b11 b12 h9 hm => hk (b1, b2, b3, b4, b5, b6, b7, b8, b9, b10, b11, b12) h9 hm)) (a1, a2, a3, a4, a5, a6, a7, a8, a9, a10, a11, a12) h
theorem lp13 {A1 A2 A3 A4 A5 A6 A7 A8 A9 A10 A11 A12 A13 : Type} (W : Nat → A1 → A2 → A3 → A4 → A5 → A6 → A7 → A8 → A9 → A10 → A11 → A12 → A13 → Prop) (I : A1 → A2 → A3 → A4 → A5 → A6 → A7 → A8 → A9 → A10 → A11 → A12 → A13 → Prop) (μ : A1 → A2 → A3 → A4 → A5 → A6 → A7 → A8 → A9 → A10 → A11 → A12 → A13 → Nat) (hs : ∀ (n : Nat) (a1 : A1) (a2 : A2) (a3 : A3) (a4 : A4) (a5 : A5) (a6 : A6) (a7 : A7) (a8 : A8) (a9 : A9) (a10 : A10) (a11 : A11) (a12 : A12) (a13 : A13), I a1 a2 a3 a4 a5 a6 a7 a8 a9 a10 a11 a12 a13 → (∀ (b1 : A1) (b2 : A2) (b3 : A3) (b4 : A4) (b5 : A5) (b6 : A6) (b7 : A7) (b8 : A8) (b9 : A9) (b10 : A10) (b11 : A11) (b12 : A12) (b13 : A13), I b1 b2 b3 b4 b5 b6 b7 b8 b9 b10 b11 b12 b13 → μ b1 b2 b3 b4 b5 b6 b7 b8 b9 b10 b11 b12 b13 < μ a1 a2 a3 a4 a5 a6 a7 a8 a9 a10 a11 a12 a13 → W n b1 b2 b3 b4 b5 b6 b7 b8 b9 b10 b11 b12 b13) → W (n + 1) a1 a2 a3 a4 a5 a6 a7 a8 a9 a10 a11 a12 a13) (a1 : A1) (a2 : A2) (a3 : A3) (a4 : A4) (a5 : A5) (a6 : A6) (a7 : A7) (a8 : A8) (a9 : A9) (a10 : A10) (a11 : A11) (a12 : A12) (a13 : A13) (h : I a1 a2 a3 a4 a5 a6 a7 a8 a9 a10 a11 a12 a13) : ∃ n, W n a1 a2 a3 a4 a5 a6 a7 a8 a9 a10 a11 a12 a13 :=
  loop_m (σ := A1 × A2 × A3 × A4 × A5 × A6 × A7 × A8 × A9 × A10 × A11 × A12 × A13) (fun n s => W n s.1 s.2.1 s.2.2.1 s.2.2.2.1 s.2.2.2.2.1 s.2.2.2.2.2.1 s.2.2.2.2.2.2.1 s.2.2.2.2.2.2.2.1 s.2.2.2.2.2.2.2.2.1 s.2.2.2.2.2.2.2.2.2.1 s.2.2.2.2.2.2.2.2.2.2.1 s.2.2.2.2.2.2.2.2.2.2.2.1 s.2.2.2.2.2.2.2.2.2.2.2.2) (fun s => I s.1 s.2.1 s.2.2.1 s.2.2.2.1 s.2.2.2.2.1 s.2.2.2.2.2.1 s.2.2.2.2.2.2.1 s.2.2.2.2.2.2.2.1 s.2.2.2.2.2.2.2.2.1 s.2.2.2.2.2.2.2.2.2.1 s.2.2.2.2.2.2.2.2.2.2.1 s.2.2.2.2.2.2.2.2.2.2.2.1 s.2.2.2.2.2.2.2.2.2.2.2.2) (fun s => μ s.1 s.2.1 s.2.2.1 s.2.2.2.1 s.2.2.2.2.1 s.2.2.2.2.2.1 s.2.2.2.2.2.2.1 s.2.2.2.2.2.2.2.1 s.2.2.2.2.2.2.2.2.1 s.2.2.2.2.2.2.2.2.2.1 s.2.2.2.2.2.2.2.2.2.2.1 s.2.2.2.2.2.2.2.2.2.2.2.1 s.2.2.2.2.2.2.2.2.2.2.2.2) (fun n s hI hk => hs n s.1 s.2.1 s.2.2.1 s.2.2.2.1 s.2.2.2.2.1 s.2.2.2.2.2.1 s.2.2.2.2.2.2.1 s.2.2.2.2.2.2.2.1 s.2.2.2.2.2.2.2.2.1 s.2.2.2.2.2.2.2.2.2.1 s.2.2.2.2.2.2.2.2.2.2.1 s.2.2.2.2.2.2.2.2.2.2.2.1 s.2.2.2.2.2.2.2.2.2.2.2.2 hI (fun b1 b2 b3 b4 b5 b6 b7 b8 b9 b10 b11 b12 b13 h9 hm => hk (b1, b2, b3, b4, b5, b6, b7, b8, b9, b10, b11, b12, b13) h9 hm)) (a1, a2, a3, a4, a5, a6, a7, a8, a9, a10, a11, a12, a13) h
theorem lp14 {A1 A2 A3 A4 A5 A6 A7 A8 A9 A10 A11 A12 A13 A14 : Type} (W : Nat → A1 → A2 → A3 → A4 → A5 → A6 → A7 → A8 → A9 → A10 → A11 → A12 → A13 → A14 → Prop) (I : A1 → A2 → A3 → A4 → A5 → A6 → A7 → A8 → A9 → A10 → A11 → A12 → A13 → A14 → Prop) (μ : A1 → A2 → A3 → A4 → A5 → A6 → A7 → A8 → A9 → A10 → A11 → A12 → A13 → A14 → Nat) (hs : ∀ (n : Nat) (a1 : A1) (a2 : A2) (a3 : A3) (a4 : A4) (a5 : A5) (a6 : A6) (a7 : A7) (a8 : A8) (a9 : A9) (a10 : A10) (a11 : A11) (a12 : A12) (a13 : A13) (a14 : A14), I a1 a2 a3 a4 a5 a6 a7 a8 a9 a10 a11 a12 a13 a14 → (∀ (b1 : A1) (b2 : A2) (b3 : A3) (b4 : A4) (b5 : A5) (b6 : A6) (b7 : A7) (b8 : A8) (b9 : A9) (b10 : A10) (b11 : A11) (b12 : A12) (b13 : A13) (b14 : A14), I b1 b2 b3 b4 b5 b6 b7 b8 b9 b10 b11 b12 b13 b14 → μ b1 b2 b3 b4 b5 b6 b7 b8 b9 b10 b11 b12 b13 b14 < μ a1 a2 a3 a4 a5 a6 a7 a8 a9 a10 a11 a12 a13 a14 → W n b1 b2 b3 b4 b5 b6 b7 b8 b9 b10 b11 b12 b13 b14) → W (n + 1) a1 a2 a3 a4 a5 a6 a7 a8 a9 a10 a11 a12 a13 a14) (a1 : A1) (a2 : A2) (a3 : A3) (a4 : A4) (a5 : A5) (a6 : A6) (a7 : A7) (a8 : A8) (a9 : A9) (a10 : A10) (a11 : A11) (a12 : A12) (a13 : A13) (a14 : A14) (h : I a1 a2 a3 a4 a5 a6 a7 a8 a9 a10 a11 a12 a13 a14) : ∃ n, W n a1 a2 a3 a4 a5 a6 a7 a8 a9 a10 a11 a12 a13 a14 :=
  loop_m (σ := A1 × A2 × A3 × A4 × A5 × A6 × A7 × A8 × A9 × A10 × A11 × A12 × A13 × A14) (fun n s => W n s.1 s.2.1 s.2.2.1 s.2.2.2.1 s.2.2.2.2.1 s.2.2.2.2.2.1 s.2.2.2.2.2.2.1 s.2.2.2.2.2.2.2.1 s.2.2.2.2.2.2.2.2.1 s.2.2.2.2.2.2.2.2.2.1 s.2.2.2.2.2.2.2.2.2.2.1 s.2.2.2.2.2.2.2.2.2.2.2.1 s.2.2.2.2.2.2.2.2.2.2.2.2.1 s.2.2.2.2.2.2.2.2.2.2.2.2.2) (fun s => I s.1 s.2.1 s.2.2.1 s.2.2.2.1 s.2.2.2.2.1 s.2.2.2.2.2.1 s.2.2.2.2.2.2.1 s.2.2.2.2.2.2.2.1 s.2.2.2.2.2.2.2.2.1 s.2.2.2.2.2.2.2.2.2.1 s.2.2.2.2.2.2.2.2.2.2.1 s.2.2.2.2.2.2.2.2.2.2.2.1 s.2.2.2.2.2.2.2.2.2.2.2.2.1 s.2.2.2.2.2.2.2.2.2.2.2.2.2) (fun s => μ s.1 s.2.1 s.2.2.1 s.2.2.2.1 s.2.2.2.2.1 s.2.2.2.2.2.1 s.2.2.2.2.2.2.1 s.2.2.2.2.2.2.2.1 s.2.2.2.2.2.2.2.2.1 s.2.2.2.2.2.2.2.2.2.1 s.2.2.2.2.2.2.2.2.2.2.1 s.2.2.2.2.2.2.2.2.2.2.2.1 s.2.2.2.2.2.2.2.2.2.2.2.2.1 s.2.2.2.2.2.2.2.2.2.2.2.2.2) (fun n s hI hk => hs n s.1 s.2.1 s.2.2.1 s.2.2.2.1 s.2.2.2.2.1 s.2.2.2.2.2.1 s.2.2.2.2.2.2.1 s.2.2.2.2.2.2.2.1 s.2.2.2.2.2.2.2.2.1 s.2.2.2.2.2.2.2.2.2.1 s.2.2.2.2.2.2.2.2.2.2.1 s.2.2.2.2.2.2.2.2.2.2.2.1 s.2.2.2.2.2.2.2.2.2.2.2.2.1 s.2.2.2.2.2.2.2.2.2.2.2.2.2 hI (fun b1 b2 b3 b4 b5 b6 b7 b8 b9 b10 b11 b12 b13 b14 h9 hm => hk (b1, b2, b3, b4, b5, b6, b7, b8, b9, b10, b11, b12, b13, b14) h9 hm)) (a1, a2, a3, a4, a5, a6, a7, a8, a9, a10, a11, a12, a13, a14) h
theorem lp15 {A1 A2 A3 A4 A5 A6 A7 A8 A9 A10 A11 A12 A13 A14 A15 : Type} (W : Nat → A1 → A2 → A3 → A4 → A5 → A6 → A7 → A8 → A9 → A10 → A11 → A12 → A13 → A14 → A15 → Prop) (I : A1 → A2 → A3 → A4 → A5 → A6 → A7 → A8 → A9 → A10 → A11 → A12 → A13 → A14 → A15 → Prop) (μ : A1 → A2 → A3 → A4 → A5 → A6 → A7 → A8 → A9 → A10 → A11 → A12 → A13 → A14 → A15 → Nat) (hs : ∀ (n : Nat) (a1 : A1) (a2 : A2) (a3 : A3) (a4 : A4) (a5 : A5) (a6 : A6) (a7 : A7) (a8 : A8) (a9 : A9) (a10 : A10) (a11 : A11) (a12 : A12) (a13 : A13) (a14 : A14) (a15 : A15), I a1 a2 a3 a4 a5 a6 a7 a8 a9 a10 a11 a12 a13 a14 a15 → (∀ (b1 : A1) (b2 : A2) (b3 : A3) (b4 : A4) (b5 : A5) (b6 : A6) (b7 : A7) (b8 : A8) (b9 : A9) (b10 : A10) (b11 : A11) (b12 : A12) (b13 : A13) (b14 : A14) (b15 : A15), I b1 b2 b3 b4 b5 b6 b7 b8 b9 b10 b11 b12 b13 b14 b15 → μ b1 b2 b3 b4 b5 b6 b7 b8 b9 b10 b11 b12 b13 b14 b15 < μ a1 a2 a3 a4 a5 a6 a7 a8 a9 a10 a11 a12 a13 a14 a15 → W n b1 b2 b3 b4 b5 b6 b7 b8 b9 b10 b11 b12 b13 b14 b15) → W (n + 1) a1 a2 a3 a4 a5 a6 a7 a8 a9 a10 a11 a12 a13 a14 a15) (a1 : A1) (a2 : A2) (a3 : A3) (a4 : A4) (a5 : A5) (a6 : A6) (a7 : A7) (a8 : A8) (a9 : A9) (a10 : A10) (a11 : A11) (a12 : A12) (a13 : A13) (a14 : A14) (a15 : A15) (h : I a1 a2 a3 a4 a5 a6 a7 a8 a9 a10 a11 a12 a13 a14 a15) : ∃ n, W n a1 a2 a3 a4 a5 a6 a7 a8 a9 a10 a11 a12 a13 a14 a15 :=
  loop_m (σ := A1 × A2 × A3 × A4 × A5 × A6 × A7 × A8 × A9 × A10 × A11 × A12 × A13 × A14 × A15) (fun n s => W n s.1 s.2.1 s.2.2.1 s.2.2.2.1 s.2.2.2.2.1 s.2.2.2.2.2.1 s.2.2.2.2.2.2.1 s.2.2.2.2.2.2.2.1 s.2.2.2.2.2.2.2.2.1 s.2.2.2.2.2.2.2.2.2.1 s.2.2.2.2.2.2.2.2.2.2.1 s.2.2.2.2.2.2.2.2.2.2.2.1 s.2.2.2.2.2.2.2.2.2.2.2.2.1 s.2.2.2.2.2.2.2.2.2.2.2.2.2.1 s.2.2.2.2.2.2.2.2.2.2.2.2.2.2) (fun s => I s.1 s.2.1 s.2.2.1 s.2.2.2.1 s.2.2.2.2.1 s.2.2.2.2.2.1 s.2.2.2.2.2.2.1 s.2.2.2.2.2.2.2.1 s.2.2.2.2.2.2.2.2.1 s.2.2.2.2.2.2.2.2.2.1 s.2.2.2.2.2.2.2.2.2.2.1 s.2.2.2.2.2.2.2.2.2.2.2.1 s.2.2.2.2.2.2.2.2.2.2.2.2.1 s.2.2.2.2.2.2.2.2.2.2.2.2.2.1 s.2.2.2.2.2.2.2.2.2.2.2.2.2.2) (fun s => μ s.1 s.2.1 s.2.2.1 s.2.2.2.1 s.2.2.2.2.1 s.2.2.2.2.2.1 s.2.2.2.2.2.2.1 s.2.2.2.2.2.2.2.1 s.2.2.2.2.2.2.2.2.1 s.2.2.2.2.2.2.2.2.2.1 s.2.2.2.2.2.2.2.2.2.2.1 s.2.2.2.2.2.2.2.2.2.2.2.1 s.2.2.2.2.2.2.2.2.2.2.2.2.1 s.2.2.2.2.2.2.2.2.2.2.2.2.2.1 s.2.2.2.2.2.2.2.2.2.2.2.2.2.2) (fun n s hI hk => hs n s.1 s.2.1 s.2.2.1 s.2.2.2.1 s.2.2.2.2.1 s.2.2.2.2.2.1 s.2.2.2.2.2.2.1 s.2.2.2.2.2.2.2.1 s.2.2.2.2.2.2.2.2.1 s.2.2.2.2.2.2.2.2.2.1 s.2.2.2.2.2.2.2.2.2.2.1 s.2.2.2.2.2.2.2.2.2.2.2.1 s.2.2.2.2.2.2.2.2.2.2.2.2.1 s.2.2.2.2.2.2.2.2.2.2.2.2.2.1 s.2.2.2.2.2.2.2.2.2.2.2.2.2.2 hI (fun b1 b2 b3 b4 b5 b6 b7 b8 b9 b10 b11 b12 b13 b14 b15 h9 hm => hk (b1, b2, b3, b4, b5, b6, b7, b8, b9, b10, b11, b12, b13, b14, b15) h9 hm)) (a1, a2, a3, a4, a5, a6, a7, a8, a9, a10, a11, a12, a13, a14, a15) h
theorem lp16 {A1 A2 A3 A4 A5 A6 A7 A8 A9 A10 A11 A12 A13 A14 A15 A16 : Type} (W : Nat → A1 → A2 → A3 → A4 → A5 → A6 → A7 → A8 → A9 → A10 → A11 → A12 → A13 → A14 → A15 → A16 → Prop) (I : A1 → A2 → A3 → A4 → A5 → A6 → A7 → A8 → A9 → A10 → A11 → A12 → A13 → A14 → A15 → A16 → Prop) (μ : A1 → A2 → A3 → A4 → A5 → A6 → A7 → A8 → A9 → A10 → A11 → A12 → A13 → A14 → A15 → A16 → Nat) (hs : ∀ (n : Nat) (a1 : A1) (a2 : A2) (a3 : A3) (a4 : A4) (a5 : A5) (a6 : A6) (a7 : A7) (a8 : A8) (a9 : A9) (a10 : A10) (a11 : A11) (a12 : A12) (a13 : A13) (a14 : A14) (a15 : A15) (a16 : A16), I a1 a2 a3 a4 a5 a6 a7 a8 a9 a10 a11 a12 a13 a14 a15 a16 → (∀ (b1 : A1) (b2 : A2) (b3 : A3) (b4 : A4) (b5 : A5) (b6 : A6) (b7 : A7) (b8 : A8) (b9 : A9) (b10 : A10) (b11 : A11) (b12 : A12) (b13 : A13) (b14 : A14) (b15 : A15) (b16 : A16), I b1 b2 b3 b4 b5 b6 b7 b8 b9 b10 b11 b12 b13 b14 b15 b16 → μ b1 b2 b3 b4 b5 b6 b7 b8 b9 b10 b11 b12 b13 b14 b15 b16 < μ a1 a2 a3 a4 a5 a6 a7 a8 a9 a10 a11 a12 a13 a14 a15 a16 → W n b1 b2 b3 b4 b5 b6 b7 b8 b9 b10 b11 b12 b13 b14 b15 b16) → W (n + 1) a1 a2 a3 a4 a5 a6 a7 a8 a9 a10 a11 a12 a13 a14 a15 a16) (a1 : A1) (a2 : A2) (a3 : A3) (a4 : A4) (a5 : A5) (a6 : A6) (a7 : A7) (a8 : A8) (a9 : A9) (a10 : A10) (a11 : A11) (a12 : A12) (a13 : A13) (a14 : A14) (a15 : A15) (a16 : A16) (h : I a1 a2 a3 a4 a5 a6 a7 a8 a9 a10 a11 a12 a13 a14 a15 a16) : ∃ n, W n a1 a2 a3 a4 a5 a6 a7 a8 a9 a10 a11 a12 a13 a14 a15 a16 :=
  loop_m (σ := A1 × A2 × A3 × A4 × A5 × A6 × A7 × A8 × A9 × A10 × A11 × A12 × A13 × A14 × A15 × A16) (fun n s => W n s.1 s.2.1 s.2.2.1 s.2.2.2.1 s.2.2.2.2.1 s.2.2.2.2.2.1 s.2.2.2.2.2.2.1 s.2.2.2.2.2.2.2.1 s.2.2.2.2.2.2.2.2.1 s.2.2.2.2.2.2.2.2.2.1 s.2.2.2.2.2.2.2.2.2.2.1 s.2.2.2.2.2.2.2.2.2.2.2.1 s.2.2.2.2.2.2.2.2.2.2.2.2.1 s.2.2.2.2.2.2.2.2.2.2.2.2.2.1 s.2.2.2.2.2.2.2.2.2.2.2.2.2.2.1 s.2.2.2.2.2.2.2.2.2.2.2.2.2.2.2) (fun s => I s.1 s.2.1 s.2.2.1 s.2.2.2.1 s.2.2.2.2.1 s.2.2.2.2.2.1 s.2.2.2.2.2.2.1 s.2.2.2.2.2.2.2.1 s.2.2.2.2.2.2.2.2.1 s.2.2.2.2.2.2.2.2.2.1 s.2.2.2.2.2.2.2.2.2.2.1 s.2.2.2.2.2.2.2.2.2.2.2.1 s.2.2.2.2.2.2.2.2.2.2.2.2.1 s.2.2.2.2.2.2.2.2.2.2.2.2.2.1 s.2.2.2.2.2.2.2.2.2.2.2.2.2.2.1 s.2.2.2.2.2.2.2.2.2.2.2.2.2.2.2) (fun s => μ s.1 s.2.1 s.2.2.1 s.2.2.2.1 s.2.2.2.2.1 s.2.2.2.2.2.1 s.2.2.2.2.2.2.1 s.2.2.2.2.2.2.2.1 s.2.2.2.2.2.2.2.2.1 s.2.2.2.2.2.2.2.2.2.1 s.2.2.2.2.2.2.2.2.2.2.1 s.2.2.2.2.2.2.2.2.2.2.2.1 s.2.2.2.2.2.2.2.2.2.2.2.2.1 s.2.2.2.2.2.2.2.2.2.2.2.2.2.1 s.2.2.2.2.2.2.2.2.2.2.2.2.2.2.1 s.2.2.2.2.2.2.2.2.2.2.2.2.2.2.2) (fun n s hI hk => hs n s.1 s.2.1 s.2.2.1 s.2.2.2.1 s.2.2.2.2.1 s.2.2.2.2.2.1 s.2.2.2.2.2.2.1 s.2.2.2.2.2.2.2.1 s.2.2.2.2.2.2.2.2.1 s.2.2.2.2.2.2.2.2.2.1 s.2.2.2.2.2.2.2.2.2.2.1 s.2.2.2.2.2.2.2.2.2.2.2.1 s.2.2.2.2.2.2.2.2.2.2.2.2.1 s.2.2.2.2.2.2.2.2.2.2.2.2.2.1 s.2.2.2.2.2.2.2.2.2.2.2.2.2.2.1 s.2.2.2.2.2.2.2.2.2.2.2.2.2.2.2 hI (fun b1 b2 b3 b4 b5 b6 b7 b8 b9 b10 b11 b12 b13 b14 b15 b16 h9 hm => hk (b1, b2, b3, b4, b5, b6, b7, b8, b9, b10, b11, b12, b13, b14, b15, b16) h9 hm)) (a1, a2, a3, a4, a5, a6, a7, a8, a9, a10, a11, a12, a13, a14, a15, a16) h
theorem pk_least (P : Nat → Prop) (h : ∃ k, P k) : ∃ k, P k ∧ ∀ j, j < k → ¬ P j := by
  obtain ⟨k, hk⟩ := h
  induction k using Nat.strongRecOn with
  | ind k ih =>
    by_cases e : ∃ j, j < k ∧ P j
    · obtain ⟨j, hj, pj⟩ := e
      exact ih j hj pj
    · exact ⟨k, hk, fun j hj pj => e ⟨j, hj, pj⟩⟩
theorem rp1 {ρ A1 : Type} (W : Nat → (ρ → Prop) → A1 → Prop) (ok : A1 → Prop) (μ : A1 → Nat) (val : A1 → ρ)
    (hs : ∀ (d : Nat) (post : ρ → Prop) (a1 : A1), ok a1 → post (val a1) → (∀ (post' : ρ → Prop) (b1 : A1), ok b1 → μ b1 < μ a1 → post' (val b1) → W d post' b1) → W (d + 1) post a1) :
    ∀ (d : Nat) (post : ρ → Prop) (a1 : A1), ok a1 → μ a1 < d → post (val a1) → W d post a1 := by
  intro d
  induction d with
  | zero => intro post a1 _ h; omega
  | succ d ih =>
    intro post a1 ho hm hp
    exact hs d post a1 ho hp (fun post' b1 ho' hm' hp' => ih post' b1 ho' (by omega) hp')
theorem rp2 {ρ A1 A2 : Type} (W : Nat → (ρ → Prop) → A1 → A2 → Prop) (ok : A1 → A2 → Prop) (μ : A1 → A2 → Nat) (val : A1 → A2 → ρ)
    (hs : ∀ (d : Nat) (post : ρ → Prop) (a1 : A1) (a2 : A2), ok a1 a2 → post (val a1 a2) → (∀ (post' : ρ → Prop) (b1 : A1) (b2 : A2), ok b1 b2 → μ b1 b2 < μ a1 a2 → post' (val b1 b2) → W d post' b1 b2) → W (d + 1) post a1 a2) :
    ∀ (d : Nat) (post : ρ → Prop) (a1 : A1) (a2 : A2), ok a1 a2 → μ a1 a2 < d → post (val a1 a2) → W d post a1 a2 := by
  intro d
  induction d with
  | zero => intro post a1 a2 _ h; omega
  | succ d ih =>
    intro post a1 a2 ho hm hp
    exact hs d post a1 a2 ho hp (fun post' b1 b2 ho' hm' hp' => ih post' b1 b2 ho' (by omega) hp')
theorem rp3 {ρ A1 A2 A3 : Type} (W : Nat → (ρ → Prop) → A1 → A2 → A3 → Prop) (ok : A1 → A2 → A3 → Prop) (μ : A1 → A2 → A3 → Nat) (val : A1 → A2 → A3 → ρ)
    (hs : ∀ (d : Nat) (post : ρ → Prop) (a1 : A1) (a2 : A2) (a3 : A3), ok a1 a2 a3 → post (val a1 a2 a3) → (∀ (post' : ρ → Prop) (b1 : A1) (b2 : A2) (b3 : A3), ok b1 b2 b3 → μ b1 b2 b3 < μ a1 a2 a3 → post' (val b1 b2 b3) → W d post' b1 b2 b3) → W (d + 1) post a1 a2 a3) :
    ∀ (d : Nat) (post : ρ → Prop) (a1 : A1) (a2 : A2) (a3 : A3), ok a1 a2 a3 → μ a1 a2 a3 < d → post (val a1 a2 a3) → W d post a1 a2 a3 := by
  intro d
  induction d with
  | zero => intro post a1 a2 a3 _ h; omega
  | succ d ih =>
    intro post a1 a2 a3 ho hm hp
    exact hs d post a1 a2 a3 ho hp (fun post' b1 b2 b3 ho' hm' hp' => ih post' b1 b2 b3 ho' (by omega) hp')
theorem rp4 {ρ A1 A2 A3 A4 : Type} (W : Nat → (ρ → Prop) → A1 → A2 → A3 → A4 → Prop) (ok : A1 → A2 → A3 → A4 → Prop) (μ : A1 → A2 → A3 → A4 → Nat) (val : A1 → A2 → A3 → A4 → ρ)
    (hs : ∀ (d : Nat) (post : ρ → Prop) (a1 : A1) (a2 : A2) (a3 : A3) (a4 : A4), ok a1 a2 a3 a4 → post (val a1 a2 a3 a4) → (∀ (post' : ρ → Prop) (b1 : A1) (b2 : A2) (b3 : A3) (b4 : A4), ok b1 b2 b3 b4 → μ b1 b2 b3 b4 < μ a1 a2 a3 a4 → post' (val b1 b2 b3 b4) → W d post' b1 b2 b3 b4) → W (d + 1) post a1 a2 a3 a4) :
    ∀ (d : Nat) (post : ρ → Prop) (a1 : A1) (a2 : A2) (a3 : A3) (a4 : A4), ok a1 a2 a3 a4 → μ a1 a2 a3 a4 < d → post (val a1 a2 a3 a4) → W d post a1 a2 a3 a4 := by
  intro d
  induction d with
  | zero => intro post a1 a2 a3 a4 _ h; omega
  | succ d ih =>
    intro post a1 a2 a3 a4 ho hm hp
    exact hs d post a1 a2 a3 a4 ho hp (fun post' b1 b2 b3 b4 ho' hm' hp' => ih post' b1 b2 b3 b4 ho' (by omega) hp')
theorem rp5 {ρ A1 A2 A3 A4 A5 : Type} (W : Nat → (ρ → Prop) → A1 → A2 → A3 → A4 → A5 → Prop) (ok : A1 → A2 → A3 → A4 → A5 → Prop) (μ : A1 → A2 → A3 → A4 → A5 → Nat) (val : A1 → A2 → A3 → A4 → A5 → ρ)
    (hs : ∀ (d : Nat) (post : ρ → Prop) (a1 : A1) (a2 : A2) (a3 : A3) (a4 : A4) (a5 : A5), ok a1 a2 a3 a4 a5 → post (val a1 a2 a3 a4 a5) → (∀ (post' : ρ → Prop) (b1 : A1) (b2 : A2) (b3 : A3) (b4 : A4) (b5 : A5), ok b1 b2 b3 b4 b5 → μ b1 b2 b3 b4 b5 < μ a1 a2 a3 a4 a5 → post' (val b1 b2 b3 b4 b5) → W d post' b1 b2 b3 b4 b5) → W (d + 1) post a1 a2 a3 a4 a5) :
    ∀ (d : Nat) (post : ρ → Prop) (a1 : A1) (a2 : A2) (a3 : A3) (a4 : A4) (a5 : A5), ok a1 a2 a3 a4 a5 → μ a1 a2 a3 a4 a5 < d → post (val a1 a2 a3 a4 a5) → W d post a1 a2 a3 a4 a5 := by
  intro d
  induction d with
  | zero => intro post a1 a2 a3 a4 a5 _ h; omega
  | succ d ih =>
    intro post a1 a2 a3 a4 a5 ho hm hp
    exact hs d post a1 a2 a3 a4 a5 ho hp (fun post' b1 b2 b3 b4 b5 ho' hm' hp' => ih post' b1 b2 b3 b4 b5 ho' (by omega) hp')
theorem rp6 {ρ A1 A2 A3 A4 A5 A6 : Type} (W : Nat → (ρ → Prop) → A1 → A2 → A3 → A4 → A5 → A6 → Prop) (ok : A1 → A2 → A3 → A4 → A5 → A6 → Prop) (μ : A1 → A2 → A3 → A4 → A5 → A6 → Nat) (val : A1 → A2 → A3 → A4 → A5 → A6 → ρ)
    (hs : ∀ (d : Nat) (post : ρ → Prop) (a1 : A1) (a2 : A2) (a3 : A3) (a4 : A4) (a5 : A5) (a6 : A6), ok a1 a2 a3 a4 a5 a6 → post (val a1 a2 a3 a4 a5 a6) → (∀ (post' : ρ → Prop) (b1 : A1) (b2 : A2) (b3 : A3) (b4 : A4) (b5 : A5) (b6 : A6), ok b1 b2 b3 b4 b5 b6 → μ b1 b2 b3 b4 b5 b6 < μ a1 a2 a3 a4 a5 a6 → post' (val b1 b2 b3 b4 b5 b6) → W d post' b1 b2 b3 b4 b5 b6) → W (d + 1) post a1 a2 a3 a4 a5 a6) :
    ∀ (d : Nat) (post : ρ → Prop) (a1 : A1) (a2 : A2) (a3 : A3) (a4 : A4) (a5 : A5) (a6 : A6), ok a1 a2 a3 a4 a5 a6 → μ a1 a2 a3 a4 a5 a6 < d → post (val a1 a2 a3 a4 a5 a6) → W d post a1 a2 a3 a4 a5 a6 := by
  intro d
  induction d with
  | zero => intro post a1 a2 a3 a4 a5 a6 _ h; omega
  | succ d ih =>
    intro post a1 a2 a3 a4 a5 a6 ho hm hp
    exact hs d post a1 a2 a3 a4 a5 a6 ho hp (fun post' b1 b2 b3 b4 b5 b6 ho' hm' hp' => ih post' b1 b2 b3 b4 b5 b6 ho' (by omega) hp')
theorem rec_p {σ ρ : Type} (W : Nat → (ρ → Prop) → σ → Prop) (ok : σ → Prop) (μ : σ → Nat) (val : σ → ρ)
    (hs : ∀ d s post, ok s → post (val s) → (∀ s' post', ok s' → μ s' < μ s → post' (val s') → W d post' s') → W (d + 1) post s) :
    ∀ d s post, ok s → μ s < d → post (val s) → W d post s := by
  intro d
  induction d with
  | zero => intro s post _ h; omega
  | succ d ih =>
    intro s post ho hm hp
    exact hs d s post ho hp (fun s' post' ho' hm' hp' => ih s' post' ho' (by omega) hp')
theorem rec_q {σ ρ : Type} (W : Nat → (ρ → Prop) → σ → Prop) (ok : σ → Prop) (μ : σ → Nat) (Q : σ → ρ → Prop)
    (hs : ∀ d s post, ok s → (∀ r, Q s r → post r) → (∀ s' post', ok s' → μ s' < μ s → (∀ r, Q s' r → post' r) → W d post' s') → W (d + 1) post s) :
    ∀ d s post, ok s → μ s < d → (∀ r, Q s r → post r) → W d post s := by
  intro d
  induction d with
  | zero => intro s post _ h; omega
  | succ d ih =>
    intro s post ho hm hp
    exact hs d s post ho hp (fun s' post' ho' hm' hp' => ih s' post' ho' (by omega) hp')
def bx_sum (f : Nat → Int32) : Nat → Int32
  | 0 => 0
  | n + 1 => bx_sum f n + f n
theorem ek_u {A : Prop} {B : Nat → Prop} {k N : Nat} (hk : k < N) (h : B k) : (some k = none → A) ∧ (∀ y : Nat, some k = some y → (y < N ∧ B y)) :=
  ⟨fun z => absurd z (Option.some_ne_none k), fun _ e => (by cases e; exact ⟨hk, h⟩)⟩
theorem ek_nu {A : Prop} {B : Nat → Prop} (h : A) : ((none : Option Nat) = none → A) ∧ (∀ y : Nat, (none : Option Nat) = some y → B y) :=
  ⟨fun _ => h, fun _ e => (by cases e)⟩
theorem ek_if {c d A B : Prop} (e : c ↔ d) (f : d → A) (g : ¬ d → B) : (c → A) ∧ (¬ c → B) :=
  ⟨fun z => f (e.mp z), fun z => g (fun y => z (e.mpr y))⟩
theorem ek_v {α : Sort _} {P : α → Prop} {a b : α} (e : a = b) (h : P b) : P a := e ▸ h
theorem co_some {x : Option Nat} {A : Prop} {B : Nat → Prop} (i : Nat) (h : B i) (hx : x = some i := by rfl) : (x = none → A) ∧ (∀ y : Nat, x = some y → B y) := by
  subst hx
  exact ⟨fun e => (nomatch e), fun y e => Option.some.inj e ▸ h⟩
theorem co_none {x : Option Nat} {A : Prop} {B : Nat → Prop} (h : A) (hx : x = none := by rfl) : (x = none → A) ∧ (∀ y : Nat, x = some y → B y) := by
  subst hx
  exact ⟨fun _ => h, fun y e => (nomatch e)⟩
theorem co_any {x : Option Nat} {A : Prop} {B : Nat → Prop} (hn : x = none → A) (hs : ∀ i : Nat, x = some i → B i) : (x = none → A) ∧ (∀ y : Nat, x = some y → B y) := ⟨hn, hs⟩
theorem co_2 {P : Nat → Prop} (h0 : P 0) (h1 : P 1) {i : Nat} (hi : i < 2) : P i :=
  match i, hi with
  | 0, _ => h0
  | 1, _ => h1
theorem co_3 {P : Nat → Prop} (h0 : P 0) (h1 : P 1) (h2 : P 2) {i : Nat} (hi : i < 3) : P i :=
  match i, hi with
  | 0, _ => h0
  | 1, _ => h1
  | 2, _ => h2
theorem co_4 {P : Nat → Prop} (h0 : P 0) (h1 : P 1) (h2 : P 2) (h3 : P 3) {i : Nat} (hi : i < 4) : P i :=
  match i, hi with
  | 0, _ => h0
  | 1, _ => h1
  | 2, _ => h2
  | 3, _ => h3
theorem co_dec {N : Nat} {P : Nat → Prop} [DecidablePred P] (h : (List.range N).all (fun i => decide (P i)) = true) {i : Nat} (hi : i < N) : P i := by
  have := List.all_eq_true.mp h i (List.mem_range.mpr hi)
  exact of_decide_eq_true this
theorem co_tab {α : Type} {l : List α} {d : α} {P : α → Prop} (h : ∀ a, a ∈ l → P a) {i : Nat} (hi : i < l.length) : P (l.getD i d) := by
  rw [List.getD_eq_getElem?_getD, List.getElem?_eq_getElem hi]
  exact h _ (List.getElem_mem hi)
theorem pk_mu {x : Int32} {L : Nat} (h0 : ¬ x < 0) (h : ¬ nI L ≤ x) (hL : L < 2 ^ 31) : ∃ j : Nat, j < L ∧ x = nI j ∧ x + 1 = nI (j + 1) ∧ x.toNatClampNeg = j ∧ L - (x + 1).toNatClampNeg < L - x.toNatClampNeg := by
  obtain ⟨j, hj, rfl⟩ := nI_of h0
  have hl : j < L := Nat.not_le.mp fun q => h (nI_le q hj)
  refine ⟨j, hl, rfl, nI_1 j, nI_clamp hj, ?_⟩
  rw [nI_1, nI_clamp (by omega), nI_clamp hj]
  omega
theorem op_s {α : Type} {r : Option α} {A : Prop} {B : α → Prop} {y : α} (h : r = some y) (b : B y) : (r = none → A) ∧ ∀ z, r = some z → B z :=
  ⟨fun e => (by rw [h] at e; cases e), fun z e => (by rw [h] at e; cases e; exact b)⟩
def l_holds {α : Type} (a : Nat → Option Nat) (LP : List Nat) (p : Nat → α) (c : Nat) (b : Nat → α) : Prop :=
  ∀ j, j < c → ∃ y, a j = some y ∧ y ∈ LP ∧ p y = b j
theorem l_holds_0 {α : Type} {a : Nat → Option Nat} {LP : List Nat} {p b : Nat → α} : l_holds a LP p 0 b := fun j h => absurd h (Nat.not_lt_zero j)
theorem l_in_new (LP : List Nat) (q : Nat) : q ∈ LP ++ [q] := List.mem_append.mpr (Or.inr (List.mem_singleton.mpr rfl))
def l_sum (b : Nat → Int32) : Nat → Int32
  | 0 => 0
  | k + 1 => l_sum b k + b k
theorem sb_shr0 (x : Int32) : x >>> ((0 : Int32) &&& 31) = x := by
  rw [show ((0 : Int32) &&& 31) = 0 by decide]
  simp
theorem sb_shl0 (x : Int32) : x <<< ((0 : Int32) &&& 31) = x := by
  rw [show ((0 : Int32) &&& 31) = 0 by decide]
  simp
theorem sb_cl0 : (0 : Int32).toNatClampNeg = 0 := by decide
theorem sb_m1 {p : Nat} (h : 0 < p) : nI p + (-1) = nI (p - 1) := by
  obtain ⟨q, rfl⟩ : ∃ q, p = q + 1 := ⟨p - 1, by omega⟩
  exact pk_m1 q
def sb_b (c : Nat) : Int32 := (nI c).toInt8.toInt32
theorem sb_byte : ∀ c, c < 256 → sb_b c &&& 255 = nI c ∧ ((nI c).toUInt32 % 65536).toInt32 = nI c ∧ nI c ≤ 255 := by decide +kernel
def sb_Fit (a : Nat → Int32) : Prop := ∀ j, fits .byte (.int (a j)) = true
def sb_Lat (t : Nat → Nat) (n : Nat) (a : Nat → Int32) : Prop := ∀ j, j < n → t j < 256 ∧ a j = sb_b (t j)
theorem sb_fitB (c : Nat) : fits .byte (.int (sb_b c)) = true := pk_fb _
theorem sb_fit0 : sb_Fit (fun _ => 0) := fun _ => by
  show fits .byte (.int 0) = true
  decide
theorem sb_fitU {a : Nat → Int32} {k : Nat} {x : Int32} (h : sb_Fit a) (hx : fits .byte (.int x) = true) : sb_Fit (upd a k x) := by
  intro j
  by_cases e : j = k
  · subst e
    rw [pk_us]
    exact hx
  · rw [pk_un e]
    exact h j
def sb_cat (t : Nat → Nat) (n : Nat) (s : Nat → Nat) : Nat → Nat := fun j => if j < n then t j else s (j - n)
theorem sb_cat_lo {t s : Nat → Nat} {n j : Nat} (h : j < n) : sb_cat t n s j = t j := if_pos h
theorem sb_cat_hi {t s : Nat → Nat} {n j : Nat} : sb_cat t n s (n + j) = s j := by
  show (if n + j < n then t (n + j) else s (n + j - n)) = s j
  rw [if_neg (by omega), Nat.add_sub_cancel_left]
theorem sb_latPut {t s : Nat → Nat} {n w : Nat} {a a' : Nat → Int32} (h : sb_Lat t n a) (hk : ∀ j, j < n → a' j = a j) (hs : ∀ i, i < w → s i < 256 ∧ a' (n + i) = sb_b (s i)) : sb_Lat (sb_cat t n s) (n + w) a' := by
  intro j hj
  by_cases e : j < n
  · rw [sb_cat_lo e, hk j e]
    exact h j e
  · obtain ⟨i, rfl⟩ : ∃ i, j = n + i := ⟨j - n, by omega⟩
    rw [sb_cat_hi]
    exact hs i (by omega)
theorem sb_latKeep {t : Nat → Nat} {n : Nat} {a a' : Nat → Int32} (h : sb_Lat t n a) (hk : ∀ j, j < n → a' j = a j) : sb_Lat t n a' := fun j hj => by
  rw [hk j hj]
  exact h j hj
def sb_cap (q m : Nat) : Nat := if q ≤ m then m else if 2 * m + 2 < q then q else 2 * m + 2
def sb_Room (q m mc ms : Nat) : Prop := q ≤ m ∨ (1 ≤ mc ∧ sb_cap q m ≤ ms ∧ sb_cap q m ≤ 65536)
theorem sb_cap_ge (q m : Nat) : q ≤ sb_cap q m := by
  unfold sb_cap
  split
  · omega
  · split <;> omega
theorem sb_cap_gem (q m : Nat) : m ≤ sb_cap q m := by
  unfold sb_cap
  split
  · omega
  · split <;> omega
theorem sb_cap_le {q m mc ms : Nat} (hm : m ≤ 65536) (hr : sb_Room q m mc ms) : sb_cap q m ≤ 65536 := by
  rcases hr with h | h
  · rw [sb_cap, if_pos h]
    exact hm
  · exact h.2.2
theorem sb_at {P : Int32 → Prop} {x y : Int32} (e : x = y) (h : P y) : P x := e ▸ h
def sb_dg (w : Nat) : Nat := if w < 10 then 1 else if w < 100 then 2 else if w < 1000 then 3 else if w < 10000 then 4 else if w < 100000 then 5 else if w < 1000000 then 6 else if w < 10000000 then 7 else if w < 100000000 then 8 else if w < 1000000000 then 9 else 10
def sb_dec (v : Nat) : Nat → Nat := fun i => 48 + v / 10 ^ (sb_dg v - 1 - i) % 10
theorem sb_dg_in (w : Nat) : 1 ≤ sb_dg w ∧ sb_dg w ≤ 10 := by
  unfold sb_dg
  constructor <;> (repeat' split) <;> omega
theorem sb_dg100 {w : Nat} (h : 100 ≤ w) (hw : w < 2 ^ 31) : sb_dg w = sb_dg (w / 100) + 2 := by
  rw [sb_dg, sb_dg, if_neg (show ¬ w < 10 by omega), if_neg (show ¬ w < 100 by omega)]
  by_cases h3 : w < 1000
  · rw [if_pos h3, if_pos (show w / 100 < 10 by omega)]
  rw [if_neg h3, if_neg (show ¬ w / 100 < 10 by omega)]
  by_cases h4 : w < 10000
  · rw [if_pos h4, if_pos (show w / 100 < 100 by omega)]
  rw [if_neg h4, if_neg (show ¬ w / 100 < 100 by omega)]
  by_cases h5 : w < 100000
  · rw [if_pos h5, if_pos (show w / 100 < 1000 by omega)]
  rw [if_neg h5, if_neg (show ¬ w / 100 < 1000 by omega)]
  by_cases h6 : w < 1000000
  · rw [if_pos h6, if_pos (show w / 100 < 10000 by omega)]
  rw [if_neg h6, if_neg (show ¬ w / 100 < 10000 by omega)]
  by_cases h7 : w < 10000000
  · rw [if_pos h7, if_pos (show w / 100 < 100000 by omega)]
  rw [if_neg h7, if_neg (show ¬ w / 100 < 100000 by omega)]
  by_cases h8 : w < 100000000
  · rw [if_pos h8, if_pos (show w / 100 < 1000000 by omega)]
  rw [if_neg h8, if_neg (show ¬ w / 100 < 1000000 by omega)]
  by_cases h9 : w < 1000000000
  · rw [if_pos h9, if_pos (show w / 100 < 10000000 by omega)]
  rw [if_neg h9, if_neg (show ¬ w / 100 < 10000000 by omega)]
  rw [if_pos (show w / 100 < 100000000 by omega)]
theorem sb_negT {w : Nat} (h : w < 2 ^ 31) : (-nI w).toInt = -(w : Int) := by
  rw [Int32.toInt_neg, nI_toInt h]
  exact Int.bmod_eq_of_le (by omega) (by omega)
theorem sb_nle {a b : Nat} (ha : a < 2 ^ 31) (hb : b < 2 ^ 31) : -nI a ≤ -nI b ↔ b ≤ a := by
  rw [Int32.le_iff_toInt_le, sb_negT ha, sb_negT hb]
  omega
theorem sb_nlt {a b : Nat} (ha : a < 2 ^ 31) (hb : b < 2 ^ 31) : -nI a < -nI b ↔ b < a := by
  rw [Int32.lt_iff_toInt_lt, sb_negT ha, sb_negT hb]
  omega
theorem sb_cmp {A B : Prop} {x : Int32} (v c : Nat) (f : c ≤ v → A) (g : v < c → B) (hv : v < 2 ^ 31) (hx : x = -nI c := by rfl) (hc : c < 2 ^ 31 := by omega) : (-nI v ≤ x → A) ∧ (¬ -nI v ≤ x → B) := by
  subst hx
  rw [sb_nle hv hc]
  exact ⟨f, fun z => g (by omega)⟩
theorem sb_ndiv {w : Nat} (hw : w < 2 ^ 31) : (-nI w) / 100 = -nI (w / 100) := by
  apply Int32.toInt_inj.mp
  have h100 : (100 : Int32).toInt = 100 := by decide
  rw [Int32.toInt_div, sb_negT hw, h100, sb_negT (by omega), Int.neg_tdiv, Int.tdiv_eq_ediv_of_nonneg (by omega), Int.bmod_eq_of_le (by omega) (by omega)]
  omega
theorem sb_nrem {w : Nat} (hw : w < 2 ^ 31) : (-nI (w / 100)) * 100 - (-nI w) = nI (w % 100) := by
  have h := pk_rem (a := w) (d := 100) hw (by decide) (by decide)
  rw [pk_div hw (by decide) (by decide)] at h
  rw [← h]
  show (-nI (w / 100)) * nI 100 - (-nI w) = nI w - nI (w / 100) * nI 100
  rw [Int32.neg_mul, Int32.sub_neg, Int32.add_comm, ← Int32.sub_eq_add_neg]
end
section
/-! rows on bits, shifts and unsigned numbers, to paste: each family out of a closed proof of our own, whole with what it rests on; each by itself clean at Lean in its own claim (generation 39, form 5). Take a family whole -/
/-! ===== Int32 by its bits: bt x i ===== -/
def bt (x : Int32) (i : Nat) : Bool := x.toBitVec.getLsbD i
theorem b_ext {x y : Int32} (h : ∀ i, i < 32 → bt x i = bt y i) : x = y := Int32.toBitVec_inj.mp (BitVec.eq_of_getLsbD_eq (fun i hi => h i hi))
theorem b_or (x y : Int32) (i : Nat) : bt (x ||| y) i = (bt x i || bt y i) := by unfold bt; rw [Int32.toBitVec_or, BitVec.getLsbD_or]
theorem b_and (x y : Int32) (i : Nat) : bt (x &&& y) i = (bt x i && bt y i) := by unfold bt; rw [Int32.toBitVec_and, BitVec.getLsbD_and]
theorem b_xor (x y : Int32) (i : Nat) : bt (x ^^^ y) i = (bt x i ^^ bt y i) := by unfold bt; rw [Int32.toBitVec_xor, BitVec.getLsbD_xor]
theorem b_big {x : Int32} {i : Nat} (h : 32 ≤ i) : bt x i = false := BitVec.getLsbD_of_ge _ _ h
theorem b_255 (i : Nat) : bt 255 i = decide (i < 8) := by
  rcases Nat.lt_or_ge i 32 with h | h
  · exact (by decide +kernel : ∀ i, i < 32 → bt 255 i = decide (i < 8)) i h
  · rw [b_big h, decide_eq_false (by omega)]
theorem b_65535 (i : Nat) : bt 65535 i = decide (i < 16) := by
  rcases Nat.lt_or_ge i 32 with h | h
  · exact (by decide +kernel : ∀ i, i < 32 → bt 65535 i = decide (i < 16)) i h
  · rw [b_big h, decide_eq_false (by omega)]
theorem b_m1 : ∀ i, i < 32 → bt (-1) i = true := by decide +kernel
theorem b_0 (i : Nat) : bt 0 i = false := BitVec.getLsbD_zero
theorem s_l : ∀ n, n < 32 → ((nI n &&& 31).toBitVec.smod 32).toNat = n := by decide +kernel
theorem s_u : ∀ n, n < 32 → (((nI n).toUInt32 &&& Int32.toUInt32 31).toBitVec % 32).toNat = n := by decide +kernel
theorem b_shl (n : Nat) (hn : n < 32) (x : Int32) {i : Nat} (hi : i < 32) : bt (x <<< (nI n &&& 31)) i = (decide (n ≤ i) && bt x (i - n)) := by
  unfold bt
  rw [Int32.toBitVec_shiftLeft]
  show (x.toBitVec <<< ((nI n &&& 31).toBitVec.smod 32).toNat).getLsbD i = _
  rw [s_l n hn, BitVec.getLsbD_shiftLeft]
  rcases Nat.lt_or_ge i n with h | h
  · simp [h, Nat.not_le.mpr h]
  · simp [hi, h, Nat.not_lt.mpr h]
theorem b_ushr (n : Nat) (hn : n < 32) (x : Int32) (i : Nat) : bt ((x.toUInt32 >>> ((nI n).toUInt32 &&& Int32.toUInt32 31)).toInt32) i = bt x (n + i) := by
  show (x.toUInt32 >>> ((nI n).toUInt32 &&& Int32.toUInt32 31)).toBitVec.getLsbD i = x.toUInt32.toBitVec.getLsbD (n + i)
  rw [UInt32.toBitVec_shiftRight]
  show (x.toUInt32.toBitVec >>> (((nI n).toUInt32 &&& Int32.toUInt32 31).toBitVec % 32).toNat).getLsbD i = _
  rw [s_u n hn, BitVec.getLsbD_ushiftRight]
theorem b_sshr (n : Nat) (hn : n < 32) (x : Int32) {i : Nat} (hi : i < 32) : bt (x >>> (nI n &&& 31)) i = if n + i < 32 then bt x (n + i) else bt x 31 := by
  unfold bt
  rw [Int32.toBitVec_shiftRight]
  show (x.toBitVec.sshiftRight ((nI n &&& 31).toBitVec.smod 32).toNat).getLsbD i = _
  rw [s_l n hn, BitVec.getLsbD_sshiftRight, BitVec.msb_eq_getLsbD_last]
  simp [hi]
theorem b_shl8 (x : Int32) {i : Nat} (hi : i < 32) : bt (x <<< ((8 : Int32) &&& 31)) i = (decide (8 ≤ i) && bt x (i - 8)) := b_shl 8 (by omega) x hi
theorem b_shl16 (x : Int32) {i : Nat} (hi : i < 32) : bt (x <<< ((16 : Int32) &&& 31)) i = (decide (16 ≤ i) && bt x (i - 16)) := b_shl 16 (by omega) x hi
theorem b_shl24 (x : Int32) {i : Nat} (hi : i < 32) : bt (x <<< ((24 : Int32) &&& 31)) i = (decide (24 ≤ i) && bt x (i - 24)) := b_shl 24 (by omega) x hi
theorem b_sshr8 (x : Int32) {i : Nat} (hi : i < 32) : bt (x >>> ((8 : Int32) &&& 31)) i = if 8 + i < 32 then bt x (8 + i) else bt x 31 := b_sshr 8 (by omega) x hi
end
section
/-! words: lists of letters, their numbers; truth values as ints; bits -/
theorem rx_sind {P : List Bool → Prop} (h0 : P []) (hs : ∀ l b, P l → P (l ++ [b])) : ∀ l, P l := by
  intro l
  have key : ∀ r : List Bool, P r.reverse := by
    intro r
    induction r with
    | nil => exact h0
    | cons b r ih => rw [List.reverse_cons]; exact hs _ _ ih
  have h := key l.reverse
  rwa [List.reverse_reverse] at h
def rx_h (l : List Bool) : Nat := l.foldl (fun w b => 2 * w + b.toNat) 1
theorem rx_h_nil : rx_h [] = 1 := rfl
theorem rx_h_snoc (l : List Bool) (b : Bool) : rx_h (l ++ [b]) = 2 * rx_h l + b.toNat := by
  unfold rx_h
  rw [List.foldl_append]
  rfl
theorem rx_bl (b : Bool) : b.toNat ≤ 1 := by cases b <;> decide
theorem rx_h_rng (l : List Bool) : 2 ^ l.length ≤ rx_h l ∧ rx_h l < 2 ^ (l.length + 1) := by
  refine rx_sind (P := fun l => 2 ^ l.length ≤ rx_h l ∧ rx_h l < 2 ^ (l.length + 1)) ?_ ?_ l
  · show 2 ^ 0 ≤ 1 ∧ 1 < 2 ^ 1
    decide
  · intro l b ih
    have h1 : 2 ^ l.length ≤ rx_h l := ih.1
    have h2 : rx_h l < 2 ^ (l.length + 1) := ih.2
    show 2 ^ (l ++ [b]).length ≤ rx_h (l ++ [b]) ∧ rx_h (l ++ [b]) < 2 ^ ((l ++ [b]).length + 1)
    have := rx_bl b
    rw [rx_h_snoc, List.length_append, List.length_singleton]
    rw [Nat.pow_succ] at h2
    rw [Nat.pow_succ, Nat.pow_succ]
    omega
theorem rx_h_app (u v : List Bool) : rx_h (u ++ v) + 2 ^ v.length = rx_h u * 2 ^ v.length + rx_h v := by
  refine rx_sind (P := fun v => rx_h (u ++ v) + 2 ^ v.length = rx_h u * 2 ^ v.length + rx_h v) ?_ ?_ v
  · show rx_h (u ++ []) + 2 ^ 0 = rx_h u * 2 ^ 0 + 1
    rw [List.append_nil]
    omega
  · intro v b ih
    have ih' : rx_h (u ++ v) + 2 ^ v.length = rx_h u * 2 ^ v.length + rx_h v := ih
    show rx_h (u ++ (v ++ [b])) + 2 ^ (v ++ [b]).length = rx_h u * 2 ^ (v ++ [b]).length + rx_h (v ++ [b])
    rw [← List.append_assoc, rx_h_snoc, rx_h_snoc, List.length_append, List.length_singleton, Nat.pow_succ, ← Nat.mul_assoc]
    omega
theorem rx_h_pos (l : List Bool) : 1 ≤ rx_h l := Nat.le_trans (Nat.one_le_two_pow) (rx_h_rng l).1
theorem rx_h_inj : ∀ u v : List Bool, rx_h u = rx_h v → u = v := by
  refine rx_sind (P := fun u => ∀ v : List Bool, rx_h u = rx_h v → u = v) ?_ ?_
  · intro v
    refine rx_sind (P := fun v => rx_h [] = rx_h v → [] = v) ?_ ?_ v
    · intro _; rfl
    · intro l b _ h
      rw [rx_h_snoc, rx_h_nil] at h
      have := rx_h_pos l
      omega
  · intro l b ih v
    refine rx_sind (P := fun v => rx_h (l ++ [b]) = rx_h v → l ++ [b] = v) ?_ ?_ v
    · intro h
      rw [rx_h_snoc, rx_h_nil] at h
      have := rx_h_pos l
      omega
    · intro m c _ h
      rw [rx_h_snoc, rx_h_snoc] at h
      have e1 := rx_bl b
      have e2 := rx_bl c
      have e3 : rx_h l = rx_h m := by omega
      have e4 : b.toNat = c.toNat := by omega
      have e5 : b = c := by revert e4; cases b <;> cases c <;> decide
      rw [ih m e3, e5]
theorem rx_h_ex : ∀ n : Nat, 1 ≤ n → ∃ l, rx_h l = n := by
  intro n
  induction n using Nat.strongRecOn with
  | ind n ih =>
    intro h
    by_cases h1 : n = 1
    · exact ⟨[], h1.symm⟩
    · obtain ⟨l, hl⟩ := ih (n / 2) (by omega) (by omega)
      by_cases h2 : n % 2 = 1
      · exact ⟨l ++ [true], by rw [rx_h_snoc, hl]; show 2 * (n / 2) + 1 = n; omega⟩
      · exact ⟨l ++ [false], by rw [rx_h_snoc, hl]; show 2 * (n / 2) + 0 = n; omega⟩
def rx_n (l : List Bool) : Nat := rx_h l - 1
theorem rx_n1 (l : List Bool) : rx_n l + 1 = rx_h l := by have := rx_h_pos l; unfold rx_n; omega
theorem rx_n_inj {u v : List Bool} (h : rx_n u = rx_n v) : u = v := rx_h_inj u v (by rw [← rx_n1, ← rx_n1, h])
theorem rx_n_ex (w : Nat) : ∃ l, rx_n l = w := by
  obtain ⟨l, h⟩ := rx_h_ex (w + 1) (by omega)
  exact ⟨l, by have := rx_n1 l; omega⟩
theorem rx_n_snoc (l : List Bool) (b : Bool) : rx_n (l ++ [b]) = 2 * rx_n l + 1 + b.toNat := by
  have a := rx_n1 (l ++ [b])
  have c := rx_n1 l
  rw [rx_h_snoc] at a
  omega
def rx_lv (d w : Nat) : Prop := 2 ^ d ≤ w + 1 ∧ w + 1 < 2 ^ (d + 1)
theorem rx_lv_n (l : List Bool) : rx_lv l.length (rx_n l) := by unfold rx_lv; rw [rx_n1]; exact rx_h_rng l
theorem rx_lv_uni {d e w : Nat} (h : rx_lv d w) (g : rx_lv e w) : d = e := by
  unfold rx_lv at h g
  rcases Nat.lt_trichotomy d e with z | z | z
  · have := Nat.pow_le_pow_right (n := 2) (by decide) (show d + 1 ≤ e from z)
    omega
  · exact z
  · have := Nat.pow_le_pow_right (n := 2) (by decide) (show e + 1 ≤ d from z)
    omega
theorem rx_lv_ex (w : Nat) : ∃ d, rx_lv d w := by
  obtain ⟨l, h⟩ := rx_n_ex w
  exact ⟨l.length, h ▸ rx_lv_n l⟩
theorem rx_p7 {d : Nat} (h : d ≤ 7) : 1 ≤ 2 ^ d ∧ 2 ^ d ≤ 128 := ⟨Nat.one_le_two_pow, show 2 ^ d ≤ 2 ^ 7 from Nat.pow_le_pow_right (n := 2) (by decide) h⟩
theorem rx_lv_255 {d w : Nat} (h : rx_lv d w) (hd : d ≤ 7) : w < 255 := by
  have a := rx_p7 hd
  unfold rx_lv at h
  rw [Nat.pow_succ] at h
  omega
theorem rx_lv_7 {d w : Nat} (h : rx_lv d w) (hw : w < 255) : d ≤ 7 := by
  unfold rx_lv at h
  rcases Nat.lt_or_ge 7 d with z | z
  · have := Nat.pow_le_pow_right (n := 2) (by decide) (show 8 ≤ d from z)
    omega
  · exact z
theorem rx_n_255 {l : List Bool} (h : l.length ≤ 7) : rx_n l < 255 := rx_lv_255 (rx_lv_n l) h
theorem rx_len_7 {l : List Bool} (h : rx_n l < 255) : l.length ≤ 7 := rx_lv_7 (rx_lv_n l) h
theorem rx_lv_l {d w : Nat} (h : rx_lv d w) : rx_lv (d + 1) (2 * w + 1) := by
  unfold rx_lv at *
  rw [Nat.pow_succ] at h
  rw [Nat.pow_succ, Nat.pow_succ]
  omega
theorem rx_lv_r {d w : Nat} (h : rx_lv d w) : rx_lv (d + 1) (2 * w + 2) := by
  unfold rx_lv at *
  rw [Nat.pow_succ] at h
  rw [Nat.pow_succ, Nat.pow_succ]
  omega
theorem rx_lv_up {d w : Nat} (h : rx_lv (d + 1) w) : ∃ v, rx_lv d v ∧ (w = 2 * v + 1 ∨ w = 2 * v + 2) := by
  unfold rx_lv at h
  rw [Nat.pow_succ, Nat.pow_succ] at h
  have p := Nat.two_pow_pos d
  refine ⟨(w - 1) / 2, ?_, by omega⟩
  unfold rx_lv
  rw [Nat.pow_succ]
  omega
theorem rx_lv_0 : rx_lv 0 0 := by unfold rx_lv; decide
theorem rx_lv_00 {w : Nat} (h : rx_lv 0 w) : w = 0 := by unfold rx_lv at h; omega
/-! truth values -/
noncomputable def rx_b (p : Prop) : Int32 := @ite Int32 p (Classical.propDecidable p) 1 0
theorem rx_b_t {p : Prop} (h : p) : rx_b p = 1 := by unfold rx_b; rw [if_pos h]
theorem rx_b_f {p : Prop} (h : ¬ p) : rx_b p = 0 := by unfold rx_b; rw [if_neg h]
theorem rx_b_01 (p : Prop) : rx_b p = 0 ∨ rx_b p = 1 := by
  rcases Classical.em p with h | h
  · exact Or.inr (rx_b_t h)
  · exact Or.inl (rx_b_f h)
theorem rx_b_1 {p : Prop} : rx_b p = 1 ↔ p := by
  rcases Classical.em p with h | h
  · rw [rx_b_t h]; exact ⟨fun _ => h, fun _ => rfl⟩
  · rw [rx_b_f h]; exact ⟨fun e => absurd e (by decide), fun q => absurd q h⟩
theorem rx_b_0 {p : Prop} : rx_b p = 0 ↔ ¬ p := by
  rcases Classical.em p with h | h
  · rw [rx_b_t h]; exact ⟨fun e => absurd e (by decide), fun q => absurd h q⟩
  · rw [rx_b_f h]; exact ⟨fun _ => h, fun _ => rfl⟩
theorem rx_b_e {p q : Prop} (h : p ↔ q) : rx_b p = rx_b q := by rw [propext h]
theorem rx_nar0 : vp_nar .boolean 0 = 0 := rfl
theorem rx_nar1 : vp_nar .boolean 1 = 1 := rfl
theorem rx_nar {x : Int32} (h : x = 0 ∨ x = 1) : vp_nar .boolean x = x := by
  rcases h with h | h <;> rw [h] <;> rfl
theorem rx_b_n (p : Prop) : vp_nar .boolean (rx_b p) = rx_b p := rx_nar (rx_b_01 p)
theorem rx_b_w (p : Prop) : narrow .boolean (.int (rx_b p)) = .int (rx_b p) := by
  rcases rx_b_01 p with h | h <;> rw [h] <;> rfl
theorem rx_b_v {x : Int32} {p : Prop} (h : x = 0 ∨ x = 1) (e : x = 1 ↔ p) : x = rx_b p := by
  rcases h with h | h
  · rw [h, rx_b_f (fun q => absurd (h.symm.trans (e.mpr q)) (by decide))]
  · rw [h, rx_b_t (e.mp h)]
/-! shifts and bits -/
theorem rx_sh : ∀ k, k < 31 → (1 : Int32) <<< (nI k &&& 31) = nI (2 ^ k) := by decide +kernel
theorem rx_sm {k : Nat} (h : k < 31) : ((1 : Int32) <<< (nI k &&& 31)) - 1 = nI (2 ^ k - 1) := by
  rw [rx_sh k h]
  exact pk_sub (b := 1) Nat.one_le_two_pow
theorem rx_nb {n p : Nat} (hn : n < 2 ^ 31) (hp : p < 32) : ((nI n >>> (nI p &&& 31)) &&& 1) = nI (n / 2 ^ p % 2) := by
  have h2 : n / 2 ^ p ≤ n := Nat.div_le_self _ _
  rw [pk_shrN hn _ p (s_l p hp), pk_andN (m := 1) (by omega) 1 (by decide), Nat.pow_one]
def rx_on (x : Int32) (q : Nat) : Prop := bt x q = true
theorem rx_b1 : ∀ i, i < 32 → bt 1 i = decide (i = 0) := by decide +kernel
theorem rx_b4 : ∀ i, i < 32 → bt 4096 i = decide (i = 12) := by decide +kernel
theorem rx_bit (x : Int32) {p : Nat} (hp : p < 32) : ((x >>> (nI p &&& 31)) &&& 1) = 1 ↔ rx_on x p := by
  unfold rx_on
  have e0 : bt ((x >>> (nI p &&& 31)) &&& 1) 0 = bt x p := by
    rw [b_and, rx_b1 0 (by omega), b_sshr p hp x (by omega), if_pos (by omega)]
    simp
  constructor
  · intro h
    rw [← e0, h]
    decide
  · intro h
    apply b_ext
    intro i hi
    rw [b_and, rx_b1 i hi]
    by_cases hi0 : i = 0
    · subst hi0
      rw [b_sshr p hp x (by omega), if_pos (by omega)]
      simp [h]
    · simp [hi0]
theorem rx_on_or (x y : Int32) (q : Nat) : rx_on (x ||| y) q ↔ rx_on x q ∨ rx_on y q := by
  unfold rx_on; rw [b_or, Bool.or_eq_true]
theorem rx_on_and (x y : Int32) (q : Nat) : rx_on (x &&& y) q ↔ rx_on x q ∧ rx_on y q := by
  unfold rx_on; rw [b_and, Bool.and_eq_true]
theorem rx_on_0 (q : Nat) : ¬ rx_on 0 q := by unfold rx_on; rw [b_0]; decide
theorem rx_on_lt {x : Int32} {q : Nat} (h : rx_on x q) : q < 32 := by
  rcases Nat.lt_or_ge q 32 with z | z
  · exact z
  · unfold rx_on at h; rw [b_big z] at h; exact absurd h (by decide)
theorem rx_on_sh {p : Nat} (hp : p < 31) (q : Nat) : rx_on ((1 : Int32) <<< (nI p &&& 31)) q ↔ q = p := by
  constructor
  · intro h
    have hq := rx_on_lt h
    unfold rx_on at h
    rw [b_shl p (by omega) 1 hq, rx_b1 (q - p) (by omega)] at h
    simp at h
    omega
  · intro h
    subst h
    unfold rx_on
    rw [b_shl q (by omega) 1 (by omega), Nat.sub_self]
    simp
    decide
theorem rx_on_4 (q : Nat) : rx_on 4096 q ↔ q = 12 := by
  constructor
  · intro h
    have hq := rx_on_lt h
    unfold rx_on at h
    rw [rx_b4 q hq] at h
    simpa using h
  · intro h
    subst h
    unfold rx_on
    decide
theorem rx_eq0 {x : Int32} : x = 0 ↔ ∀ q, ¬ rx_on x q := by
  constructor
  · intro h q
    rw [h]
    exact rx_on_0 q
  · intro h
    apply b_ext
    intro i _
    rw [b_0]
    have := h i
    unfold rx_on at this
    revert this
    cases bt x i <;> simp
theorem rx_and0 {x y : Int32} : (x &&& y) = 0 ↔ ∀ q, ¬ (rx_on x q ∧ rx_on y q) := by
  rw [rx_eq0]
  constructor
  · intro h q z; exact h q ((rx_on_and x y q).mpr z)
  · intro h q z; exact h q ((rx_on_and x y q).mp z)
theorem rx_st (x : Int32) : (x &&& 4096) = 0 ↔ ¬ rx_on x 12 := by
  rw [rx_and0]
  constructor
  · intro h z; exact h 12 ⟨z, (rx_on_4 12).mpr rfl⟩
  · intro h q z
    have := (rx_on_4 q).mp z.2
    subst this
    exact h z.1
theorem rx_shr {x : Int32} {n : Nat} (hn : n < 32) (h31 : ¬ rx_on x 31) (q : Nat) : rx_on (x >>> (nI n &&& 31)) q ↔ rx_on x (n + q) := by
  rcases Nat.lt_or_ge q 32 with z | z
  · unfold rx_on at *
    rw [b_sshr n hn x z]
    by_cases g : n + q < 32
    · rw [if_pos g]
    · rw [if_neg g, b_big (x := x) (i := n + q) (by omega)]
      constructor
      · intro w; exact absurd w h31
      · intro w; exact absurd w (by decide)
  · constructor
    · intro w; have := rx_on_lt w; omega
    · intro w; have := rx_on_lt w; omega
end
section
/-! automata of places: rx_tl: the rest of a word is read from place p; rx_ac: the whole word -/
def rx_tl (la : Nat → Prop) (fo : Nat → Nat → Prop) (kd : Nat → Bool → Prop) : List Bool → Nat → Prop
  | [], p => la p
  | b :: l, p => ∃ q, fo p q ∧ kd q b ∧ rx_tl la fo kd l q
def rx_ac (em : Prop) (fi la : Nat → Prop) (fo : Nat → Nat → Prop) (kd : Nat → Bool → Prop) : List Bool → Prop
  | [] => em
  | b :: l => ∃ q, fi q ∧ kd q b ∧ rx_tl la fo kd l q
theorem rx_tl_cg {R : Nat → Prop} {la la' : Nat → Prop} {fo fo' : Nat → Nat → Prop} {kd kd' : Nat → Bool → Prop}
    (hl : ∀ p, R p → (la' p ↔ la p)) (hc : ∀ p q, R p → fo p q → R q) (hf : ∀ p q, R p → (fo' p q ↔ fo p q)) (hk : ∀ q b, R q → (kd' q b ↔ kd q b)) :
    ∀ l p, R p → (rx_tl la' fo' kd' l p ↔ rx_tl la fo kd l p) := by
  intro l
  induction l with
  | nil => intro p hp; exact hl p hp
  | cons b l ih =>
    intro p hp
    constructor
    · intro ⟨q, h1, h2, h3⟩
      have h1' := (hf p q hp).mp h1
      have hq := hc p q hp h1'
      exact ⟨q, h1', (hk q b hq).mp h2, (ih q hq).mp h3⟩
    · intro ⟨q, h1, h2, h3⟩
      have hq := hc p q hp h1
      exact ⟨q, (hf p q hp).mpr h1, (hk q b hq).mpr h2, (ih q hq).mpr h3⟩
theorem rx_ac_cg {R : Nat → Prop} {em em' : Prop} {fi fi' la la' : Nat → Prop} {fo fo' : Nat → Nat → Prop} {kd kd' : Nat → Bool → Prop}
    (he : em' ↔ em) (hr : ∀ q, fi q → R q) (hi : ∀ q, fi' q ↔ fi q) (hl : ∀ p, R p → (la' p ↔ la p)) (hc : ∀ p q, R p → fo p q → R q) (hf : ∀ p q, R p → (fo' p q ↔ fo p q)) (hk : ∀ q b, R q → (kd' q b ↔ kd q b)) :
    ∀ l, rx_ac em' fi' la' fo' kd' l ↔ rx_ac em fi la fo kd l := by
  intro l
  cases l with
  | nil => exact he
  | cons b l =>
    constructor
    · intro ⟨q, h1, h2, h3⟩
      have h1' := (hi q).mp h1
      have hq := hr q h1'
      exact ⟨q, h1', (hk q b hq).mp h2, (rx_tl_cg hl hc hf hk l q hq).mp h3⟩
    · intro ⟨q, h1, h2, h3⟩
      have hq := hr q h1
      exact ⟨q, (hi q).mpr h1, (hk q b hq).mpr h2, (rx_tl_cg hl hc hf hk l q hq).mpr h3⟩
section
variable {lo mid hi : Nat} {Fx Lx Fy Ly La Fi : Nat → Prop} {Ex Ey Ee : Prop} {fo fo' : Nat → Nat → Prop} {kd : Nat → Bool → Prop}
theorem rx_cat_y (hLx : ∀ q, Lx q → lo ≤ q ∧ q < mid) (cy : ∀ p q, mid ≤ p → p < hi → fo p q → mid ≤ q ∧ q < hi) (hfo : ∀ p q, lo ≤ p → p < hi → (fo' p q ↔ fo p q ∨ (Lx p ∧ Fy q))) (hm : lo ≤ mid)
    (hLa : ∀ q, La q ↔ Ly q ∨ (Ey ∧ Lx q)) : ∀ l p, mid ≤ p → p < hi → (rx_tl La fo' kd l p ↔ rx_tl Ly fo kd l p) := by
  intro l p h1 h2
  refine rx_tl_cg (R := fun p => mid ≤ p ∧ p < hi) ?_ ?_ ?_ ?_ l p ⟨h1, h2⟩
  · intro p hp
    rw [hLa]
    constructor
    · rintro (h | ⟨_, h⟩)
      · exact h
      · have := hLx p h; omega
    · exact Or.inl
  · intro p q hp h; exact cy p q hp.1 hp.2 h
  · intro p q hp
    rw [hfo p q (by omega) hp.2]
    constructor
    · rintro (h | ⟨h, _⟩)
      · exact h
      · have := hLx p h; omega
    · exact Or.inl
  · intro q b _; exact Iff.rfl
theorem rx_cat_x (hLx : ∀ q, Lx q → lo ≤ q ∧ q < mid) (hFy : ∀ q, Fy q → mid ≤ q ∧ q < hi) (hLy : ∀ q, Ly q → mid ≤ q ∧ q < hi)
    (cx : ∀ p q, lo ≤ p → p < mid → fo p q → lo ≤ q ∧ q < mid) (cy : ∀ p q, mid ≤ p → p < hi → fo p q → mid ≤ q ∧ q < hi)
    (hfo : ∀ p q, lo ≤ p → p < hi → (fo' p q ↔ fo p q ∨ (Lx p ∧ Fy q))) (hm : lo ≤ mid) (hh : mid ≤ hi)
    (hLa : ∀ q, La q ↔ Ly q ∨ (Ey ∧ Lx q)) : ∀ l p, lo ≤ p → p < mid → (rx_tl La fo' kd l p ↔ ∃ u v, l = u ++ v ∧ rx_tl Lx fo kd u p ∧ rx_ac Ey Fy Ly fo kd v) := by
  intro l
  induction l with
  | nil =>
    intro p h1 h2
    constructor
    · intro h
      rcases (hLa p).mp h with g | ⟨g1, g2⟩
      · have := hLy p g; omega
      · exact ⟨[], [], rfl, g2, g1⟩
    · intro ⟨u, v, e, g1, g2⟩
      have e1 : u = [] := by cases u with | nil => rfl | cons a u => exact absurd e (by simp)
      subst e1
      have e2 : v = [] := e.symm
      subst e2
      exact (hLa p).mpr (Or.inr ⟨g2, g1⟩)
  | cons b l ih =>
    intro p h1 h2
    constructor
    · intro ⟨q, g1, g2, g3⟩
      rcases (hfo p q h1 (by omega)).mp g1 with g | ⟨ga, gb⟩
      · have hq := cx p q h1 h2 g
        obtain ⟨u, v, e, k1, k2⟩ := (ih q hq.1 hq.2).mp g3
        exact ⟨b :: u, v, by rw [e]; rfl, ⟨q, g, g2, k1⟩, k2⟩
      · have hq := hFy q gb
        exact ⟨[], b :: l, rfl, ga, ⟨q, gb, g2, (rx_cat_y hLx cy hfo hm hLa l q hq.1 hq.2).mp g3⟩⟩
    · intro ⟨u, v, e, k1, k2⟩
      cases u with
      | nil =>
        have e2 : v = b :: l := e.symm
        subst e2
        obtain ⟨q, g1, g2, g3⟩ := k2
        have hq := hFy q g1
        exact ⟨q, (hfo p q h1 (by omega)).mpr (Or.inr ⟨k1, g1⟩), g2, (rx_cat_y hLx cy hfo hm hLa l q hq.1 hq.2).mpr g3⟩
      | cons a u =>
        have e1 : b = a ∧ l = u ++ v := by simpa using e
        obtain ⟨e1, e2⟩ := e1
        subst e1
        obtain ⟨q, g1, g2, g3⟩ := k1
        have hq := cx p q h1 h2 g1
        exact ⟨q, (hfo p q h1 (by omega)).mpr (Or.inl g1), g2, (ih q hq.1 hq.2).mpr ⟨u, v, e2, g3, k2⟩⟩
theorem rx_cat (hFx : ∀ q, Fx q → lo ≤ q ∧ q < mid) (hLx : ∀ q, Lx q → lo ≤ q ∧ q < mid) (hFy : ∀ q, Fy q → mid ≤ q ∧ q < hi) (hLy : ∀ q, Ly q → mid ≤ q ∧ q < hi)
    (cx : ∀ p q, lo ≤ p → p < mid → fo p q → lo ≤ q ∧ q < mid) (cy : ∀ p q, mid ≤ p → p < hi → fo p q → mid ≤ q ∧ q < hi)
    (hfo : ∀ p q, lo ≤ p → p < hi → (fo' p q ↔ fo p q ∨ (Lx p ∧ Fy q))) (hm : lo ≤ mid) (hh : mid ≤ hi)
    (hLa : ∀ q, La q ↔ Ly q ∨ (Ey ∧ Lx q)) (hFi : ∀ q, Fi q ↔ Fx q ∨ (Ex ∧ Fy q)) (hE : Ee ↔ Ex ∧ Ey) :
    ∀ l, rx_ac Ee Fi La fo' kd l ↔ ∃ u v, l = u ++ v ∧ rx_ac Ex Fx Lx fo kd u ∧ rx_ac Ey Fy Ly fo kd v := by
  intro l
  cases l with
  | nil =>
    constructor
    · intro h
      have h' := hE.mp h
      exact ⟨[], [], rfl, h'.1, h'.2⟩
    · intro ⟨u, v, e, g1, g2⟩
      have e1 : u = [] := by cases u with | nil => rfl | cons a u => exact absurd e (by simp)
      subst e1
      have e2 : v = [] := e.symm
      subst e2
      exact hE.mpr ⟨g1, g2⟩
  | cons b l =>
    constructor
    · intro ⟨q, g1, g2, g3⟩
      rcases (hFi q).mp g1 with g | ⟨ga, gb⟩
      · have hq := hFx q g
        obtain ⟨u, v, e, k1, k2⟩ := (rx_cat_x hLx hFy hLy cx cy hfo hm hh hLa l q hq.1 hq.2).mp g3
        exact ⟨b :: u, v, by rw [e]; rfl, ⟨q, g, g2, k1⟩, k2⟩
      · have hq := hFy q gb
        exact ⟨[], b :: l, rfl, ga, ⟨q, gb, g2, (rx_cat_y hLx cy hfo hm hLa l q hq.1 hq.2).mp g3⟩⟩
    · intro ⟨u, v, e, k1, k2⟩
      cases u with
      | nil =>
        have e2 : v = b :: l := e.symm
        subst e2
        obtain ⟨q, g1, g2, g3⟩ := k2
        have hq := hFy q g1
        exact ⟨q, (hFi q).mpr (Or.inr ⟨k1, g1⟩), g2, (rx_cat_y hLx cy hfo hm hLa l q hq.1 hq.2).mpr g3⟩
      | cons a u =>
        have e1 : b = a ∧ l = u ++ v := by simpa using e
        obtain ⟨e1, e2⟩ := e1
        subst e1
        obtain ⟨q, g1, g2, g3⟩ := k1
        have hq := hFx q g1
        exact ⟨q, (hFi q).mpr (Or.inl g1), g2, (rx_cat_x hLx hFy hLy cx cy hfo hm hh hLa l q hq.1 hq.2).mpr ⟨u, v, e2, g3, k2⟩⟩
theorem rx_alt (hFx : ∀ q, Fx q → lo ≤ q ∧ q < mid) (hLx : ∀ q, Lx q → lo ≤ q ∧ q < mid) (hFy : ∀ q, Fy q → mid ≤ q ∧ q < hi) (hLy : ∀ q, Ly q → mid ≤ q ∧ q < hi)
    (cx : ∀ p q, lo ≤ p → p < mid → fo p q → lo ≤ q ∧ q < mid) (cy : ∀ p q, mid ≤ p → p < hi → fo p q → mid ≤ q ∧ q < hi)
    (hLa : ∀ q, La q ↔ Lx q ∨ Ly q) (hFi : ∀ q, Fi q ↔ Fx q ∨ Fy q) (hE : Ee ↔ Ex ∨ Ey) :
    ∀ l, rx_ac Ee Fi La fo kd l ↔ rx_ac Ex Fx Lx fo kd l ∨ rx_ac Ey Fy Ly fo kd l := by
  intro l
  have tx : ∀ l p, lo ≤ p ∧ p < mid → (rx_tl La fo kd l p ↔ rx_tl Lx fo kd l p) := by
    refine rx_tl_cg (R := fun p => lo ≤ p ∧ p < mid) ?_ ?_ ?_ ?_
    · intro p hp
      rw [hLa]
      constructor
      · rintro (h | h)
        · exact h
        · have := hLy p h; omega
      · exact Or.inl
    · intro p q hp h; exact cx p q hp.1 hp.2 h
    · intro p q _; exact Iff.rfl
    · intro q b _; exact Iff.rfl
  have ty : ∀ l p, mid ≤ p ∧ p < hi → (rx_tl La fo kd l p ↔ rx_tl Ly fo kd l p) := by
    refine rx_tl_cg (R := fun p => mid ≤ p ∧ p < hi) ?_ ?_ ?_ ?_
    · intro p hp
      rw [hLa]
      constructor
      · rintro (h | h)
        · have := hLx p h; omega
        · exact h
      · exact Or.inr
    · intro p q hp h; exact cy p q hp.1 hp.2 h
    · intro p q _; exact Iff.rfl
    · intro q b _; exact Iff.rfl
  cases l with
  | nil => exact hE
  | cons b l =>
    constructor
    · intro ⟨q, g1, g2, g3⟩
      rcases (hFi q).mp g1 with g | g
      · exact Or.inl ⟨q, g, g2, (tx l q (hFx q g)).mp g3⟩
      · exact Or.inr ⟨q, g, g2, (ty l q (hFy q g)).mp g3⟩
    · rintro (⟨q, g1, g2, g3⟩ | ⟨q, g1, g2, g3⟩)
      · exact ⟨q, (hFi q).mpr (Or.inl g1), g2, (tx l q (hFx q g1)).mpr g3⟩
      · exact ⟨q, (hFi q).mpr (Or.inr g1), g2, (ty l q (hFy q g1)).mpr g3⟩
theorem rx_plus_t (hF : ∀ q, Fx q → lo ≤ q ∧ q < hi) (cx : ∀ p q, lo ≤ p → p < hi → fo p q → lo ≤ q ∧ q < hi)
    (hfo : ∀ p q, lo ≤ p → p < hi → (fo' p q ↔ fo p q ∨ (Lx p ∧ Fx q))) :
    ∀ l p, lo ≤ p → p < hi → (rx_tl Lx fo' kd l p ↔ ∃ u v, l = u ++ v ∧ rx_tl Lx fo kd u p ∧ (v = [] ∨ rx_ac Ee Fx Lx fo' kd v)) := by
  intro l
  induction l with
  | nil =>
    intro p h1 h2
    constructor
    · intro h; exact ⟨[], [], rfl, h, Or.inl rfl⟩
    · intro ⟨u, v, e, g1, g2⟩
      have e1 : u = [] := by cases u with | nil => rfl | cons a u => exact absurd e (by simp)
      subst e1
      exact g1
  | cons b l ih =>
    intro p h1 h2
    constructor
    · intro ⟨q, g1, g2, g3⟩
      rcases (hfo p q h1 h2).mp g1 with g | ⟨ga, gb⟩
      · have hq := cx p q h1 h2 g
        obtain ⟨u, v, e, k1, k2⟩ := (ih q hq.1 hq.2).mp g3
        exact ⟨b :: u, v, by rw [e]; rfl, ⟨q, g, g2, k1⟩, k2⟩
      · exact ⟨[], b :: l, rfl, ga, Or.inr ⟨q, gb, g2, g3⟩⟩
    · intro ⟨u, v, e, k1, k2⟩
      cases u with
      | nil =>
        have e2 : v = b :: l := e.symm
        subst e2
        rcases k2 with k2 | ⟨q, g1, g2, g3⟩
        · exact absurd k2 (by simp)
        · exact ⟨q, (hfo p q h1 h2).mpr (Or.inr ⟨k1, g1⟩), g2, g3⟩
      | cons a u =>
        have e1 : b = a ∧ l = u ++ v := by simpa using e
        obtain ⟨e1, e2⟩ := e1
        subst e1
        obtain ⟨q, g1, g2, g3⟩ := k1
        have hq := cx p q h1 h2 g1
        exact ⟨q, (hfo p q h1 h2).mpr (Or.inl g1), g2, (ih q hq.1 hq.2).mpr ⟨u, v, e2, g3, k2⟩⟩
theorem rx_plus (hF : ∀ q, Fx q → lo ≤ q ∧ q < hi) (cx : ∀ p q, lo ≤ p → p < hi → fo p q → lo ≤ q ∧ q < hi)
    (hfo : ∀ p q, lo ≤ p → p < hi → (fo' p q ↔ fo p q ∨ (Lx p ∧ Fx q))) :
    ∀ l, l ≠ [] → (rx_ac Ee Fx Lx fo' kd l ↔ ∃ u v, l = u ++ v ∧ u ≠ [] ∧ rx_ac Ex Fx Lx fo kd u ∧ (v = [] ∨ rx_ac Ee Fx Lx fo' kd v)) := by
  intro l hl
  cases l with
  | nil => exact absurd rfl hl
  | cons b l =>
    constructor
    · intro ⟨q, g1, g2, g3⟩
      have hq := hF q g1
      obtain ⟨u, v, e, k1, k2⟩ := (rx_plus_t (Ee := Ee) hF cx hfo l q hq.1 hq.2).mp g3
      exact ⟨b :: u, v, by rw [e]; rfl, by simp, ⟨q, g1, g2, k1⟩, k2⟩
    · intro ⟨u, v, e, hu, k1, k2⟩
      cases u with
      | nil => exact absurd rfl hu
      | cons a u =>
        have e1 : b = a ∧ l = u ++ v := by simpa using e
        obtain ⟨e1, e2⟩ := e1
        subst e1
        obtain ⟨q, g1, g2, g3⟩ := k1
        have hq := hF q g1
        exact ⟨q, g1, g2, (rx_plus_t (Ee := Ee) hF cx hfo l q hq.1 hq.2).mpr ⟨u, v, e2, g3, k2⟩⟩
theorem rx_rev_t {L F : Nat → Prop} : ∀ (m : List Bool) (c : Bool) (r : List Bool), (∃ p, kd p c ∧ rx_tl F (fun a b => fo b a) kd r p ∧ rx_tl L fo kd m p) ↔ rx_ac Ee L F (fun a b => fo b a) kd (m.reverse ++ (c :: r)) := by
  intro m
  induction m with
  | nil =>
    intro c r
    constructor
    · intro ⟨p, h1, h2, h3⟩; exact ⟨p, h3, h1, h2⟩
    · intro ⟨p, h1, h2, h3⟩; exact ⟨p, h2, h3, h1⟩
  | cons b m ih =>
    intro c r
    rw [List.reverse_cons, List.append_assoc]
    have e : [b] ++ c :: r = b :: c :: r := rfl
    rw [e, ← ih b (c :: r)]
    constructor
    · intro ⟨p, h1, h2, q, h3, h4, h5⟩
      exact ⟨q, h4, ⟨p, h3, h1, h2⟩, h5⟩
    · intro ⟨q, h4, ⟨p, h3, h1, h2⟩, h5⟩
      exact ⟨p, h1, h2, q, h3, h4, h5⟩
theorem rx_rev {L F : Nat → Prop} (l : List Bool) : rx_ac Ee F L fo kd l ↔ rx_ac Ee L F (fun a b => fo b a) kd l.reverse := by
  cases l with
  | nil => exact Iff.rfl
  | cons b l =>
    rw [List.reverse_cons, ← rx_rev_t l b []]
    constructor
    · intro ⟨p, h1, h2, h3⟩; exact ⟨p, h2, h1, h3⟩
    · intro ⟨p, h1, h2, h3⟩; exact ⟨p, h2, h1, h3⟩
end
/-! an entry of the stack: its run of places, its sets, its language -/
def rx_kd (kind : Nat → Int32) (q : Nat) : Bool → Prop
  | true => kind q ≠ 0
  | false => kind q ≠ 1
def rx_La (F L E : Int32) (fol kind : Nat → Int32) : List Bool → Prop := rx_ac (E = 1) (rx_on F) (rx_on L) (fun p => rx_on (fol p)) (rx_kd kind)
def rx_En (lo hi : Nat) (F L E : Int32) (fol kind : Nat → Int32) (A : List Bool → Prop) : Prop :=
  (∀ q, rx_on F q → lo ≤ q ∧ q < hi) ∧ (∀ q, rx_on L q → lo ≤ q ∧ q < hi) ∧ (∀ p q, lo ≤ p → p < hi → rx_on (fol p) q → lo ≤ q ∧ q < hi) ∧ (E = 0 ∨ E = 1) ∧ (∀ l, A l ↔ rx_La F L E fol kind l)
section
variable {lo mid hi : Nat} {F L E F' L' E' Fx Lx Ex Fy Ly Ey : Int32} {fol kind fol' kind' : Nat → Int32} {A B : List Bool → Prop}
theorem rx_kd_eq {q : Nat} (h : kind' q = kind q) (b : Bool) : rx_kd kind' q b ↔ rx_kd kind q b := by
  cases b
  · show kind' q ≠ 1 ↔ kind q ≠ 1
    rw [h]
  · show kind' q ≠ 0 ↔ kind q ≠ 0
    rw [h]
theorem en_ext (h : rx_En lo hi F L E fol kind A) (hf : ∀ p q, lo ≤ p → p < hi → (rx_on (fol' p) q ↔ rx_on (fol p) q)) (hk : ∀ p, lo ≤ p → p < hi → kind' p = kind p) : rx_En lo hi F L E fol' kind' A := by
  obtain ⟨h1, h2, h3, h4, h5⟩ := h
  refine ⟨h1, h2, fun p q a b c => h3 p q a b ((hf p q a b).mp c), h4, fun l => ?_⟩
  rw [h5 l]
  unfold rx_La
  refine (rx_ac_cg (R := fun p => lo ≤ p ∧ p < hi) Iff.rfl h1 (fun q => Iff.rfl) (fun p _ => Iff.rfl) ?_ ?_ ?_ l).symm
  · intro p q a c; exact h3 p q a.1 a.2 c
  · intro p q a; exact hf p q a.1 a.2
  · intro q b a; exact rx_kd_eq (hk q a.1 a.2) b
theorem en_lang (h : rx_En lo hi F L E fol kind A) (e : ∀ l, B l ↔ A l) : rx_En lo hi F L E fol kind B :=
  ⟨h.1, h.2.1, h.2.2.1, h.2.2.2.1, fun l => (e l).trans (h.2.2.2.2 l)⟩
theorem en_unit (n : Nat) : rx_En n n 0 0 1 fol kind (fun l => l = []) := by
  refine ⟨fun q h => absurd h (rx_on_0 q), fun q h => absurd h (rx_on_0 q), fun p q a b => by omega, Or.inr rfl, fun l => ?_⟩
  cases l with
  | nil => exact ⟨fun _ => rfl, fun _ => rfl⟩
  | cons b l => exact ⟨fun h => absurd h (by simp), fun ⟨q, h, _⟩ => absurd h (rx_on_0 q)⟩
theorem en_none (n : Nat) : rx_En n n 0 0 0 fol kind (fun _ => False) := by
  refine ⟨fun q h => absurd h (rx_on_0 q), fun q h => absurd h (rx_on_0 q), fun p q a b => by omega, Or.inl rfl, fun l => ?_⟩
  cases l with
  | nil => exact ⟨fun h => h.elim, fun h => absurd (show (0 : Int32) = 1 from h) (by decide)⟩
  | cons b l => exact ⟨fun h => h.elim, fun ⟨q, h, _⟩ => absurd h (rx_on_0 q)⟩
theorem en_letter {n : Nat} (hn : n < 31) (h0 : fol n = 0) : rx_En n (n + 1) ((1 : Int32) <<< (nI n &&& 31)) ((1 : Int32) <<< (nI n &&& 31)) 0 fol kind (fun l => ∃ b, l = [b] ∧ rx_kd kind n b) := by
  have hs := rx_on_sh hn
  refine ⟨fun q h => ?_, fun q h => ?_, fun p q a b c => ?_, Or.inl rfl, fun l => ?_⟩
  · have := (hs q).mp h; omega
  · have := (hs q).mp h; omega
  · have : p = n := by omega
    subst this
    rw [h0] at c
    exact absurd c (rx_on_0 q)
  · cases l with
    | nil => exact ⟨fun ⟨b, e, _⟩ => absurd e (by simp), fun h => absurd (show (0 : Int32) = 1 from h) (by decide)⟩
    | cons b l =>
      constructor
      · intro ⟨c, e, k⟩
        have e' : b = c ∧ l = [] := by simpa using e
        obtain ⟨e1, e2⟩ := e'
        subst e1 e2
        exact ⟨n, (hs n).mpr rfl, k, (hs n).mpr rfl⟩
      · intro ⟨q, g1, g2, g3⟩
        have e := (hs q).mp g1
        subst e
        cases l with
        | nil => exact ⟨b, rfl, g2⟩
        | cons c l =>
          obtain ⟨r, k1, _⟩ := g3
          have k1' : rx_on (fol q) r := k1
          rw [h0] at k1'
          exact absurd k1' (rx_on_0 r)
theorem en_cat (hx : rx_En lo mid Fx Lx Ex fol kind A) (hy : rx_En mid hi Fy Ly Ey fol kind B) (hm : lo ≤ mid) (hh : mid ≤ hi)
    (hfo : ∀ p q, lo ≤ p → p < hi → (rx_on (fol' p) q ↔ rx_on (fol p) q ∨ (rx_on Lx p ∧ rx_on Fy q)))
    (hL : ∀ q, rx_on L' q ↔ rx_on Ly q ∨ (Ey = 1 ∧ rx_on Lx q)) (hF : ∀ q, rx_on F' q ↔ rx_on Fx q ∨ (Ex = 1 ∧ rx_on Fy q)) (hE : E' = 0 ∨ E' = 1) (hE' : E' = 1 ↔ Ex = 1 ∧ Ey = 1) :
    rx_En lo hi F' L' E' fol' kind (fun l => ∃ u v, l = u ++ v ∧ A u ∧ B v) := by
  obtain ⟨x1, x2, x3, x4, x5⟩ := hx
  obtain ⟨y1, y2, y3, y4, y5⟩ := hy
  refine ⟨fun q h => ?_, fun q h => ?_, fun p q a b c => ?_, hE, fun l => ?_⟩
  · rcases (hF q).mp h with g | ⟨_, g⟩
    · have := x1 q g; omega
    · have := y1 q g; omega
  · rcases (hL q).mp h with g | ⟨_, g⟩
    · have := y2 q g; omega
    · have := x2 q g; omega
  · rcases (hfo p q a b).mp c with g | ⟨_, g⟩
    · rcases Nat.lt_or_ge p mid with z | z
      · have := x3 p q a z g; omega
      · have := y3 p q z b g; omega
    · have := y1 q g; omega
  · unfold rx_La
    rw [rx_cat (Ex := Ex = 1) (Ey := Ey = 1) x1 x2 y1 y2 x3 y3 hfo hm hh hL hF hE' l]
    constructor
    · intro ⟨u, v, e, a, b⟩; exact ⟨u, v, e, (x5 u).mp a, (y5 v).mp b⟩
    · intro ⟨u, v, e, a, b⟩; exact ⟨u, v, e, (x5 u).mpr a, (y5 v).mpr b⟩
theorem en_alt (hx : rx_En lo mid Fx Lx Ex fol kind A) (hy : rx_En mid hi Fy Ly Ey fol kind B) (hm : lo ≤ mid) (hh : mid ≤ hi)
    (hL : ∀ q, rx_on L' q ↔ rx_on Lx q ∨ rx_on Ly q) (hF : ∀ q, rx_on F' q ↔ rx_on Fx q ∨ rx_on Fy q) (hE : E' = 0 ∨ E' = 1) (hE' : E' = 1 ↔ Ex = 1 ∨ Ey = 1) :
    rx_En lo hi F' L' E' fol kind (fun l => A l ∨ B l) := by
  obtain ⟨x1, x2, x3, x4, x5⟩ := hx
  obtain ⟨y1, y2, y3, y4, y5⟩ := hy
  refine ⟨fun q h => ?_, fun q h => ?_, fun p q a b c => ?_, hE, fun l => ?_⟩
  · rcases (hF q).mp h with g | g
    · have := x1 q g; omega
    · have := y1 q g; omega
  · rcases (hL q).mp h with g | g
    · have := x2 q g; omega
    · have := y2 q g; omega
  · rcases Nat.lt_or_ge p mid with z | z
    · have := x3 p q a z c; omega
    · have := y3 p q z b c; omega
  · unfold rx_La
    show A l ∨ B l ↔ _
    rw [rx_alt (Ex := Ex = 1) (Ey := Ey = 1) x1 x2 y1 y2 x3 y3 hL hF hE' l, x5 l, y5 l]
    exact Iff.rfl
theorem en_plus (h : rx_En lo hi F L E fol kind A) (hE : E' = 0 ∨ E' = 1) (hfo : ∀ p q, lo ≤ p → p < hi → (rx_on (fol' p) q ↔ rx_on (fol p) q ∨ (rx_on L p ∧ rx_on F q))) :
    ∃ B : List Bool → Prop, rx_En lo hi F L E' fol' kind B ∧ (B [] ↔ E' = 1) ∧ ∀ l, l ≠ [] → (B l ↔ ∃ u v, l = u ++ v ∧ u ≠ [] ∧ A u ∧ (v = [] ∨ B v)) := by
  obtain ⟨x1, x2, x3, x4, x5⟩ := h
  refine ⟨rx_La F L E' fol' kind, ⟨x1, x2, fun p q a b c => ?_, hE, fun l => Iff.rfl⟩, Iff.rfl, fun l hl => ?_⟩
  · rcases (hfo p q a b).mp c with g | ⟨_, g⟩
    · exact x3 p q a b g
    · exact x1 q g
  · unfold rx_La
    rw [rx_plus (Ex := E = 1) x1 x3 hfo l hl]
    constructor
    · intro ⟨u, v, e, hu, a, b⟩; exact ⟨u, v, e, hu, (x5 u).mpr a, b⟩
    · intro ⟨u, v, e, hu, a, b⟩; exact ⟨u, v, e, hu, (x5 u).mp a, b⟩
theorem en_opt (h : rx_En lo hi F L E fol kind A) : rx_En lo hi F L 1 fol kind (fun l => l = [] ∨ A l) := by
  obtain ⟨x1, x2, x3, x4, x5⟩ := h
  refine ⟨x1, x2, x3, Or.inr rfl, fun l => ?_⟩
  cases l with
  | nil => exact ⟨fun _ => rfl, fun _ => Or.inl rfl⟩
  | cons b l =>
    show b :: l = [] ∨ A (b :: l) ↔ _
    rw [x5]
    constructor
    · rintro (h | h)
      · exact absurd h (by simp)
      · exact h
    · intro h; exact Or.inr h
theorem en_rev (h : rx_En lo hi F L E fol kind A) (hfo : ∀ p q, lo ≤ p → p < hi → (rx_on (fol' p) q ↔ lo ≤ q ∧ q < hi ∧ rx_on (fol q) p)) : rx_En lo hi L F E fol' kind (fun l => A l.reverse) := by
  obtain ⟨x1, x2, x3, x4, x5⟩ := h
  refine ⟨x2, x1, fun p q a b c => ?_, x4, fun l => ?_⟩
  · have := (hfo p q a b).mp c; exact ⟨this.1, this.2.1⟩
  · show A l.reverse ↔ _
    rw [x5]
    unfold rx_La
    have e1 : ∀ m, rx_ac (E = 1) (rx_on F) (rx_on L) (fun p => rx_on (fol p)) (rx_kd kind) m ↔ rx_ac (E = 1) (rx_on F) (rx_on L) (fun p q => lo ≤ p ∧ p < hi ∧ rx_on (fol p) q) (rx_kd kind) m := by
      intro m
      refine (rx_ac_cg (R := fun p => lo ≤ p ∧ p < hi) Iff.rfl x1 (fun q => Iff.rfl) (fun p _ => Iff.rfl) ?_ ?_ (fun q b _ => Iff.rfl) m).symm
      · intro p q a c; exact x3 p q a.1 a.2 c
      · intro p q a; exact ⟨fun c => c.2.2, fun c => ⟨a.1, a.2, c⟩⟩
    rw [e1, rx_rev, List.reverse_reverse]
    refine rx_ac_cg (R := fun p => lo ≤ p ∧ p < hi) Iff.rfl x2 (fun q => Iff.rfl) (fun p _ => Iff.rfl) ?_ ?_ (fun q b _ => Iff.rfl) l
    · intro p q a c
      have := (hfo p q a.1 a.2).mp c
      exact ⟨this.1, this.2.1⟩
    · intro p q a
      exact (hfo p q a.1 a.2).symm
end
end
section
/-! a stored expression, and the sets of places that words lead to -/
def rx_kb (Z O : Int32) (q : Nat) : Bool → Prop
  | true => rx_on O q
  | false => rx_on Z q
def rx_Sl (F L E Z O : Int32) (sfo : Nat → Int32) (A : List Bool → Prop) : Prop :=
  (∀ q, rx_on L q → q < 12) ∧ (∀ q, rx_on Z q → q < 12) ∧ (∀ q, rx_on O q → q < 12) ∧ (E = 0 ∨ E = 1) ∧
  (∀ l, A l ↔ rx_ac (E = 1) (rx_on F) (rx_on L) (fun p => rx_on (sfo p)) (rx_kb Z O) l)
theorem sl_none (sfo : Nat → Int32) : rx_Sl 0 0 0 0 0 sfo (fun _ => False) := by
  refine ⟨fun q h => absurd h (rx_on_0 q), fun q h => absurd h (rx_on_0 q), fun q h => absurd h (rx_on_0 q), Or.inl rfl, fun l => ?_⟩
  cases l with
  | nil => exact ⟨fun h => h.elim, fun h => absurd (show (0 : Int32) = 1 from h) (by decide)⟩
  | cons b l => exact ⟨fun h => h.elim, fun ⟨q, h, _⟩ => absurd h (rx_on_0 q)⟩
section
variable {lo hi : Nat} {F L E Z O : Int32} {fol kind sfo : Nat → Int32} {A : List Bool → Prop}
theorem sl_store (h : rx_En lo hi F L E fol kind A) (hh : hi ≤ 12) (hlo : lo ≤ hi)
    (hZ : ∀ q, rx_on Z q ↔ lo + q < hi ∧ kind (lo + q) ≠ 1) (hO : ∀ q, rx_on O q ↔ lo + q < hi ∧ kind (lo + q) ≠ 0)
    (hs : ∀ p, lo + p < hi → sfo p = fol (lo + p) >>> (nI lo &&& 31)) : rx_Sl (F >>> (nI lo &&& 31)) (L >>> (nI lo &&& 31)) E Z O sfo A := by
  obtain ⟨x1, x2, x3, x4, x5⟩ := h
  have f31 : ¬ rx_on F 31 := fun z => by have := x1 31 z; omega
  have l31 : ¬ rx_on L 31 := fun z => by have := x2 31 z; omega
  have sF := rx_shr (n := lo) (by omega) f31
  have sL := rx_shr (n := lo) (by omega) l31
  have kk : ∀ q b, lo + q < hi → (rx_kb Z O q b ↔ rx_kd kind (lo + q) b) := by
    intro q b hq
    cases b
    · exact (hZ q).trans ⟨fun z => z.2, fun z => ⟨hq, z⟩⟩
    · exact (hO q).trans ⟨fun z => z.2, fun z => ⟨hq, z⟩⟩
  have kr : ∀ q b, rx_kb Z O q b → lo + q < hi := by
    intro q b hb
    cases b
    · exact ((hZ q).mp hb).1
    · exact ((hO q).mp hb).1
  have sf : ∀ p q, lo + p < hi → (rx_on (sfo p) q ↔ rx_on (fol (lo + p)) (lo + q)) := by
    intro p q hp
    rw [hs p hp]
    exact rx_shr (by omega) (fun z => by have := x3 (lo + p) 31 (by omega) hp z; omega) q
  have tl : ∀ l p, lo + p < hi → (rx_tl (rx_on (L >>> (nI lo &&& 31))) (fun p => rx_on (sfo p)) (rx_kb Z O) l p ↔ rx_tl (rx_on L) (fun p => rx_on (fol p)) (rx_kd kind) l (lo + p)) := by
    intro l
    induction l with
    | nil => intro p _; exact sL p
    | cons b l ih =>
      intro p hp
      constructor
      · intro ⟨q, g1, g2, g3⟩
        have hq := kr q b g2
        exact ⟨lo + q, (sf p q hp).mp g1, (kk q b hq).mp g2, (ih q hq).mp g3⟩
      · intro ⟨q, g1, g2, g3⟩
        have hq := x3 (lo + p) q (by omega) hp g1
        obtain ⟨r, rfl⟩ : ∃ r, q = lo + r := ⟨q - lo, by omega⟩
        exact ⟨r, (sf p r hp).mpr g1, (kk r b hq.2).mpr g2, (ih r hq.2).mpr g3⟩
  refine ⟨fun q h => ?_, fun q h => ?_, fun q h => ?_, x4, fun l => ?_⟩
  · have := x2 _ ((sL q).mp h); omega
  · have := (hZ q).mp h; omega
  · have := (hO q).mp h; omega
  · rw [x5]
    cases l with
    | nil => exact Iff.rfl
    | cons b l =>
      constructor
      · intro ⟨q, g1, g2, g3⟩
        have hq := x1 q g1
        obtain ⟨r, rfl⟩ : ∃ r, q = lo + r := ⟨q - lo, by omega⟩
        exact ⟨r, (sF r).mpr g1, (kk r b hq.2).mpr g2, (tl l r hq.2).mpr g3⟩
      · intro ⟨q, g1, g2, g3⟩
        have hq := kr q b g2
        exact ⟨lo + q, (sF q).mp g1, (kk q b hq).mp g2, (tl l q hq).mp g3⟩
/-- the words that lead from the set S to acceptance -/
def rx_AC (F L E Z O : Int32) (sfo : Nat → Int32) (S : Int32) (l : List Bool) : Prop :=
  (rx_on S 12 ∧ rx_ac (E = 1) (rx_on F) (rx_on L) (fun p => rx_on (sfo p)) (rx_kb Z O) l) ∨ ∃ p, p < 12 ∧ rx_on S p ∧ rx_tl (rx_on L) (fun p => rx_on (sfo p)) (rx_kb Z O) l p
theorem ac_start (l : List Bool) : rx_AC F L E Z O sfo 4096 l ↔ rx_ac (E = 1) (rx_on F) (rx_on L) (fun p => rx_on (sfo p)) (rx_kb Z O) l := by
  constructor
  · rintro (h | ⟨p, hp, h, _⟩)
    · exact h.2
    · have := (rx_on_4 p).mp h; omega
  · intro h; exact Or.inl ⟨(rx_on_4 12).mpr rfl, h⟩
theorem ac_step {S r : Int32} {b : Bool} (hZ : ∀ q, rx_on Z q → q < 12) (hO : ∀ q, rx_on O q → q < 12)
    (hr : ∀ q, rx_on r q ↔ ((rx_on S 12 ∧ rx_on F q) ∨ ∃ p, p < 12 ∧ rx_on S p ∧ rx_on (sfo p) q) ∧ rx_kb Z O q b) (l : List Bool) :
    rx_AC F L E Z O sfo r l ↔ rx_AC F L E Z O sfo S (b :: l) := by
  have kr : ∀ q, rx_kb Z O q b → q < 12 := by
    intro q hb
    cases b
    · exact hZ q hb
    · exact hO q hb
  constructor
  · rintro (⟨h, _⟩ | ⟨q, hq, h, t⟩)
    · have := kr 12 ((hr 12).mp h).2; omega
    · obtain ⟨g | ⟨p, hp, g1, g2⟩, k⟩ := (hr q).mp h
      · exact Or.inl ⟨g.1, ⟨q, g.2, k, t⟩⟩
      · exact Or.inr ⟨p, hp, g1, ⟨q, g2, k, t⟩⟩
  · rintro (⟨h, q, g1, g2, g3⟩ | ⟨p, hp, h, q, g1, g2, g3⟩)
    · exact Or.inr ⟨q, kr q g2, (hr q).mpr ⟨Or.inl ⟨h, g1⟩, g2⟩, g3⟩
    · exact Or.inr ⟨q, kr q g2, (hr q).mpr ⟨Or.inr ⟨p, hp, h, g1⟩, g2⟩, g3⟩
theorem ac_end {S : Int32} (hL : ∀ q, rx_on L q → q < 12) : rx_AC F L E Z O sfo S [] ↔ (rx_on S 12 ∧ E = 1) ∨ ¬ (S &&& L) = 0 := by
  rw [rx_and0]
  constructor
  · rintro (h | ⟨p, hp, h, t⟩)
    · exact Or.inl h
    · exact Or.inr (fun z => z p ⟨h, t⟩)
  · rintro (h | h)
    · exact Or.inl h
    · obtain ⟨q, hq⟩ := Classical.not_forall.mp h
      have hq' := Classical.not_not.mp hq
      exact Or.inr ⟨q, hL q hq'.2, hq'.1, hq'.2⟩
end
end
section
/-! the reference: its words -/
theorem rx_scase (u : List Bool) : u = [] ∨ ∃ v b, u = v ++ [b] := by
  refine rx_sind (P := fun u => u = [] ∨ ∃ v b, u = v ++ [b]) (Or.inl rfl) ?_ u
  intro l b _
  exact Or.inr ⟨l, b, rfl⟩
theorem rx_h_div (u v : List Bool) : rx_h (u ++ v) / 2 ^ v.length = rx_h u ∧ rx_h (u ++ v) % 2 ^ v.length = rx_h v - 2 ^ v.length := by
  have a := rx_h_app u v
  have r := rx_h_rng v
  have p := Nat.two_pow_pos v.length
  rw [Nat.pow_succ] at r
  have e : rx_h (u ++ v) = (rx_h v - 2 ^ v.length) + rx_h u * 2 ^ v.length := by omega
  rw [e]
  generalize 2 ^ v.length = c at *
  constructor
  · rw [Nat.add_mul_div_right _ _ p, Nat.div_eq_of_lt (by omega), Nat.zero_add]
  · rw [Nat.add_mul_mod_self_right, Nat.mod_eq_of_lt (by omega)]
theorem rx_n_take {l : List Bool} {p : Nat} (hp : p ≤ l.length) : (rx_n l + 1) / 2 ^ (l.length - p) - 1 = rx_n (l.take p) ∧ (rx_n l + 1) % 2 ^ (l.length - p) + 2 ^ (l.length - p) - 1 = rx_n (l.drop p) := by
  have h := rx_h_div (l.take p) (l.drop p)
  rw [List.take_append_drop, List.length_drop] at h
  have r := rx_h_rng (l.drop p)
  rw [List.length_drop] at r
  rw [rx_n1, h.1, h.2]
  have a := rx_n1 (l.take p)
  have b := rx_n1 (l.drop p)
  constructor
  · omega
  · omega
theorem rx_n_drop_lt {l : List Bool} {p : Nat} (hp : p ≤ l.length) (h1 : 1 ≤ p) : rx_n (l.drop p) < rx_n l := by
  have r := (rx_h_rng (l.drop p)).2
  have s := (rx_h_rng l).1
  rw [List.length_drop] at r
  have q := Nat.pow_le_pow_right (n := 2) (by decide) (show l.length - p + 1 ≤ l.length by omega)
  have a := rx_n1 l
  have b := rx_n1 (l.drop p)
  omega
section
variable {g_depth g_table g_n : Int32} {b_stack b_lc b_slots b_fresh : Nat → Int32}
theorem yl_len2 {post : Int32 → Prop} {w d : Nat} (hd : d ≤ 7) (hv : rx_lv d w) (hp : post (nI d)) : ∀ n j : Nat, j ≤ d → d < n + j → wY_lenOf_2 post (nI w) g_depth g_table g_n b_stack b_lc b_slots b_fresh n (nI j) := by
  intro n
  induction n with
  | zero => intro j h1 h2; omega
  | succ n ih =>
    intro j hj hn
    refine pk_le 7 j (fun h => ?_) (fun h => ?_)
    · have e : j = d := by omega
      rw [e]
      exact hp
    · have e : ((1 : Int32) <<< ((nI j + 1) &&& 31)) - 1 = nI (2 ^ (j + 1) - 1) := by rw [nI_1]; exact rx_sm (by omega)
      have b := rx_p7 (show j + 1 ≤ 7 by omega)
      have hw := rx_lv_255 hv hd
      refine pk_lt w (2 ^ (j + 1) - 1) (fun g => ?_) (fun g => ?_) rfl e
      · have e2 : j = d := by
          rcases Nat.lt_or_ge j d with z | z
          · have := Nat.pow_le_pow_right (n := 2) (by decide) (show j + 1 ≤ d from z)
            have := hv.1
            omega
          · omega
        rw [e2]
        exact hp
      · have e2 : j < d := by
          rcases Nat.lt_or_ge j d with z | z
          · exact z
          · have e3 : j = d := by omega
            subst e3
            have := hv.2
            omega
        exact nm_r (nI_1 j) (ih (j + 1) (by omega) (by omega))
theorem yl_len {post : Int32 → Prop} {w d : Nat} (hd : d ≤ 7) (hv : rx_lv d w) (hp : post (nI d)) : wpY_lenOf post (g_depth, g_table, g_n, b_stack, b_lc, b_slots, b_fresh) (nI w) :=
  Exists.intro (d + 1) (yl_len2 hd hv hp (d + 1) 0 (by omega) (by omega))
theorem yl_pre {post : Int32 → Prop} {w d p : Nat} (hd : d ≤ 7) (hv : rx_lv d w) (hp : p ≤ d) (k : post (nI ((w + 1) / 2 ^ (d - p) - 1))) : wpY_prefix post (g_depth, g_table, g_n, b_stack, b_lc, b_slots, b_fresh) (nI w) (nI p) := by
  unfold wpY_prefix
  refine yl_len hd hv ?_
  have hw := rx_lv_255 hv hd
  have b := rx_p7 hd
  have e1 : nI w - (((1 : Int32) <<< (nI d &&& 31)) - 1) = nI (w + 1 - 2 ^ d) := by
    have := hv.1
    rw [rx_sm (by omega), pk_sub (by omega)]
    exact congrArg nI (by omega)
  refine nm_r e1 ?_
  have hc : (w + 1) / 2 ^ (d - p) = (w + 1 - 2 ^ d) / 2 ^ (d - p) + 2 ^ p := by
    have e2 : 2 ^ p * 2 ^ (d - p) = 2 ^ d := by rw [← Nat.pow_add]; exact congrArg _ (by omega)
    have e3 : w + 1 = (w + 1 - 2 ^ d) + 2 ^ p * 2 ^ (d - p) := by have := hv.1; omega
    have e4 := Nat.add_mul_div_right (w + 1 - 2 ^ d) (2 ^ p) (Nat.two_pow_pos (d - p))
    rw [← e3] at e4
    exact e4
  have b2 := rx_p7 (show p ≤ 7 by omega)
  have e5 : (((1 : Int32) <<< (nI p &&& 31)) - 1) + (nI (w + 1 - 2 ^ d) >>> ((nI d - nI p) &&& 31)) = nI ((w + 1) / 2 ^ (d - p) - 1) := by
    rw [rx_sm (by omega), pk_sub hp, pk_shrN (by omega) _ (d - p) (s_l _ (by omega)), nI_add, hc]
    exact congrArg nI (by generalize (w + 1 - 2 ^ d) / 2 ^ (d - p) = m; have := b2.1; omega)
  rw [e5]
  exact k
theorem yl_suf {post : Int32 → Prop} {w d p : Nat} (hd : d ≤ 7) (hv : rx_lv d w) (hp : p ≤ d) (k : post (nI ((w + 1) % 2 ^ (d - p) + 2 ^ (d - p) - 1))) : wpY_suffix post (g_depth, g_table, g_n, b_stack, b_lc, b_slots, b_fresh) (nI w) (nI p) := by
  unfold wpY_suffix
  refine yl_len hd hv ?_
  have hw := rx_lv_255 hv hd
  have b := rx_p7 hd
  have e1 : nI w - (((1 : Int32) <<< (nI d &&& 31)) - 1) = nI (w + 1 - 2 ^ d) := by
    have := hv.1
    rw [rx_sm (by omega), pk_sub (by omega)]
    exact congrArg nI (by omega)
  refine nm_r e1 (nm_r (pk_sub hp) ?_)
  have hc : (w + 1) % 2 ^ (d - p) = (w + 1 - 2 ^ d) % 2 ^ (d - p) := by
    have e2 : 2 ^ p * 2 ^ (d - p) = 2 ^ d := by rw [← Nat.pow_add]; exact congrArg _ (by omega)
    have e3 : w + 1 = (w + 1 - 2 ^ d) + 2 ^ p * 2 ^ (d - p) := by have := hv.1; omega
    have e4 := Nat.add_mul_mod_self_right (w + 1 - 2 ^ d) (2 ^ p) (2 ^ (d - p))
    rw [← e3] at e4
    exact e4
  have b2 := rx_p7 (show d - p ≤ 7 by omega)
  have e5 : (((1 : Int32) <<< (nI (d - p) &&& 31)) - 1) + (nI (w + 1 - 2 ^ d) &&& (((1 : Int32) <<< (nI (d - p) &&& 31)) - 1)) = nI ((w + 1) % 2 ^ (d - p) + 2 ^ (d - p) - 1) := by
    rw [rx_sm (by omega), pk_andN (by omega) (d - p) (pk_tn (by omega)), nI_add, hc]
    exact congrArg nI (by generalize (w + 1 - 2 ^ d) % 2 ^ (d - p) = m; have := b2.1; omega)
  rw [e5]
  exact k
theorem yl_preL {post : Int32 → Prop} {l : List Bool} {p : Nat} (hl : l.length ≤ 7) (hp : p ≤ l.length) (k : post (nI (rx_n (l.take p)))) : wpY_prefix post (g_depth, g_table, g_n, b_stack, b_lc, b_slots, b_fresh) (nI (rx_n l)) (nI p) :=
  yl_pre hl (rx_lv_n l) hp (by rw [(rx_n_take hp).1]; exact k)
theorem yl_sufL {post : Int32 → Prop} {l : List Bool} {p : Nat} (hl : l.length ≤ 7) (hp : p ≤ l.length) (k : post (nI (rx_n (l.drop p)))) : wpY_suffix post (g_depth, g_table, g_n, b_stack, b_lc, b_slots, b_fresh) (nI (rx_n l)) (nI p) :=
  yl_suf hl (rx_lv_n l) hp (by rw [(rx_n_take hp).2]; exact k)
theorem yl_mir2 {post : Int32 → Prop} {l : List Bool} (hl : l.length ≤ 7) (k : post (nI (rx_n l.reverse))) : ∀ (n : Nat) (u v : List Bool), l = u ++ v → u.length < n →
    wY_mirrored_20 post (nI l.length) (nI (rx_h l - 2 ^ l.length)) g_depth g_table g_n b_stack b_lc b_slots b_fresh n (nI (rx_h v.reverse - 2 ^ v.length)) (nI v.length) := by
  intro n
  induction n with
  | zero => intro u v _ h; omega
  | succ n ih =>
    intro u v e hn
    have hlen : l.length = u.length + v.length := by rw [e, List.length_append]
    have b := rx_p7 hl
    have rl := rx_h_rng l
    have rr := rx_h_rng l.reverse
    rw [List.length_reverse] at rr
    rcases rx_scase u with z | ⟨u', b', z⟩
    · subst z
      have e' : l = v := e
      refine pk_le l.length v.length (fun _ => ?_) (fun h => ?_)
      · have e5 : (((1 : Int32) <<< (nI l.length &&& 31)) - 1) + nI (rx_h v.reverse - 2 ^ v.length) = nI (rx_n l.reverse) := by
          rw [← e', rx_sm (by omega), nI_add]
          exact congrArg nI (by unfold rx_n; omega)
        rw [e5]
        exact k
      · rw [e'] at h; omega
    · subst z
      rw [List.length_append, List.length_singleton] at hlen hn
      refine pk_le l.length v.length (fun h => ?_) (fun _ => ?_)
      · omega
      · have hb := rx_bl b'
        have hu := rx_h_rng u'
        have a := rx_h_div (u' ++ [b']) v
        rw [← e, rx_h_snoc] at a
        have hv := rx_h_rng v
        have hvr := rx_h_rng v.reverse
        rw [List.length_reverse] at hvr
        have e2 : 2 ^ l.length = 2 * 2 ^ u'.length * 2 ^ v.length := by
          rw [hlen, Nat.pow_add, Nat.pow_succ, Nat.mul_comm (2 ^ u'.length) 2]
        have e3 : (rx_h l - 2 ^ l.length) / 2 ^ v.length % 2 = b'.toNat := by
          have e4 : rx_h l = (rx_h l - 2 ^ l.length) + 2 * 2 ^ u'.length * 2 ^ v.length := by omega
          have e6 := Nat.add_mul_div_right (rx_h l - 2 ^ l.length) (2 * 2 ^ u'.length) (Nat.two_pow_pos v.length)
          rw [← e4, a.1] at e6
          omega
        have hlt : rx_h l - 2 ^ l.length < 2 ^ 31 := by rw [Nat.pow_succ] at rl; omega
        have e7 : (nI (rx_h v.reverse - 2 ^ v.length) * 2) + ((nI (rx_h l - 2 ^ l.length) >>> (nI v.length &&& 31)) &&& 1) = nI (rx_h (b' :: v).reverse - 2 ^ (b' :: v).length) := by
          rw [rx_nb hlt (by omega), e3, show (2 : Int32) = nI 2 from rfl, pk_mul, nI_add, List.reverse_cons, rx_h_snoc, List.length_cons, Nat.pow_succ]
          exact congrArg nI (by omega)
        refine nm_r e7 (nm_r (nI_1 v.length) ?_)
        exact ih u' (b' :: v) (by rw [e, List.append_assoc]; rfl) (by omega)
theorem yl_mir {post : Int32 → Prop} {l : List Bool} (hl : l.length ≤ 7) (k : post (nI (rx_n l.reverse))) : wpY_mirrored post (g_depth, g_table, g_n, b_stack, b_lc, b_slots, b_fresh) (nI (rx_n l)) := by
  unfold wpY_mirrored
  refine yl_len hl (rx_lv_n l) ?_
  have b := rx_p7 hl
  have rl := rx_h_rng l
  have n1 := rx_n1 l
  have e1 : nI (rx_n l) - (((1 : Int32) <<< (nI l.length &&& 31)) - 1) = nI (rx_h l - 2 ^ l.length) := by
    rw [rx_sm (by omega), pk_sub (by omega)]
    exact congrArg nI (by omega)
  refine nm_r e1 ?_
  exact Exists.intro (l.length + 1) (yl_mir2 hl k (l.length + 1) l [] (List.append_nil l).symm (by omega))
end
end
section
/-! the reference: its stack -/
theorem yl_up {f : Nat → Int32} {i : Int32} {w : Nat} {x y : Int32} (hi : i.toNatClampNeg = w) (hx : x = y) : upd f i.toNatClampNeg x = upd f w y := by rw [hi, hx]
theorem yl_fs {fr : Nat → Int32} {C : List Bool → Prop} {l : List Bool} {w : Nat} (hl : rx_n l = w) (h : ∀ m, rx_n m < w → fr (rx_n m) = rx_b (C m)) : ∀ m, rx_n m < w + 1 → upd fr w (rx_b (C l)) (rx_n m) = rx_b (C m) := by
  intro m hm
  by_cases z : rx_n m = w
  · have e : m = l := rx_n_inj (z.trans hl.symm)
    subst e
    rw [z]
    exact pk_us
  · rw [pk_un z]
    exact h m (by omega)
theorem yl_ix {d c w : Nat} (h : c ≤ d) : (nI d - nI c) * 255 + nI w = nI ((d - c) * 255 + w) := by
  rw [pk_sub h, show (255 : Int32) = nI 255 from rfl, pk_mul, nI_add]
section
variable {g_depth g_table g_n : Int32} {b_stack b_lc b_slots b_fresh : Nat → Int32}
theorem yl_cf2 {post : SY → Prop} (k : ∀ fr, (∀ w, w < 255 → fr w = 0) → post (g_depth, g_table, g_n, b_stack, b_lc, b_slots, fr)) : ∀ n w fr, w ≤ 255 → 255 < n + w → (∀ j, j < w → fr j = 0) → wY_clearFresh_2 post g_depth g_table g_n n (nI w) b_stack b_lc b_slots fr := by
  intro n
  induction n with
  | zero => intro w fr h1 h2; omega
  | succ n ih =>
    intro w fr h1 h2 h3
    refine pk_le 255 w (fun h => ?_) (fun h => ?_)
    · exact k fr (fun j hj => h3 j (by omega))
    · refine ⟨pk_in w 255 h, nm_r (yl_up (nI_clamp (by omega)) rx_nar0) (nm_r (nI_1 w) ?_)⟩
      refine ih (w + 1) (upd fr w 0) (by omega) (by omega) (fun j hj => ?_)
      by_cases z : j = w
      · rw [z]; exact pk_us
      · rw [pk_un z]; exact h3 j (by omega)
theorem yl_cf {post : SY → Prop} (k : ∀ fr, (∀ w, w < 255 → fr w = 0) → post (g_depth, g_table, g_n, b_stack, b_lc, b_slots, fr)) : wpY_clearFresh post (g_depth, g_table, g_n, b_stack, b_lc, b_slots, b_fresh) :=
  Exists.intro 256 (yl_cf2 k 256 0 b_fresh (by omega) (by omega) (fun j hj => by omega))
theorem yl_ft2 {post : SY → Prop} {d : Nat} {C : List Bool → Prop} (hd : 1 ≤ d) (hd8 : d ≤ 8) (hf : ∀ l, l.length ≤ 7 → b_fresh (rx_n l) = rx_b (C l))
    (k : ∀ st, (∀ l, l.length ≤ 7 → st ((d - 1) * 255 + rx_n l) = rx_b (C l)) → (∀ j, j < (d - 1) * 255 → st j = b_stack j) → post (nI d, g_table, g_n, st, b_lc, b_slots, b_fresh)) :
    ∀ n w st, w ≤ 255 → 255 < n + w → (∀ l, rx_n l < w → st ((d - 1) * 255 + rx_n l) = rx_b (C l)) → (∀ j, j < (d - 1) * 255 → st j = b_stack j) → wY_freshToTop_2 post (nI d) g_table g_n n (nI w) st b_lc b_slots b_fresh := by
  intro n
  induction n with
  | zero => intro w st h1 h2; omega
  | succ n ih =>
    intro w st h1 h2 h3 h4
    refine pk_le 255 w (fun h => ?_) (fun h => ?_)
    · exact k st (fun l hl => h3 l (by have := rx_n_255 hl; omega)) h4
    · have ei : (nI d - 1) * 255 + nI w = nI ((d - 1) * 255 + w) := yl_ix hd
      obtain ⟨l, hl⟩ := rx_n_ex w
      have hl7 : l.length ≤ 7 := rx_len_7 (by omega)
      refine ⟨pk_in w 255 h, pk_in ((d - 1) * 255 + w) 2040 (by omega) ei, nm_r (yl_up (w := (d - 1) * 255 + w) (y := rx_b (C l)) ?_ ?_) (nm_r (nI_1 w) ?_)⟩
      · rw [ei]; exact nI_clamp (by omega)
      · rw [nI_clamp (by omega), ← hl, hf l hl7, rx_b_n]
      · refine ih (w + 1) _ (by omega) (by omega) (fun m hm => ?_) (fun j hj => ?_)
        · by_cases z : rx_n m = w
          · have e : m = l := rx_n_inj (z.trans hl.symm)
            subst e
            rw [z]
            exact pk_us
          · rw [pk_un (by omega)]
            exact h3 m (by omega)
        · rw [pk_un (by omega)]
          exact h4 j hj
theorem yl_ftt {post : SY → Prop} {d : Nat} {C : List Bool → Prop} (hd : 1 ≤ d) (hd8 : d ≤ 8) (hf : ∀ l, l.length ≤ 7 → b_fresh (rx_n l) = rx_b (C l))
    (k : ∀ st, (∀ l, l.length ≤ 7 → st ((d - 1) * 255 + rx_n l) = rx_b (C l)) → (∀ j, j < (d - 1) * 255 → st j = b_stack j) → post (nI d, g_table, g_n, st, b_lc, b_slots, b_fresh)) : wpY_freshToTop post (nI d, g_table, g_n, b_stack, b_lc, b_slots, b_fresh) :=
  Exists.intro 256 (yl_ft2 hd hd8 hf k 256 0 b_stack (by omega) (by omega) (fun j hj => by omega) (fun j _ => rfl))
theorem yl_push {post : Int32 → SY → Prop} {d c : Nat} {C : List Bool → Prop} (hd : d < 8) (hf : ∀ l, l.length ≤ 7 → b_fresh (rx_n l) = rx_b (C l))
    (k : ∀ st, (∀ l, l.length ≤ 7 → st (d * 255 + rx_n l) = rx_b (C l)) → (∀ j, j < d * 255 → st j = b_stack j) → post (nI (d + 1)) (nI (d + 1), g_table, g_n, st, upd b_lc d (nI c), b_slots, b_fresh)) : wpY_push post (nI d, g_table, g_n, b_stack, b_lc, b_slots, b_fresh) (nI c) := by
  refine And.intro (pk_in d 8 hd) (nm_r (yl_up (nI_clamp (by omega)) rfl) (nm_r (nI_1 d) ?_))
  refine yl_ftt (d := d + 1) (C := C) (by omega) (by omega) hf (fun st h1 h2 => ?_)
  exact k st h1 h2
theorem yl_drop {post : Int32 → SY → Prop} {d : Nat} {C : List Bool → Prop} (hd : 2 ≤ d) (hd8 : d ≤ 8) (hf : ∀ l, l.length ≤ 7 → b_fresh (rx_n l) = rx_b (C l))
    (k : ∀ st, (∀ l, l.length ≤ 7 → st ((d - 2) * 255 + rx_n l) = rx_b (C l)) → (∀ j, j < (d - 2) * 255 → st j = b_stack j) → post (nI (d - 1)) (nI (d - 1), g_table, g_n, st, upd b_lc (d - 2) (b_lc (d - 2) + b_lc (d - 1)), b_slots, b_fresh)) : wpY_dropPair post (nI d, g_table, g_n, b_stack, b_lc, b_slots, b_fresh) := by
  have e1 : nI d - 1 = nI (d - 1) := pk_sub (b := 1) (by omega)
  have e2 : nI d - 2 = nI (d - 2) := pk_sub (b := 2) (by omega)
  have c1 : (nI d - 1).toNatClampNeg = d - 1 := by rw [e1]; exact nI_clamp (by omega)
  have c2 : (nI d - 2).toNatClampNeg = d - 2 := by rw [e2]; exact nI_clamp (by omega)
  refine And.intro (pk_in (d - 2) 8 (by omega) e2) (And.intro (pk_in (d - 1) 8 (by omega) e1) (And.intro (pk_in (d - 2) 8 (by omega) e2) (nm_r (yl_up c2 (by rw [c1, c2])) (nm_r e1 ?_))))
  refine yl_ftt (d := d - 1) (C := C) (by omega) (by omega) hf (fun st h1 h2 => ?_)
  exact k st h1 h2
theorem yl_let2 {post : Int32 → Prop} {d : Nat} {lo : Nat → Nat} (hd : d ≤ 8) (hl : ∀ i, i < d → lo i ≤ lo (i + 1) ∧ b_lc i = nI (lo (i + 1) - lo i)) (k : post (nI (lo d))) :
    ∀ n i, i ≤ d → d < n + i → wY_letters_4 post (nI d) g_table g_n b_stack b_lc b_slots b_fresh n (nI (lo i)) (nI i) := by
  intro n
  induction n with
  | zero => intro i h1 h2; omega
  | succ n ih =>
    intro i h1 h2
    refine pk_le d i (fun h => ?_) (fun h => ?_)
    · have e : i = d := by omega
      rw [e]
      exact k
    · have hi := hl i h
      have e : nI (lo i) + b_lc (nI i).toNatClampNeg = nI (lo (i + 1)) := by
        rw [nI_clamp (by omega), hi.2, nI_add]
        exact congrArg nI (by omega)
      exact ⟨pk_in i 8 (by omega), nm_r e (nm_r (nI_1 i) (ih (i + 1) (by omega) (by omega)))⟩
theorem yl_let {post : Int32 → Prop} {d : Nat} {lo : Nat → Nat} (hd : d ≤ 8) (h0 : lo 0 = 0) (hl : ∀ i, i < d → lo i ≤ lo (i + 1) ∧ b_lc i = nI (lo (i + 1) - lo i)) (k : post (nI (lo d))) : wpY_letters post (nI d, g_table, g_n, b_stack, b_lc, b_slots, b_fresh) := by
  have h := yl_let2 (g_table := g_table) (g_n := g_n) (b_stack := b_stack) (b_slots := b_slots) (b_fresh := b_fresh) hd hl k (d + 1) 0 (by omega) (by omega)
  rw [h0] at h
  exact Exists.intro (d + 1) h
theorem yl_top {post : Int32 → Prop} {d w : Nat} {p : Prop} (hd : 1 ≤ d) (hd8 : d ≤ 8) (hw : w < 255) (e : b_stack ((d - 1) * 255 + w) = rx_b p) (k : post (rx_b p)) : wpY_inTop post (nI d, g_table, g_n, b_stack, b_lc, b_slots, b_fresh) (nI w) := by
  have ei : (nI d - 1) * 255 + nI w = nI ((d - 1) * 255 + w) := yl_ix hd
  have ev : b_stack ((nI d - 1) * 255 + nI w).toNatClampNeg = rx_b p := by rw [ei, nI_clamp (by omega)]; exact e
  refine And.intro (pk_in ((d - 1) * 255 + w) 2040 (by omega) ei) (And.intro ?_ ?_)
  · rw [ev]; exact rx_b_w p
  · rw [ev]; exact k
theorem yl_sec {post : Int32 → Prop} {d w : Nat} {p : Prop} (hd : 2 ≤ d) (hd8 : d ≤ 8) (hw : w < 255) (e : b_stack ((d - 2) * 255 + w) = rx_b p) (k : post (rx_b p)) : wpY_inSecond post (nI d, g_table, g_n, b_stack, b_lc, b_slots, b_fresh) (nI w) := by
  have ei : (nI d - 2) * 255 + nI w = nI ((d - 2) * 255 + w) := yl_ix hd
  have ev : b_stack ((nI d - 2) * 255 + nI w).toNatClampNeg = rx_b p := by rw [ei, nI_clamp (by omega)]; exact e
  refine And.intro (pk_in ((d - 2) * 255 + w) 2040 (by omega) ei) (And.intro ?_ ?_)
  · rw [ev]; exact rx_b_w p
  · rw [ev]; exact k
/-! concatenation -/
theorem rx_br {p A B : Prop} (f : ¬ p → A) (g : p → B) : (rx_b p = 0 → A) ∧ (¬ rx_b p = 0 → B) :=
  ⟨fun h => f (rx_b_0.mp h), fun h => g (Classical.byContradiction fun z => h (rx_b_0.mpr z))⟩
theorem yl_spl8 {post : Int32 → Prop} {d : Nat} {A B : List Bool → Prop} {l : List Bool} (hd : 2 ≤ d) (hd8 : d ≤ 8) (hA : ∀ l, l.length ≤ 7 → b_stack ((d - 2) * 255 + rx_n l) = rx_b (A l)) (hB : ∀ l, l.length ≤ 7 → b_stack ((d - 1) * 255 + rx_n l) = rx_b (B l))
    (hl : l.length ≤ 7) (k : post (rx_b (∃ u v, l = u ++ v ∧ A u ∧ B v))) : ∀ n p, p ≤ l.length + 1 → l.length + 1 < n + p → (∀ q, q < p → ¬ (A (l.take q) ∧ B (l.drop q))) → wY_splits_8 post (nI (rx_n l)) (nI l.length) (nI d) g_table g_n b_stack b_lc b_slots b_fresh n (nI p) := by
  intro n
  induction n with
  | zero => intro p h1 h2; omega
  | succ n ih =>
    intro p h1 h2 h3
    have nx : ¬ (A (l.take p) ∧ B (l.drop p)) → ¬ l.length < p → wY_splits_8 post (nI (rx_n l)) (nI l.length) (nI d) g_table g_n b_stack b_lc b_slots b_fresh n (nI (p + 1)) := by
      intro hn hp
      refine ih (p + 1) (by omega) (by omega) (fun q hq => ?_)
      by_cases z : q = p
      · rw [z]; exact hn
      · exact h3 q (by omega)
    refine pk_lt l.length p (fun h => ?_) (fun h => ?_)
    · rw [rx_b_f] at k
      · exact k
      · intro ⟨u, v, e, a, b⟩
        have hu : u.length < p := by rw [e, List.length_append] at h; omega
        refine h3 u.length hu ?_
        rw [e, List.take_left, List.drop_left]
        exact ⟨a, b⟩
    · have ht : (l.take p).length ≤ 7 := by rw [List.length_take]; omega
      have hdr : (l.drop p).length ≤ 7 := by rw [List.length_drop]; omega
      refine yl_preL hl h (yl_sufL hl h (yl_sec hd hd8 (rx_n_255 ht) (hA _ ht) (rx_br (fun ha => ?_) (fun ha => ?_))))
      · exact nm_r (nI_1 p) (nx (fun z => ha z.1) (by omega))
      · refine yl_top (by omega) hd8 (rx_n_255 hdr) (hB _ hdr) (rx_br (fun hb => ?_) (fun hb => ?_))
        · exact nm_r (nI_1 p) (nx (fun z => hb z.2) (by omega))
        · rw [rx_b_t ⟨l.take p, l.drop p, (List.take_append_drop p l).symm, ha, hb⟩] at k
          exact k
theorem yl_spl {post : Int32 → Prop} {d : Nat} {A B : List Bool → Prop} {l : List Bool} (hd : 2 ≤ d) (hd8 : d ≤ 8) (hA : ∀ l, l.length ≤ 7 → b_stack ((d - 2) * 255 + rx_n l) = rx_b (A l)) (hB : ∀ l, l.length ≤ 7 → b_stack ((d - 1) * 255 + rx_n l) = rx_b (B l))
    (hl : l.length ≤ 7) (k : post (rx_b (∃ u v, l = u ++ v ∧ A u ∧ B v))) : wpY_splits post (nI d, g_table, g_n, b_stack, b_lc, b_slots, b_fresh) (nI (rx_n l)) := by
  unfold wpY_splits
  refine yl_len hl (rx_lv_n l) ?_
  exact Exists.intro (l.length + 2) (yl_spl8 hd hd8 hA hB hl k (l.length + 2) 0 (by omega) (by omega) (fun q hq => by omega))
theorem yc_cat2 {post : Int32 → SY → Prop} {d : Nat} {A B : List Bool → Prop} (hd : 2 ≤ d) (hd8 : d ≤ 8) (hA : ∀ l, l.length ≤ 7 → b_stack ((d - 2) * 255 + rx_n l) = rx_b (A l)) (hB : ∀ l, l.length ≤ 7 → b_stack ((d - 1) * 255 + rx_n l) = rx_b (B l))
    (k : ∀ st fr, (∀ l, l.length ≤ 7 → st ((d - 2) * 255 + rx_n l) = rx_b (∃ u v, l = u ++ v ∧ A u ∧ B v)) → (∀ j, j < (d - 2) * 255 → st j = b_stack j) → post (nI (d - 1)) (nI (d - 1), g_table, g_n, st, upd b_lc (d - 2) (b_lc (d - 2) + b_lc (d - 1)), b_slots, fr)) :
    ∀ n w fr, w ≤ 255 → 255 < n + w → (∀ l, rx_n l < w → fr (rx_n l) = rx_b (∃ u v, l = u ++ v ∧ A u ∧ B v)) → wY_cat_13 post (nI d) g_table g_n n (nI w) b_stack b_lc b_slots fr := by
  intro n
  induction n with
  | zero => intro w fr h1 h2; omega
  | succ n ih =>
    intro w fr h1 h2 h3
    refine pk_le 255 w (fun h => ?_) (fun h => ?_)
    · refine yl_drop (C := fun l => ∃ u v, l = u ++ v ∧ A u ∧ B v) hd hd8 (fun l hl => h3 l (by have := rx_n_255 hl; omega)) (fun st a b => ?_)
      exact k st fr a b
    · obtain ⟨l, hl⟩ := rx_n_ex w
      have hl7 : l.length ≤ 7 := rx_len_7 (by omega)
      have key := yl_fs (C := fun l => ∃ u v, l = u ++ v ∧ A u ∧ B v) hl h3
      subst hl
      refine yl_spl hd hd8 hA hB hl7 ?_
      exact ⟨pk_in _ 255 h, nm_r (yl_up (nI_clamp (by omega)) (rx_b_n _)) (nm_r (nI_1 _) (ih _ _ (by omega) (by omega) key))⟩
theorem yc_cat {post : Int32 → SY → Prop} {d : Nat} {A B : List Bool → Prop} (hd : 2 ≤ d) (hd8 : d ≤ 8) (hA : ∀ l, l.length ≤ 7 → b_stack ((d - 2) * 255 + rx_n l) = rx_b (A l)) (hB : ∀ l, l.length ≤ 7 → b_stack ((d - 1) * 255 + rx_n l) = rx_b (B l))
    (k : ∀ st fr, (∀ l, l.length ≤ 7 → st ((d - 2) * 255 + rx_n l) = rx_b (∃ u v, l = u ++ v ∧ A u ∧ B v)) → (∀ j, j < (d - 2) * 255 → st j = b_stack j) → post (nI (d - 1)) (nI (d - 1), g_table, g_n, st, upd b_lc (d - 2) (b_lc (d - 2) + b_lc (d - 1)), b_slots, fr)) :
    wpY_cat post (nI d, g_table, g_n, b_stack, b_lc, b_slots, b_fresh) :=
  br_t (nI_le (a := 2) hd (by omega)) (Exists.intro 256 (yc_cat2 hd hd8 hA hB k 256 0 b_fresh (by omega) (by omega) (fun j hj => by omega)))
/-! union -/
theorem yc_alt2 {post : Int32 → SY → Prop} {d : Nat} {A B : List Bool → Prop} (hd : 2 ≤ d) (hd8 : d ≤ 8) (hA : ∀ l, l.length ≤ 7 → b_stack ((d - 2) * 255 + rx_n l) = rx_b (A l)) (hB : ∀ l, l.length ≤ 7 → b_stack ((d - 1) * 255 + rx_n l) = rx_b (B l))
    (k : ∀ st fr, (∀ l, l.length ≤ 7 → st ((d - 2) * 255 + rx_n l) = rx_b (A l ∨ B l)) → (∀ j, j < (d - 2) * 255 → st j = b_stack j) → post (nI (d - 1)) (nI (d - 1), g_table, g_n, st, upd b_lc (d - 2) (b_lc (d - 2) + b_lc (d - 1)), b_slots, fr)) :
    ∀ n w fr, w ≤ 255 → 255 < n + w → (∀ l, rx_n l < w → fr (rx_n l) = rx_b (A l ∨ B l)) → wY_alt_13 post (nI d) g_table g_n n (nI w) b_stack b_lc b_slots fr := by
  intro n
  induction n with
  | zero => intro w fr h1 h2; omega
  | succ n ih =>
    intro w fr h1 h2 h3
    refine pk_le 255 w (fun h => ?_) (fun h => ?_)
    · refine yl_drop (C := fun l => A l ∨ B l) hd hd8 (fun l hl => h3 l (by have := rx_n_255 hl; omega)) (fun st a b => ?_)
      exact k st fr a b
    · obtain ⟨l, hl⟩ := rx_n_ex w
      have hl7 : l.length ≤ 7 := rx_len_7 (by omega)
      have key := yl_fs (C := fun l => A l ∨ B l) hl h3
      subst hl
      have fin : ∀ x : Int32, x = rx_b (A l ∨ B l) → vp_in (nI (rx_n l)) 255 ∧ ∀ a : Nat → Int32, a = upd fr (nI (rx_n l)).toNatClampNeg (vp_nar .boolean x) → ∀ y : Int32, y = nI (rx_n l) + 1 → wY_alt_13 post (nI d) g_table g_n n y b_stack b_lc b_slots a := by
        intro x hx
        rw [hx]
        exact ⟨pk_in _ 255 h, nm_r (yl_up (nI_clamp (by omega)) (rx_b_n _)) (nm_r (nI_1 _) (ih _ _ (by omega) (by omega) key))⟩
      refine yl_sec hd hd8 h (hA l hl7) (rx_br (fun ha => ?_) (fun ha => ?_))
      · refine yl_top (by omega) hd8 h (hB l hl7) (rx_br (fun hb => ?_) (fun hb => ?_))
        · exact fin 0 (rx_b_f (fun z => z.elim ha hb)).symm
        · exact fin 1 (rx_b_t (Or.inr hb)).symm
      · exact fin 1 (rx_b_t (Or.inl ha)).symm
theorem yc_alt {post : Int32 → SY → Prop} {d : Nat} {A B : List Bool → Prop} (hd : 2 ≤ d) (hd8 : d ≤ 8) (hA : ∀ l, l.length ≤ 7 → b_stack ((d - 2) * 255 + rx_n l) = rx_b (A l)) (hB : ∀ l, l.length ≤ 7 → b_stack ((d - 1) * 255 + rx_n l) = rx_b (B l))
    (k : ∀ st fr, (∀ l, l.length ≤ 7 → st ((d - 2) * 255 + rx_n l) = rx_b (A l ∨ B l)) → (∀ j, j < (d - 2) * 255 → st j = b_stack j) → post (nI (d - 1)) (nI (d - 1), g_table, g_n, st, upd b_lc (d - 2) (b_lc (d - 2) + b_lc (d - 1)), b_slots, fr)) :
    wpY_alt post (nI d, g_table, g_n, b_stack, b_lc, b_slots, b_fresh) :=
  br_t (nI_le (a := 2) hd (by omega)) (Exists.intro 256 (yc_alt2 hd hd8 hA hB k 256 0 b_fresh (by omega) (by omega) (fun j hj => by omega)))
end
end
section
/-! the reference: repetition, mirror, store, letters -/
section
variable {g_depth g_table g_n : Int32} {b_stack b_lc b_slots b_fresh : Nat → Int32}
theorem yl_chn8 {post : Int32 → Prop} {d : Nat} {A B : List Bool → Prop} {l : List Bool} (hd : 1 ≤ d) (hd8 : d ≤ 8) (hA : ∀ l, l.length ≤ 7 → b_stack ((d - 1) * 255 + rx_n l) = rx_b (A l))
    (hfr : ∀ m, rx_n m < rx_n l → b_fresh (rx_n m) = rx_b (B m)) (hB : B l ↔ ∃ u v, l = u ++ v ∧ u ≠ [] ∧ A u ∧ (v = [] ∨ B v))
    (hl : l.length ≤ 7) (k : post (rx_b (B l))) : ∀ n p, 1 ≤ p → p ≤ l.length + 1 → l.length + 1 < n + p → (∀ q, 1 ≤ q → q < p → ¬ (A (l.take q) ∧ (q = l.length ∨ B (l.drop q)))) → wY_chains_8 post (nI (rx_n l)) (nI l.length) (nI d) g_table g_n b_stack b_lc b_slots b_fresh n (nI p) := by
  intro n
  induction n with
  | zero => intro p h0 h1 h2; omega
  | succ n ih =>
    intro p h0 h1 h2 h3
    have nx : ¬ (A (l.take p) ∧ (p = l.length ∨ B (l.drop p))) → ¬ l.length < p → wY_chains_8 post (nI (rx_n l)) (nI l.length) (nI d) g_table g_n b_stack b_lc b_slots b_fresh n (nI (p + 1)) := by
      intro hn hp
      refine ih (p + 1) (by omega) (by omega) (by omega) (fun q h0 hq => ?_)
      by_cases z : q = p
      · rw [z]; exact hn
      · exact h3 q h0 (by omega)
    refine pk_lt l.length p (fun h => ?_) (fun h => ?_)
    · rw [rx_b_f] at k
      · exact k
      · intro hb
        obtain ⟨u, v, e, hu, a, b⟩ := hB.mp hb
        have hu1 : 1 ≤ u.length := by
          cases u with
          | nil => exact absurd rfl hu
          | cons c u => rw [List.length_cons]; omega
        have hu2 : u.length < p := by rw [e, List.length_append] at h; omega
        refine h3 u.length hu1 hu2 ?_
        constructor
        · rw [e, List.take_left]; exact a
        · rcases b with b | b
          · left; rw [e, b, List.append_nil]
          · right; rw [e, List.drop_left]; exact b
    · have ht : (l.take p).length ≤ 7 := by rw [List.length_take]; omega
      have hdr : (l.drop p).length ≤ 7 := by rw [List.length_drop]; omega
      have hne : l.take p ≠ [] := by
        intro z
        have := congrArg List.length z
        rw [List.length_take, List.length_nil] at this
        omega
      refine yl_preL hl h (yl_sufL hl h (yl_top hd hd8 (rx_n_255 ht) (hA _ ht) (rx_br (fun ha => ?_) (fun ha => ?_))))
      · exact nm_r (nI_1 p) (nx (fun z => ha z.1) (by omega))
      · refine pk_eq p l.length (fun e => ?_) (fun e => ?_)
        · have hb : B l := hB.mpr ⟨l.take p, l.drop p, (List.take_append_drop p l).symm, hne, ha, Or.inl (by rw [e]; exact List.drop_length)⟩
          rw [rx_b_t hb] at k
          exact k
        · have hlt := rx_n_drop_lt h h0
          have h255 := rx_n_255 hdr
          have ev : b_fresh (nI (rx_n (l.drop p))).toNatClampNeg = rx_b (B (l.drop p)) := by rw [nI_clamp (by omega)]; exact hfr _ hlt
          refine ⟨pk_in _ 255 h255, ?_⟩
          rw [ev]
          refine rx_br (fun hb => ?_) (fun hb => ?_)
          · exact nm_r (nI_1 p) (nx (fun z => z.2.elim (fun z => e z) hb) (by omega))
          · have hb' : B l := hB.mpr ⟨l.take p, l.drop p, (List.take_append_drop p l).symm, hne, ha, Or.inr hb⟩
            rw [rx_b_t hb'] at k
            exact k
theorem yl_chn {post : Int32 → Prop} {d : Nat} {A B : List Bool → Prop} {l : List Bool} (hd : 1 ≤ d) (hd8 : d ≤ 8) (hA : ∀ l, l.length ≤ 7 → b_stack ((d - 1) * 255 + rx_n l) = rx_b (A l))
    (hfr : ∀ m, rx_n m < rx_n l → b_fresh (rx_n m) = rx_b (B m)) (hB : B l ↔ ∃ u v, l = u ++ v ∧ u ≠ [] ∧ A u ∧ (v = [] ∨ B v))
    (hl : l.length ≤ 7) (k : post (rx_b (B l))) : wpY_chains post (nI d, g_table, g_n, b_stack, b_lc, b_slots, b_fresh) (nI (rx_n l)) := by
  unfold wpY_chains
  refine yl_len hl (rx_lv_n l) ?_
  exact Exists.intro (l.length + 2) (yl_chn8 hd hd8 hA hfr hB hl k (l.length + 2) 1 (by omega) (by omega) (by omega) (fun q h0 hq => by omega))
theorem rx_n_nil : rx_n [] = 0 := rfl
theorem yc_rep2 {post : Int32 → SY → Prop} {d : Nat} {A B : List Bool → Prop} (hd : 1 ≤ d) (hd8 : d ≤ 8) (hA : ∀ l, l.length ≤ 7 → b_stack ((d - 1) * 255 + rx_n l) = rx_b (A l))
    (hB : ∀ l, l ≠ [] → (B l ↔ ∃ u v, l = u ++ v ∧ u ≠ [] ∧ A u ∧ (v = [] ∨ B v)))
    (k : ∀ st fr, (∀ l, l.length ≤ 7 → st ((d - 1) * 255 + rx_n l) = rx_b (B l)) → (∀ j, j < (d - 1) * 255 → st j = b_stack j) → post (nI d) (nI d, g_table, g_n, st, b_lc, b_slots, fr)) :
    ∀ n w fr, 1 ≤ w → w ≤ 255 → 255 < n + w → (∀ l, rx_n l < w → fr (rx_n l) = rx_b (B l)) → wY_repeated_9 post (nI d) g_table g_n n (nI w) b_stack b_lc b_slots fr := by
  intro n
  induction n with
  | zero => intro w fr h0 h1 h2; omega
  | succ n ih =>
    intro w fr h0 h1 h2 h3
    refine pk_le 255 w (fun h => ?_) (fun h => ?_)
    · refine yl_ftt (C := B) hd hd8 (fun l hl => h3 l (by have := rx_n_255 hl; omega)) (fun st a b => ?_)
      exact k st fr a b
    · obtain ⟨l, hl⟩ := rx_n_ex w
      have hl7 : l.length ≤ 7 := rx_len_7 (by omega)
      have hne : l ≠ [] := by intro z; rw [z, rx_n_nil] at hl; omega
      have key := yl_fs (C := B) hl h3
      subst hl
      refine yl_chn hd hd8 hA h3 (hB l hne) hl7 ?_
      exact ⟨pk_in _ 255 h, nm_r (yl_up (nI_clamp (by omega)) (rx_b_n _)) (nm_r (nI_1 _) (ih _ _ (by omega) (by omega) (by omega) key))⟩
theorem yc_rep {post : Int32 → SY → Prop} {d : Nat} {A B : List Bool → Prop} {e : Int32} (hd : 1 ≤ d) (hd8 : d ≤ 8) (hA : ∀ l, l.length ≤ 7 → b_stack ((d - 1) * 255 + rx_n l) = rx_b (A l))
    (hB : ∀ l, l ≠ [] → (B l ↔ ∃ u v, l = u ++ v ∧ u ≠ [] ∧ A u ∧ (v = [] ∨ B v))) (he : e = rx_b (B []))
    (k : ∀ st fr, (∀ l, l.length ≤ 7 → st ((d - 1) * 255 + rx_n l) = rx_b (B l)) → (∀ j, j < (d - 1) * 255 → st j = b_stack j) → post (nI d) (nI d, g_table, g_n, st, b_lc, b_slots, fr)) :
    wpY_repeated post (nI d, g_table, g_n, b_stack, b_lc, b_slots, b_fresh) e := by
  have h1 : upd b_fresh 0 (vp_nar .boolean e) = upd b_fresh 0 (rx_b (B [])) := by rw [he, rx_b_n]
  refine nm_r h1 (Exists.intro 256 (yc_rep2 hd hd8 hA hB k 256 1 _ (by omega) (by omega) (by omega) (fun l hl => ?_)))
  have e0 : l = [] := rx_n_inj (by rw [rx_n_nil]; omega)
  subst e0
  exact pk_us
theorem yc_star {post : Int32 → SY → Prop} {d : Nat} {A B : List Bool → Prop} (hd : 1 ≤ d) (hd8 : d ≤ 8) (hA : ∀ l, l.length ≤ 7 → b_stack ((d - 1) * 255 + rx_n l) = rx_b (A l))
    (hB : ∀ l, l ≠ [] → (B l ↔ ∃ u v, l = u ++ v ∧ u ≠ [] ∧ A u ∧ (v = [] ∨ B v))) (he : B [])
    (k : ∀ st fr, (∀ l, l.length ≤ 7 → st ((d - 1) * 255 + rx_n l) = rx_b (B l)) → (∀ j, j < (d - 1) * 255 → st j = b_stack j) → post (nI d) (nI d, g_table, g_n, st, b_lc, b_slots, fr)) :
    wpY_star post (nI d, g_table, g_n, b_stack, b_lc, b_slots, b_fresh) := by
  refine br_f (nI_ne0 (by omega) (by omega)) ?_
  refine yc_rep hd hd8 hA hB (rx_b_t he).symm (fun st fr a b => ?_)
  exact k st fr a b
theorem yc_plus {post : Int32 → SY → Prop} {d : Nat} {A B : List Bool → Prop} (hd : 1 ≤ d) (hd8 : d ≤ 8) (hA : ∀ l, l.length ≤ 7 → b_stack ((d - 1) * 255 + rx_n l) = rx_b (A l))
    (hB : ∀ l, l ≠ [] → (B l ↔ ∃ u v, l = u ++ v ∧ u ≠ [] ∧ A u ∧ (v = [] ∨ B v))) (he : B [] ↔ A [])
    (k : ∀ st fr, (∀ l, l.length ≤ 7 → st ((d - 1) * 255 + rx_n l) = rx_b (B l)) → (∀ j, j < (d - 1) * 255 → st j = b_stack j) → post (nI d) (nI d, g_table, g_n, st, b_lc, b_slots, fr)) :
    wpY_plus post (nI d, g_table, g_n, b_stack, b_lc, b_slots, b_fresh) := by
  refine br_f (nI_ne0 (by omega) (by omega)) ?_
  have h0 : b_stack ((d - 1) * 255 + 0) = rx_b (A []) := hA [] (by simp)
  refine yl_top (w := 0) hd hd8 (by omega) h0 ?_
  refine yc_rep hd hd8 hA hB (rx_b_e he).symm (fun st fr a b => ?_)
  exact k st fr a b
theorem yc_opt {post : Int32 → SY → Prop} {d : Nat} {A : List Bool → Prop} (hd : 1 ≤ d) (hd8 : d ≤ 8) (hA : ∀ l, l.length ≤ 7 → b_stack ((d - 1) * 255 + rx_n l) = rx_b (A l))
    (k : ∀ st, (∀ l, l.length ≤ 7 → st ((d - 1) * 255 + rx_n l) = rx_b (l = [] ∨ A l)) → (∀ j, j < (d - 1) * 255 → st j = b_stack j) → post (nI d) (nI d, g_table, g_n, st, b_lc, b_slots, b_fresh)) :
    wpY_opt post (nI d, g_table, g_n, b_stack, b_lc, b_slots, b_fresh) := by
  refine br_f (nI_ne0 (by omega) (by omega)) ?_
  have ei : (nI d - 1) * 255 = nI ((d - 1) * 255) := by
    rw [show (1 : Int32) = nI 1 from rfl, show (255 : Int32) = nI 255 from rfl, pk_sub hd, pk_mul]
  refine ⟨pk_in ((d - 1) * 255) 2040 (by omega) ei, nm_r (yl_up (w := (d - 1) * 255) (y := 1) (by rw [ei]; exact nI_clamp (by omega)) rx_nar1) ?_⟩
  refine k _ (fun l hl => ?_) (fun j hj => pk_un (by omega))
  by_cases z : l = []
  · subst z
    rw [rx_n_nil, Nat.add_zero, rx_b_t (Or.inl rfl)]
    exact pk_us
  · have : rx_n l ≠ 0 := fun z' => z (rx_n_inj z')
    rw [pk_un (by omega), hA l hl]
    exact rx_b_e ⟨Or.inr, fun h => h.elim (fun h => absurd h z) id⟩
theorem yc_rev2 {post : Int32 → SY → Prop} {d : Nat} {A : List Bool → Prop} (hd : 1 ≤ d) (hd8 : d ≤ 8) (hA : ∀ l, l.length ≤ 7 → b_stack ((d - 1) * 255 + rx_n l) = rx_b (A l))
    (k : ∀ st fr, (∀ l, l.length ≤ 7 → st ((d - 1) * 255 + rx_n l) = rx_b (A l.reverse)) → (∀ j, j < (d - 1) * 255 → st j = b_stack j) → post (nI d) (nI d, g_table, g_n, st, b_lc, b_slots, fr)) :
    ∀ n w fr, w ≤ 255 → 255 < n + w → (∀ l, rx_n l < w → fr (rx_n l) = rx_b (A l.reverse)) → wY_reverse_12 post (nI d) g_table g_n n (nI w) b_stack b_lc b_slots fr := by
  intro n
  induction n with
  | zero => intro w fr h1 h2; omega
  | succ n ih =>
    intro w fr h1 h2 h3
    refine pk_le 255 w (fun h => ?_) (fun h => ?_)
    · refine yl_ftt (C := fun l => A l.reverse) hd hd8 (fun l hl => h3 l (by have := rx_n_255 hl; omega)) (fun st a b => ?_)
      exact k st fr a b
    · obtain ⟨l, hl⟩ := rx_n_ex w
      have hl7 : l.length ≤ 7 := rx_len_7 (by omega)
      have key := yl_fs (C := fun l => A l.reverse) hl h3
      subst hl
      have hr : l.reverse.length ≤ 7 := by rw [List.length_reverse]; exact hl7
      refine yl_mir hl7 (yl_top hd hd8 (rx_n_255 hr) (hA _ hr) ?_)
      exact ⟨pk_in _ 255 h, nm_r (yl_up (nI_clamp (by omega)) (rx_b_n _)) (nm_r (nI_1 _) (ih _ _ (by omega) (by omega) key))⟩
theorem yc_rev {post : Int32 → SY → Prop} {d : Nat} {A : List Bool → Prop} (hd : 1 ≤ d) (hd8 : d ≤ 8) (hA : ∀ l, l.length ≤ 7 → b_stack ((d - 1) * 255 + rx_n l) = rx_b (A l))
    (k : ∀ st fr, (∀ l, l.length ≤ 7 → st ((d - 1) * 255 + rx_n l) = rx_b (A l.reverse)) → (∀ j, j < (d - 1) * 255 → st j = b_stack j) → post (nI d) (nI d, g_table, g_n, st, b_lc, b_slots, fr)) :
    wpY_reverse post (nI d, g_table, g_n, b_stack, b_lc, b_slots, b_fresh) :=
  br_f (nI_ne0 (by omega) (by omega)) (Exists.intro 256 (yc_rev2 hd hd8 hA k 256 0 b_fresh (by omega) (by omega) (fun j hj => by omega)))
theorem yc_sto2 {post : Int32 → SY → Prop} {d s : Nat} {A : List Bool → Prop} (hd : 1 ≤ d) (hd8 : d ≤ 8) (hs : s < 3) (hA : ∀ l, l.length ≤ 7 → b_stack ((d - 1) * 255 + rx_n l) = rx_b (A l))
    (k : ∀ sl, (∀ l, l.length ≤ 7 → sl (s * 255 + rx_n l) = rx_b (A l)) → (∀ j, j < s * 255 ∨ s * 255 + 255 ≤ j → sl j = b_slots j) → post (nI (d - 1)) (nI (d - 1), g_table, g_n, b_stack, b_lc, sl, b_fresh)) :
    ∀ n w sl, w ≤ 255 → 255 < n + w → (∀ l, rx_n l < w → sl (s * 255 + rx_n l) = rx_b (A l)) → (∀ j, j < s * 255 ∨ s * 255 + 255 ≤ j → sl j = b_slots j) → wY_store_23 post (nI s) (nI d) g_table g_n n (nI w) b_stack b_lc sl b_fresh := by
  intro n
  induction n with
  | zero => intro w sl h1 h2; omega
  | succ n ih =>
    intro w sl h1 h2 h3 h4
    refine pk_le 255 w (fun h => ?_) (fun h => ?_)
    · refine nm_r (pk_sub (b := 1) hd) ?_
      exact k sl (fun l hl => h3 l (by have := rx_n_255 hl; omega)) h4
    · obtain ⟨l, hl⟩ := rx_n_ex w
      have hl7 : l.length ≤ 7 := rx_len_7 (by omega)
      have ei : nI s * 255 + nI w = nI (s * 255 + w) := by rw [show (255 : Int32) = nI 255 from rfl, pk_mul, nI_add]
      refine yl_top (p := A l) hd hd8 h (by rw [← hl]; exact hA l hl7) ?_
      refine ⟨pk_in (s * 255 + w) 765 (by omega) ei, nm_r (yl_up (w := s * 255 + w) (by rw [ei]; exact nI_clamp (by omega)) (rx_b_n _)) (nm_r (nI_1 w) ?_)⟩
      refine ih (w + 1) _ (by omega) (by omega) (fun m hm => ?_) (fun j hj => ?_)
      · by_cases z : rx_n m = w
        · have e : m = l := rx_n_inj (z.trans hl.symm)
          subst e
          rw [z]
          exact pk_us
        · rw [pk_un (by omega)]
          exact h3 m (by omega)
      · rw [pk_un (by omega)]
        exact h4 j hj
theorem yc_sto {post : Int32 → SY → Prop} {d s : Nat} {A : List Bool → Prop} (hd : 1 ≤ d) (hd8 : d ≤ 8) (hs : s < 3) (hA : ∀ l, l.length ≤ 7 → b_stack ((d - 1) * 255 + rx_n l) = rx_b (A l))
    (k : ∀ sl, (∀ l, l.length ≤ 7 → sl (s * 255 + rx_n l) = rx_b (A l)) → (∀ j, j < s * 255 ∨ s * 255 + 255 ≤ j → sl j = b_slots j) → post (nI (d - 1)) (nI (d - 1), g_table, g_n, b_stack, b_lc, sl, b_fresh)) :
    wpY_store post (nI d, g_table, g_n, b_stack, b_lc, b_slots, b_fresh) (nI s) :=
  br_f (nI_pos (by omega)) (br_t (nI_le (b := 2) (by omega) (by omega)) (br_f (nI_ne0 (by omega) (by omega)) (Exists.intro 256 (yc_sto2 hd hd8 hs hA k 256 0 b_slots (by omega) (by omega) (fun j hj => by omega) (fun j _ => rfl)))))
/-! pushes -/
theorem yc_unit {post : Int32 → SY → Prop} {d : Nat} (hd : d < 8)
    (k : ∀ st fr, (∀ l, l.length ≤ 7 → st (d * 255 + rx_n l) = rx_b (l = [])) → (∀ j, j < d * 255 → st j = b_stack j) → post (nI (d + 1)) (nI (d + 1), g_table, g_n, st, upd b_lc d (nI 0), b_slots, fr)) :
    wpY_unit post (nI d, g_table, g_n, b_stack, b_lc, b_slots, b_fresh) := by
  refine pk_eq d 8 (fun h => by omega) (fun _ => ?_)
  refine yl_cf (fun fr hfr => ?_)
  refine nm_e ?_
  refine yl_push (c := 0) (C := fun l => l = []) hd (fun l hl => ?_) (fun st a b => ?_)
  · by_cases z : l = []
    · subst z
      rw [rx_n_nil, rx_b_t rfl]
      exact pk_us
    · have : rx_n l ≠ 0 := fun z' => z (rx_n_inj z')
      rw [pk_un (by omega), hfr _ (rx_n_255 hl), rx_b_f z]
  · exact k st _ a b
theorem yc_none {post : Int32 → SY → Prop} {d : Nat} (hd : d < 8)
    (k : ∀ st fr, (∀ l, l.length ≤ 7 → st (d * 255 + rx_n l) = rx_b False) → (∀ j, j < d * 255 → st j = b_stack j) → post (nI (d + 1)) (nI (d + 1), g_table, g_n, st, upd b_lc d (nI 0), b_slots, fr)) :
    wpY_none post (nI d, g_table, g_n, b_stack, b_lc, b_slots, b_fresh) := by
  refine pk_eq d 8 (fun h => by omega) (fun _ => ?_)
  refine yl_cf (fun fr hfr => ?_)
  refine yl_push (c := 0) (C := fun l => False) hd (fun l hl => ?_) (fun st a b => ?_)
  · rw [hfr _ (rx_n_255 hl), rx_b_f (fun z => z)]
  · exact k st _ a b
/-- the language of one letter of kind c -/
def rx_lt (c : Nat) : Bool → Prop
  | true => c ≠ 0
  | false => c ≠ 1
theorem rx_n_1 {l : List Bool} (h : rx_n l = 1) : l = [false] := rx_n_inj (h.trans (by decide))
theorem rx_n_2 {l : List Bool} (h : rx_n l = 2) : l = [true] := rx_n_inj (h.trans (by decide))
theorem yc_letter {post : Int32 → SY → Prop} {d c : Nat} {lo : Nat → Nat} (hc : c ≤ 2) (hd : d < 8) (h0 : lo 0 = 0) (hl : ∀ i, i < d → lo i ≤ lo (i + 1) ∧ b_lc i = nI (lo (i + 1) - lo i)) (h12 : lo d < 12)
    (k : ∀ st fr, (∀ l, l.length ≤ 7 → st (d * 255 + rx_n l) = rx_b (∃ b, l = [b] ∧ rx_lt c b)) → (∀ j, j < d * 255 → st j = b_stack j) → post (nI (d + 1)) (nI (d + 1), g_table, g_n, st, upd b_lc d (nI 1), b_slots, fr)) :
    wpY_letter post (nI d, g_table, g_n, b_stack, b_lc, b_slots, b_fresh) (nI c) := by
  have fin : ∀ fr : Nat → Int32, (∀ w, w < 255 → w ≠ 1 → w ≠ 2 → fr w = 0) → fr 1 = rx_b (c ≠ 1) → fr 2 = rx_b (c ≠ 0) → wY_letter_62 post (nI d) g_table g_n b_stack b_lc b_slots fr := by
    intro fr f0 f1 f2
    refine yl_push (c := 1) (C := fun l => ∃ b, l = [b] ∧ rx_lt c b) hd (fun l hl => ?_) (fun st a b => ?_)
    · by_cases z1 : rx_n l = 1
      · have e := rx_n_1 z1
        rw [z1, f1]
        refine rx_b_e ⟨fun h => ⟨false, e, h⟩, fun ⟨b, e', h⟩ => ?_⟩
        have e2 : b = false := by rw [e] at e'; simpa using e'.symm
        subst e2
        exact h
      · by_cases z2 : rx_n l = 2
        · have e := rx_n_2 z2
          rw [z2, f2]
          refine rx_b_e ⟨fun h => ⟨true, e, h⟩, fun ⟨b, e', h⟩ => ?_⟩
          have e2 : b = true := by rw [e] at e'; simpa using e'.symm
          subst e2
          exact h
        · rw [f0 _ (rx_n_255 hl) z1 z2, rx_b_f]
          intro ⟨b, e, _⟩
          cases b
          · exact z1 (by rw [e]; decide)
          · exact z2 (by rw [e]; decide)
    · exact k st _ a b
  refine br_f (nI_pos (by omega)) (br_t (nI_le (b := 2) hc (by omega)) ?_)
  refine pk_eq d 8 (fun h => by omega) (fun _ => ?_)
  refine yl_let (lo := lo) (by omega) h0 hl ?_
  refine pk_eq (lo d) 12 (fun h => by omega) (fun _ => ?_)
  refine yl_cf (fun fr hfr => ?_)
  refine pk_eq c 1 (fun h1 => ?_) (fun h1 => ?_)
  · refine pk_eq c 0 (fun h => by omega) (fun h => nm_e ?_)
    refine fin _ (fun w hw a b => ?_) ?_ ?_
    · rw [pk_un b]; exact hfr w hw
    · rw [pk_un (by decide), hfr 1 (by omega), rx_b_f (fun z => z h1)]
    · rw [rx_b_t h]; exact pk_us
  · refine nm_e ?_
    refine pk_eq c 0 (fun h => ?_) (fun h => nm_e ?_)
    · refine fin _ (fun w hw a b => ?_) ?_ ?_
      · rw [pk_un a]; exact hfr w hw
      · rw [rx_b_t h1]; exact pk_us
      · rw [pk_un (by decide), hfr 2 (by omega), rx_b_f (fun z => z h)]
    · refine fin _ (fun w hw a b => ?_) ?_ ?_
      · rw [pk_un b, pk_un a]; exact hfr w hw
      · rw [pk_un (by decide), rx_b_t h1]; exact pk_us
      · rw [rx_b_t h]; exact pk_us
end
end
section
/-! the component: its stack -/
section
variable {f_longest f_height f_places f_table f_fresh f_nodes : Int32} {a_low a_first a_last a_empty a_kind a_follow a_turned a_slotFirst a_slotLast a_slotEmpty a_slotZeros a_slotOnes a_slotFollow a_layer a_set0 a_set1 a_set2 a_kid0 a_kid1 a_hit a_ways a_group : Nat → Int32}
theorem xp_push {post : SX → Prop} {h : Nat} {p0 p1 e : Int32} (hh : h < 8) (he : e = 0 ∨ e = 1)
    (k : post (f_longest, nI (h + 1), f_places, f_table, f_fresh, f_nodes, upd a_low h f_places, upd a_first h p0, upd a_last h p1, upd a_empty h e, a_kind, a_follow, a_turned, a_slotFirst, a_slotLast, a_slotEmpty, a_slotZeros, a_slotOnes, a_slotFollow, a_layer, a_set0, a_set1, a_set2, a_kid0, a_kid1, a_hit, a_ways, a_group)) : wpX_push post (f_longest, nI h, f_places, f_table, f_fresh, f_nodes, a_low, a_first, a_last, a_empty, a_kind, a_follow, a_turned, a_slotFirst, a_slotLast, a_slotEmpty, a_slotZeros, a_slotOnes, a_slotFollow, a_layer, a_set0, a_set1, a_set2, a_kid0, a_kid1, a_hit, a_ways, a_group) p0 p1 e := by
  have c : (nI h).toNatClampNeg = h := nI_clamp (by omega)
  exact And.intro (pk_in h 8 hh) (nm_r (yl_up c rfl) (And.intro (pk_in h 8 hh) (nm_r (yl_up c rfl) (And.intro (pk_in h 8 hh) (nm_r (yl_up c rfl) (And.intro (pk_in h 8 hh) (nm_r (yl_up c (rx_nar he)) (nm_r (nI_1 h) k))))))))
theorem xc_letter {post : Int32 → SX → Prop} {h pl c : Nat} (hc : c ≤ 2) (hh : h < 8) (hp : pl < 12)
    (k : post (nI (h + 1)) (f_longest, nI (h + 1), nI (pl + 1), f_table, f_fresh, f_nodes, upd a_low h (nI pl), upd a_first h ((1 : Int32) <<< (nI pl &&& 31)), upd a_last h ((1 : Int32) <<< (nI pl &&& 31)), upd a_empty h 0, upd a_kind pl (nI c), upd a_follow pl 0, a_turned, a_slotFirst, a_slotLast, a_slotEmpty, a_slotZeros, a_slotOnes, a_slotFollow, a_layer, a_set0, a_set1, a_set2, a_kid0, a_kid1, a_hit, a_ways, a_group)) :
    wpX_letter post (f_longest, nI h, nI pl, f_table, f_fresh, f_nodes, a_low, a_first, a_last, a_empty, a_kind, a_follow, a_turned, a_slotFirst, a_slotLast, a_slotEmpty, a_slotZeros, a_slotOnes, a_slotFollow, a_layer, a_set0, a_set1, a_set2, a_kid0, a_kid1, a_hit, a_ways, a_group) (nI c) := by
  refine br_f (nI_pos (by omega)) (br_t (nI_le (b := 2) hc (by omega)) ?_)
  refine pk_eq h 8 (fun h => by omega) (fun _ => ?_)
  refine pk_eq pl 12 (fun h => by omega) (fun _ => nm_e ?_)
  refine xp_push hh (Or.inl rfl) ?_
  have cl : (nI pl).toNatClampNeg = pl := nI_clamp (by omega)
  exact And.intro (pk_in pl 12 hp) (nm_r (yl_up cl rfl) (And.intro (pk_in pl 12 hp) (nm_r (yl_up cl rfl) (nm_r (nI_1 pl) k))))
theorem xc_unit {post : Int32 → SX → Prop} {h : Nat} (hh : h < 8)
    (k : post (nI (h + 1)) (f_longest, nI (h + 1), f_places, f_table, f_fresh, f_nodes, upd a_low h f_places, upd a_first h 0, upd a_last h 0, upd a_empty h 1, a_kind, a_follow, a_turned, a_slotFirst, a_slotLast, a_slotEmpty, a_slotZeros, a_slotOnes, a_slotFollow, a_layer, a_set0, a_set1, a_set2, a_kid0, a_kid1, a_hit, a_ways, a_group)) : wpX_unit post (f_longest, nI h, f_places, f_table, f_fresh, f_nodes, a_low, a_first, a_last, a_empty, a_kind, a_follow, a_turned, a_slotFirst, a_slotLast, a_slotEmpty, a_slotZeros, a_slotOnes, a_slotFollow, a_layer, a_set0, a_set1, a_set2, a_kid0, a_kid1, a_hit, a_ways, a_group) := by
  refine pk_eq h 8 (fun h => by omega) (fun _ => ?_)
  exact xp_push hh (Or.inr rfl) k
theorem xc_none {post : Int32 → SX → Prop} {h : Nat} (hh : h < 8)
    (k : post (nI (h + 1)) (f_longest, nI (h + 1), f_places, f_table, f_fresh, f_nodes, upd a_low h f_places, upd a_first h 0, upd a_last h 0, upd a_empty h 0, a_kind, a_follow, a_turned, a_slotFirst, a_slotLast, a_slotEmpty, a_slotZeros, a_slotOnes, a_slotFollow, a_layer, a_set0, a_set1, a_set2, a_kid0, a_kid1, a_hit, a_ways, a_group)) : wpX_none post (f_longest, nI h, f_places, f_table, f_fresh, f_nodes, a_low, a_first, a_last, a_empty, a_kind, a_follow, a_turned, a_slotFirst, a_slotLast, a_slotEmpty, a_slotZeros, a_slotOnes, a_slotFollow, a_layer, a_set0, a_set1, a_set2, a_kid0, a_kid1, a_hit, a_ways, a_group) := by
  refine pk_eq h 8 (fun h => by omega) (fun _ => ?_)
  exact xp_push hh (Or.inl rfl) k
theorem xl_link2 {post : SX → Prop} {fr to : Int32} (k : ∀ fol : Nat → Int32, (∀ p q, p < 12 → (rx_on (fol p) q ↔ rx_on (a_follow p) q ∨ (rx_on fr p ∧ rx_on to q))) → post (f_longest, f_height, f_places, f_table, f_fresh, f_nodes, a_low, a_first, a_last, a_empty, a_kind, fol, a_turned, a_slotFirst, a_slotLast, a_slotEmpty, a_slotZeros, a_slotOnes, a_slotFollow, a_layer, a_set0, a_set1, a_set2, a_kid0, a_kid1, a_hit, a_ways, a_group)) :
    ∀ n i fol, i ≤ 12 → 12 < n + i → (∀ p q, p < i → (rx_on (fol p) q ↔ rx_on (a_follow p) q ∨ (rx_on fr p ∧ rx_on to q))) → (∀ p, i ≤ p → fol p = a_follow p) → wX_link_2 post fr to f_longest f_height f_places f_table f_fresh f_nodes n (nI i) a_low a_first a_last a_empty a_kind fol a_turned a_slotFirst a_slotLast a_slotEmpty a_slotZeros a_slotOnes a_slotFollow a_layer a_set0 a_set1 a_set2 a_kid0 a_kid1 a_hit a_ways a_group := by
  intro n
  induction n with
  | zero => intro i fol h1 h2; omega
  | succ n ih =>
    intro i fol h1 h2 h3 h4
    refine pk_le 12 i (fun h => ?_) (fun h => ?_)
    · exact k fol (fun p q hp => h3 p q (by omega))
    · have cl : (nI i).toNatClampNeg = i := nI_clamp (by omega)
      refine ek_if (rx_bit fr (by omega)) (fun g => ?_) (fun g => ?_)
      · refine ⟨pk_in i 12 h, pk_in i 12 h, nm_r (yl_up cl (by rw [cl])) (nm_r (nI_1 i) ?_)⟩
        refine ih (i + 1) _ (by omega) (by omega) (fun p q hp => ?_) (fun p hp => ?_)
        · by_cases z : p = i
          · subst z
            rw [pk_us, rx_on_or, h4 p (Nat.le_refl _)]
            exact ⟨fun y => y.elim Or.inl (fun y => Or.inr ⟨g, y⟩), fun y => y.elim Or.inl (fun y => Or.inr y.2)⟩
          · rw [pk_un z]
            exact h3 p q (by omega)
        · rw [pk_un (by omega)]
          exact h4 p (by omega)
      · refine nm_r (nI_1 i) ?_
        refine ih (i + 1) _ (by omega) (by omega) (fun p q hp => ?_) (fun p hp => h4 p (by omega))
        by_cases z : p = i
        · subst z
          rw [h4 p (Nat.le_refl _)]
          exact ⟨fun y => Or.inl y, fun y => y.elim id (fun y => absurd y.1 g)⟩
        · exact h3 p q (by omega)
theorem xl_link {post : SX → Prop} {fr to : Int32} (k : ∀ fol : Nat → Int32, (∀ p q, p < 12 → (rx_on (fol p) q ↔ rx_on (a_follow p) q ∨ (rx_on fr p ∧ rx_on to q))) → post (f_longest, f_height, f_places, f_table, f_fresh, f_nodes, a_low, a_first, a_last, a_empty, a_kind, fol, a_turned, a_slotFirst, a_slotLast, a_slotEmpty, a_slotZeros, a_slotOnes, a_slotFollow, a_layer, a_set0, a_set1, a_set2, a_kid0, a_kid1, a_hit, a_ways, a_group)) : wpX_link post (f_longest, f_height, f_places, f_table, f_fresh, f_nodes, a_low, a_first, a_last, a_empty, a_kind, a_follow, a_turned, a_slotFirst, a_slotLast, a_slotEmpty, a_slotZeros, a_slotOnes, a_slotFollow, a_layer, a_set0, a_set1, a_set2, a_kid0, a_kid1, a_hit, a_ways, a_group) fr to :=
  Exists.intro 13 (xl_link2 k 13 0 a_follow (by omega) (by omega) (fun p q hp => by omega) (fun p _ => rfl))
/-! concatenation -/
theorem xc_139 {post : Int32 → SX → Prop} {x y : Nat} (hx : x < 8) (k : post (nI y) (f_longest, nI y, f_places, f_table, f_fresh, f_nodes, a_low, a_first, a_last, upd a_empty x 0, a_kind, a_follow, a_turned, a_slotFirst, a_slotLast, a_slotEmpty, a_slotZeros, a_slotOnes, a_slotFollow, a_layer, a_set0, a_set1, a_set2, a_kid0, a_kid1, a_hit, a_ways, a_group)) : wX_cat_139 post (nI y) (nI x) f_longest f_height f_places f_table f_fresh f_nodes a_low a_first a_last a_empty a_kind a_follow a_turned a_slotFirst a_slotLast a_slotEmpty a_slotZeros a_slotOnes a_slotFollow a_layer a_set0 a_set1 a_set2 a_kid0 a_kid1 a_hit a_ways a_group := by
  have c : (nI x).toNatClampNeg = x := nI_clamp (by omega)
  exact And.intro (pk_in x 8 hx) (nm_r (yl_up c rx_nar0) k)
theorem xc_112 {post : Int32 → SX → Prop} {x y : Nat} (hx : x < 8) (hy : y < 8) (ex : a_empty x = 0 ∨ a_empty x = 1) (ey : a_empty y = 0 ∨ a_empty y = 1)
    (k : ∀ e : Int32, (e = 0 ∨ e = 1) → (e = 1 ↔ a_empty x = 1 ∧ a_empty y = 1) → post (nI y) (f_longest, nI y, f_places, f_table, f_fresh, f_nodes, a_low, a_first, a_last, upd a_empty x e, a_kind, a_follow, a_turned, a_slotFirst, a_slotLast, a_slotEmpty, a_slotZeros, a_slotOnes, a_slotFollow, a_layer, a_set0, a_set1, a_set2, a_kid0, a_kid1, a_hit, a_ways, a_group)) : wX_cat_112 post (nI y) (nI x) f_longest f_height f_places f_table f_fresh f_nodes a_low a_first a_last a_empty a_kind a_follow a_turned a_slotFirst a_slotLast a_slotEmpty a_slotZeros a_slotOnes a_slotFollow a_layer a_set0 a_set1 a_set2 a_kid0 a_kid1 a_hit a_ways a_group := by
  have c : (nI x).toNatClampNeg = x := nI_clamp (by omega)
  have d : (nI y).toNatClampNeg = y := nI_clamp (by omega)
  refine And.intro (pk_in x 8 hx) ?_
  rw [c, d]
  refine br_c (fun h => ?_) (fun h => ?_)
  · exact xc_139 hx (k 0 (Or.inl rfl) ⟨fun z => absurd z (by decide), fun z => absurd (h.symm.trans z.1) (by decide)⟩)
  · refine ⟨pk_in y 8 hy, br_c (fun g => ?_) (fun g => ?_)⟩
    · exact xc_139 hx (k 0 (Or.inl rfl) ⟨fun z => absurd z (by decide), fun z => absurd (g.symm.trans z.2) (by decide)⟩)
    · refine ⟨pk_in x 8 hx, nm_r (by rw [rx_nar1]) ?_⟩
      exact k 1 (Or.inr rfl) ⟨fun _ => ⟨ex.resolve_left h, ey.resolve_left g⟩, fun _ => rfl⟩
theorem xc_69 {post : Int32 → SX → Prop} {x y : Nat} (hx : x < 8) (hy : y < 8) (ex : a_empty x = 0 ∨ a_empty x = 1) (ey : a_empty y = 0 ∨ a_empty y = 1)
    (k : ∀ (la e : Int32), (∀ q, rx_on la q ↔ rx_on (a_last y) q ∨ (a_empty y = 1 ∧ rx_on (a_last x) q)) → (e = 0 ∨ e = 1) → (e = 1 ↔ a_empty x = 1 ∧ a_empty y = 1) → post (nI y) (f_longest, nI y, f_places, f_table, f_fresh, f_nodes, a_low, a_first, upd a_last x la, upd a_empty x e, a_kind, a_follow, a_turned, a_slotFirst, a_slotLast, a_slotEmpty, a_slotZeros, a_slotOnes, a_slotFollow, a_layer, a_set0, a_set1, a_set2, a_kid0, a_kid1, a_hit, a_ways, a_group)) : wX_cat_69 post (nI y) (nI x) f_longest f_height f_places f_table f_fresh f_nodes a_low a_first a_last a_empty a_kind a_follow a_turned a_slotFirst a_slotLast a_slotEmpty a_slotZeros a_slotOnes a_slotFollow a_layer a_set0 a_set1 a_set2 a_kid0 a_kid1 a_hit a_ways a_group := by
  have c : (nI x).toNatClampNeg = x := nI_clamp (by omega)
  have d : (nI y).toNatClampNeg = y := nI_clamp (by omega)
  refine And.intro (pk_in y 8 hy) ?_
  rw [c, d]
  refine br_c (fun h => ?_) (fun h => ?_)
  · refine ⟨pk_in y 8 hy, pk_in x 8 hx, nm_e ?_⟩
    refine xc_112 hx hy ex ey (fun e e1 e2 => k _ e (fun q => ?_) e1 e2)
    exact ⟨Or.inl, fun z => z.elim id (fun z => absurd (h.symm.trans z.1) (by decide))⟩
  · refine ⟨pk_in x 8 hx, pk_in y 8 hy, pk_in x 8 hx, nm_e ?_⟩
    refine xc_112 hx hy ex ey (fun e e1 e2 => k _ e (fun q => ?_) e1 e2)
    rw [rx_on_or]
    exact ⟨fun z => z.elim (fun z => Or.inr ⟨ey.resolve_left h, z⟩) Or.inl, fun z => z.elim Or.inr (fun z => Or.inl z.2)⟩
theorem xc_cat {post : Int32 → SX → Prop} {h : Nat} (hh : 2 ≤ h) (hh8 : h ≤ 8) (ex : a_empty (h - 2) = 0 ∨ a_empty (h - 2) = 1) (ey : a_empty (h - 1) = 0 ∨ a_empty (h - 1) = 1)
    (k : ∀ (fol : Nat → Int32) (fi la e : Int32), (∀ p q, p < 12 → (rx_on (fol p) q ↔ rx_on (a_follow p) q ∨ (rx_on (a_last (h - 2)) p ∧ rx_on (a_first (h - 1)) q))) →
      (∀ q, rx_on la q ↔ rx_on (a_last (h - 1)) q ∨ (a_empty (h - 1) = 1 ∧ rx_on (a_last (h - 2)) q)) → (∀ q, rx_on fi q ↔ rx_on (a_first (h - 2)) q ∨ (a_empty (h - 2) = 1 ∧ rx_on (a_first (h - 1)) q)) →
      (e = 0 ∨ e = 1) → (e = 1 ↔ a_empty (h - 2) = 1 ∧ a_empty (h - 1) = 1) → post (nI (h - 1)) (f_longest, nI (h - 1), f_places, f_table, f_fresh, f_nodes, a_low, upd a_first (h - 2) fi, upd a_last (h - 2) la, upd a_empty (h - 2) e, a_kind, fol, a_turned, a_slotFirst, a_slotLast, a_slotEmpty, a_slotZeros, a_slotOnes, a_slotFollow, a_layer, a_set0, a_set1, a_set2, a_kid0, a_kid1, a_hit, a_ways, a_group)) : wpX_cat post (f_longest, nI h, f_places, f_table, f_fresh, f_nodes, a_low, a_first, a_last, a_empty, a_kind, a_follow, a_turned, a_slotFirst, a_slotLast, a_slotEmpty, a_slotZeros, a_slotOnes, a_slotFollow, a_layer, a_set0, a_set1, a_set2, a_kid0, a_kid1, a_hit, a_ways, a_group) := by
  have e1 : nI h - 1 = nI (h - 1) := pk_sub (b := 1) (by omega)
  have e2 : nI h - 2 = nI (h - 2) := pk_sub (b := 2) (by omega)
  have c1 : (nI (h - 1)).toNatClampNeg = h - 1 := nI_clamp (by omega)
  have c2 : (nI (h - 2)).toNatClampNeg = h - 2 := nI_clamp (by omega)
  refine br_t (nI_le (a := 2) hh (by omega)) (nm_r e1 (nm_r e2 ?_))
  refine ⟨pk_in (h - 2) 8 (by omega), pk_in (h - 1) 8 (by omega), ?_⟩
  rw [c1, c2]
  refine xl_link (fun fol hf => ?_)
  refine And.intro (pk_in (h - 2) 8 (by omega)) (br_c (fun g => ?_) (fun g => ?_))
  · refine xc_69 (by omega) (by omega) ex ey (fun la e l1 l2 l3 => ?_)
    have u : upd a_first (h - 2) (a_first (h - 2)) = a_first := by
      funext j
      by_cases z : j = h - 2
      · rw [z]; exact pk_us
      · exact pk_un z
    have kk := k fol (a_first (h - 2)) la e hf l1 (fun q => ⟨Or.inl, fun z => z.elim id (fun z => absurd (g.symm.trans z.1) (by decide))⟩) l2 l3
    rw [u] at kk
    exact kk
  · refine ⟨pk_in (h - 2) 8 (by omega), pk_in (h - 1) 8 (by omega), pk_in (h - 2) 8 (by omega), nm_r rfl ?_⟩
    refine xc_69 (by omega) (by omega) ex ey (fun la e l1 l2 l3 => ?_)
    refine k fol _ la e hf l1 (fun q => ?_) l2 l3
    rw [rx_on_or]
    exact ⟨fun z => z.elim Or.inl (fun z => Or.inr ⟨ex.resolve_left g, z⟩), fun z => z.elim Or.inl (fun z => Or.inr z.2)⟩
/-! union -/
theorem xc_86 {post : Int32 → SX → Prop} {x y : Nat} (hx : x < 8) (k : post (nI y) (f_longest, nI y, f_places, f_table, f_fresh, f_nodes, a_low, a_first, a_last, upd a_empty x 1, a_kind, a_follow, a_turned, a_slotFirst, a_slotLast, a_slotEmpty, a_slotZeros, a_slotOnes, a_slotFollow, a_layer, a_set0, a_set1, a_set2, a_kid0, a_kid1, a_hit, a_ways, a_group)) : wX_alt_86 post (nI y) (nI x) f_longest f_height f_places f_table f_fresh f_nodes a_low a_first a_last a_empty a_kind a_follow a_turned a_slotFirst a_slotLast a_slotEmpty a_slotZeros a_slotOnes a_slotFollow a_layer a_set0 a_set1 a_set2 a_kid0 a_kid1 a_hit a_ways a_group := by
  have c : (nI x).toNatClampNeg = x := nI_clamp (by omega)
  exact And.intro (pk_in x 8 hx) (nm_r (yl_up c rx_nar1) k)
theorem xc_alt {post : Int32 → SX → Prop} {h : Nat} (hh : 2 ≤ h) (hh8 : h ≤ 8) (ex : a_empty (h - 2) = 0 ∨ a_empty (h - 2) = 1) (ey : a_empty (h - 1) = 0 ∨ a_empty (h - 1) = 1)
    (k : ∀ (e : Int32), (e = 0 ∨ e = 1) → (e = 1 ↔ a_empty (h - 2) = 1 ∨ a_empty (h - 1) = 1) → post (nI (h - 1)) (f_longest, nI (h - 1), f_places, f_table, f_fresh, f_nodes, a_low, upd a_first (h - 2) (a_first (h - 2) ||| a_first (h - 1)), upd a_last (h - 2) (a_last (h - 2) ||| a_last (h - 1)), upd a_empty (h - 2) e, a_kind, a_follow, a_turned, a_slotFirst, a_slotLast, a_slotEmpty, a_slotZeros, a_slotOnes, a_slotFollow, a_layer, a_set0, a_set1, a_set2, a_kid0, a_kid1, a_hit, a_ways, a_group)) : wpX_alt post (f_longest, nI h, f_places, f_table, f_fresh, f_nodes, a_low, a_first, a_last, a_empty, a_kind, a_follow, a_turned, a_slotFirst, a_slotLast, a_slotEmpty, a_slotZeros, a_slotOnes, a_slotFollow, a_layer, a_set0, a_set1, a_set2, a_kid0, a_kid1, a_hit, a_ways, a_group) := by
  have e1 : nI h - 1 = nI (h - 1) := pk_sub (b := 1) (by omega)
  have e2 : nI h - 2 = nI (h - 2) := pk_sub (b := 2) (by omega)
  have c1 : (nI (h - 1)).toNatClampNeg = h - 1 := nI_clamp (by omega)
  have c2 : (nI (h - 2)).toNatClampNeg = h - 2 := nI_clamp (by omega)
  have i1 : vp_in (nI (h - 1)) 8 := pk_in (h - 1) 8 (by omega)
  have i2 : vp_in (nI (h - 2)) 8 := pk_in (h - 2) 8 (by omega)
  refine br_t (nI_le (a := 2) hh (by omega)) (nm_r e1 (nm_r e2 ?_))
  rw [c1, c2]
  refine ⟨i2, i1, i2, nm_e ⟨i2, i1, i2, nm_e ⟨i2, br_c (fun g => ⟨i1, br_c (fun g' => ?_) (fun g' => ?_)⟩) (fun g => ?_)⟩⟩⟩
  · refine ⟨i2, nm_r (by rw [rx_nar0]) ?_⟩
    refine k 0 (Or.inl rfl) ⟨fun z => absurd z (by decide), fun z => ?_⟩
    rcases z with z | z
    · exact absurd (g.symm.trans z) (by decide)
    · exact absurd (g'.symm.trans z) (by decide)
  · exact xc_86 (by omega) (k 1 (Or.inr rfl) ⟨fun _ => Or.inr (ey.resolve_left g'), fun _ => rfl⟩)
  · exact xc_86 (by omega) (k 1 (Or.inr rfl) ⟨fun _ => Or.inl (ex.resolve_left g), fun _ => rfl⟩)
/-! repetition -/
theorem xc_star {post : Int32 → SX → Prop} {h : Nat} (hh : 1 ≤ h) (hh8 : h ≤ 8)
    (k : ∀ fol : Nat → Int32, (∀ p q, p < 12 → (rx_on (fol p) q ↔ rx_on (a_follow p) q ∨ (rx_on (a_last (h - 1)) p ∧ rx_on (a_first (h - 1)) q))) → post (nI h) (f_longest, nI h, f_places, f_table, f_fresh, f_nodes, a_low, a_first, a_last, upd a_empty (h - 1) 1, a_kind, fol, a_turned, a_slotFirst, a_slotLast, a_slotEmpty, a_slotZeros, a_slotOnes, a_slotFollow, a_layer, a_set0, a_set1, a_set2, a_kid0, a_kid1, a_hit, a_ways, a_group)) : wpX_star post (f_longest, nI h, f_places, f_table, f_fresh, f_nodes, a_low, a_first, a_last, a_empty, a_kind, a_follow, a_turned, a_slotFirst, a_slotLast, a_slotEmpty, a_slotZeros, a_slotOnes, a_slotFollow, a_layer, a_set0, a_set1, a_set2, a_kid0, a_kid1, a_hit, a_ways, a_group) := by
  have e1 : nI h - 1 = nI (h - 1) := pk_sub (b := 1) (by omega)
  have c1 : (nI (h - 1)).toNatClampNeg = h - 1 := nI_clamp (by omega)
  have i1 : vp_in (nI (h - 1)) 8 := pk_in (h - 1) 8 (by omega)
  refine br_t (nI_le (a := 1) hh (by omega)) (nm_r e1 ⟨i1, i1, ?_⟩)
  rw [c1]
  refine xl_link (fun fol hf => ?_)
  exact And.intro i1 (nm_r (by rw [rx_nar1]) (k fol hf))
theorem xc_plus {post : Int32 → SX → Prop} {h : Nat} (hh : 1 ≤ h) (hh8 : h ≤ 8)
    (k : ∀ fol : Nat → Int32, (∀ p q, p < 12 → (rx_on (fol p) q ↔ rx_on (a_follow p) q ∨ (rx_on (a_last (h - 1)) p ∧ rx_on (a_first (h - 1)) q))) → post (nI h) (f_longest, nI h, f_places, f_table, f_fresh, f_nodes, a_low, a_first, a_last, a_empty, a_kind, fol, a_turned, a_slotFirst, a_slotLast, a_slotEmpty, a_slotZeros, a_slotOnes, a_slotFollow, a_layer, a_set0, a_set1, a_set2, a_kid0, a_kid1, a_hit, a_ways, a_group)) : wpX_plus post (f_longest, nI h, f_places, f_table, f_fresh, f_nodes, a_low, a_first, a_last, a_empty, a_kind, a_follow, a_turned, a_slotFirst, a_slotLast, a_slotEmpty, a_slotZeros, a_slotOnes, a_slotFollow, a_layer, a_set0, a_set1, a_set2, a_kid0, a_kid1, a_hit, a_ways, a_group) := by
  have e1 : nI h - 1 = nI (h - 1) := pk_sub (b := 1) (by omega)
  have c1 : (nI (h - 1)).toNatClampNeg = h - 1 := nI_clamp (by omega)
  have i1 : vp_in (nI (h - 1)) 8 := pk_in (h - 1) 8 (by omega)
  refine br_t (nI_le (a := 1) hh (by omega)) (nm_r e1 ⟨i1, i1, ?_⟩)
  rw [c1]
  exact xl_link (fun fol hf => k fol hf)
theorem xc_opt {post : Int32 → SX → Prop} {h : Nat} (hh : 1 ≤ h) (hh8 : h ≤ 8) (k : post (nI h) (f_longest, nI h, f_places, f_table, f_fresh, f_nodes, a_low, a_first, a_last, upd a_empty (h - 1) 1, a_kind, a_follow, a_turned, a_slotFirst, a_slotLast, a_slotEmpty, a_slotZeros, a_slotOnes, a_slotFollow, a_layer, a_set0, a_set1, a_set2, a_kid0, a_kid1, a_hit, a_ways, a_group)) : wpX_opt post (f_longest, nI h, f_places, f_table, f_fresh, f_nodes, a_low, a_first, a_last, a_empty, a_kind, a_follow, a_turned, a_slotFirst, a_slotLast, a_slotEmpty, a_slotZeros, a_slotOnes, a_slotFollow, a_layer, a_set0, a_set1, a_set2, a_kid0, a_kid1, a_hit, a_ways, a_group) := by
  have e1 : nI h - 1 = nI (h - 1) := pk_sub (b := 1) (by omega)
  have c1 : (nI h - 1).toNatClampNeg = h - 1 := by rw [e1]; exact nI_clamp (by omega)
  exact br_t (nI_le (a := 1) hh (by omega)) ⟨pk_in (h - 1) 8 (by omega) e1, nm_r (yl_up c1 rx_nar1) k⟩
end
end
section
/-! the component: reverse and store -/
theorem rx_uu {f : Nat → Int32} {s : Nat} {a b : Int32} : upd (upd f s a) s b = upd f s b := by
  funext j
  by_cases z : j = s
  · subst z; rw [pk_us, pk_us]
  · rw [pk_un z, pk_un z, pk_un z]
section
variable {f_longest f_height f_places f_table f_fresh f_nodes : Int32} {a_low a_first a_last a_empty a_kind a_follow a_turned a_slotFirst a_slotLast a_slotEmpty a_slotZeros a_slotOnes a_slotFollow a_layer a_set0 a_set1 a_set2 a_kid0 a_kid1 a_hit a_ways a_group : Nat → Int32}
theorem xl_turn2 {post : SX → Prop} {p : Nat} (hp : p < 12) (k : ∀ tu : Nat → Int32, (∀ q r, q < 12 → (rx_on (tu q) r ↔ rx_on (a_turned q) r ∨ (r = p ∧ rx_on (a_follow p) q))) → post (f_longest, f_height, f_places, f_table, f_fresh, f_nodes, a_low, a_first, a_last, a_empty, a_kind, a_follow, tu, a_slotFirst, a_slotLast, a_slotEmpty, a_slotZeros, a_slotOnes, a_slotFollow, a_layer, a_set0, a_set1, a_set2, a_kid0, a_kid1, a_hit, a_ways, a_group)) :
    ∀ n i tu, i ≤ 12 → 12 < n + i → (∀ q r, q < i → (rx_on (tu q) r ↔ rx_on (a_turned q) r ∨ (r = p ∧ rx_on (a_follow p) q))) → (∀ q, i ≤ q → tu q = a_turned q) → wX_turn_2 post (nI p) f_longest f_height f_places f_table f_fresh f_nodes n (nI i) a_low a_first a_last a_empty a_kind a_follow tu a_slotFirst a_slotLast a_slotEmpty a_slotZeros a_slotOnes a_slotFollow a_layer a_set0 a_set1 a_set2 a_kid0 a_kid1 a_hit a_ways a_group := by
  have cp : (nI p).toNatClampNeg = p := nI_clamp (by omega)
  intro n
  induction n with
  | zero => intro i tu h1 h2; omega
  | succ n ih =>
    intro i tu h1 h2 h3 h4
    refine pk_le 12 i (fun h => ?_) (fun h => ?_)
    · exact k tu (fun q r hq => h3 q r (by omega))
    · have cl : (nI i).toNatClampNeg = i := nI_clamp (by omega)
      refine ⟨pk_in p 12 hp, ?_⟩
      rw [cp]
      refine ek_if (rx_bit (a_follow p) (by omega)) (fun g => ?_) (fun g => ?_)
      · refine ⟨pk_in i 12 h, pk_in i 12 h, nm_r (yl_up cl (by rw [cl])) (nm_r (nI_1 i) ?_)⟩
        refine ih (i + 1) _ (by omega) (by omega) (fun q r hq => ?_) (fun q hq => ?_)
        · by_cases z : q = i
          · subst z
            rw [pk_us, rx_on_or, h4 q (Nat.le_refl _), rx_on_sh (by omega)]
            exact ⟨fun y => y.elim Or.inl (fun y => Or.inr ⟨y, g⟩), fun y => y.elim Or.inl (fun y => Or.inr y.1)⟩
          · rw [pk_un z]
            exact h3 q r (by omega)
        · rw [pk_un (by omega)]
          exact h4 q (by omega)
      · refine nm_r (nI_1 i) ?_
        refine ih (i + 1) _ (by omega) (by omega) (fun q r hq => ?_) (fun q hq => h4 q (by omega))
        by_cases z : q = i
        · subst z
          rw [h4 q (Nat.le_refl _)]
          exact ⟨fun y => Or.inl y, fun y => y.elim id (fun y => absurd y.2 g)⟩
        · exact h3 q r (by omega)
theorem xl_turn {post : SX → Prop} {p : Nat} (hp : p < 12) (k : ∀ tu : Nat → Int32, (∀ q r, q < 12 → (rx_on (tu q) r ↔ rx_on (a_turned q) r ∨ (r = p ∧ rx_on (a_follow p) q))) → post (f_longest, f_height, f_places, f_table, f_fresh, f_nodes, a_low, a_first, a_last, a_empty, a_kind, a_follow, tu, a_slotFirst, a_slotLast, a_slotEmpty, a_slotZeros, a_slotOnes, a_slotFollow, a_layer, a_set0, a_set1, a_set2, a_kid0, a_kid1, a_hit, a_ways, a_group)) : wpX_turn post (f_longest, f_height, f_places, f_table, f_fresh, f_nodes, a_low, a_first, a_last, a_empty, a_kind, a_follow, a_turned, a_slotFirst, a_slotLast, a_slotEmpty, a_slotZeros, a_slotOnes, a_slotFollow, a_layer, a_set0, a_set1, a_set2, a_kid0, a_kid1, a_hit, a_ways, a_group) (nI p) :=
  Exists.intro 13 (xl_turn2 hp k 13 0 a_turned (by omega) (by omega) (fun p q hp => by omega) (fun p _ => rfl))
theorem xr_72 {post : Int32 → SX → Prop} {x lo pl : Nat} (hx : x < 8) (hpl : pl ≤ 12) (hlo : lo ≤ pl)
    (k : ∀ fol : Nat → Int32, (∀ p, lo ≤ p → p < pl → fol p = a_turned p) → (∀ p, p < lo ∨ pl ≤ p → fol p = a_follow p) → post f_height (f_longest, f_height, nI pl, f_table, f_fresh, f_nodes, a_low, upd a_first x (a_last x), upd a_last x (a_first x), a_empty, a_kind, fol, a_turned, a_slotFirst, a_slotLast, a_slotEmpty, a_slotZeros, a_slotOnes, a_slotFollow, a_layer, a_set0, a_set1, a_set2, a_kid0, a_kid1, a_hit, a_ways, a_group)) :
    ∀ n i fol, lo ≤ i → i ≤ pl → pl < n + i → (∀ p, lo ≤ p → p < i → fol p = a_turned p) → (∀ p, p < lo ∨ i ≤ p → fol p = a_follow p) → wX_reverse_72 post (nI x) f_longest f_height (nI pl) f_table f_fresh f_nodes n (nI i) a_low a_first a_last a_empty a_kind fol a_turned a_slotFirst a_slotLast a_slotEmpty a_slotZeros a_slotOnes a_slotFollow a_layer a_set0 a_set1 a_set2 a_kid0 a_kid1 a_hit a_ways a_group := by
  have cx : (nI x).toNatClampNeg = x := nI_clamp (by omega)
  have ix : vp_in (nI x) 8 := pk_in x 8 hx
  intro n
  induction n with
  | zero => intro i fol h0 h1 h2; omega
  | succ n ih =>
    intro i fol h0 h1 h2 h3 h4
    refine pk_le pl i (fun h => ?_) (fun h => ?_)
    · refine ⟨ix, nm_r (by rw [cx]) ⟨ix, ix, nm_r (yl_up cx (by rw [cx])) ⟨ix, nm_r (yl_up cx rfl) ?_⟩⟩⟩
      exact k fol (fun p a b => h3 p a (by omega)) (fun p hp => h4 p (by omega))
    · have cl : (nI i).toNatClampNeg = i := nI_clamp (by omega)
      refine ⟨pk_in i 12 (by omega), pk_in i 12 (by omega), nm_r (yl_up cl (by rw [cl])) (nm_r (nI_1 i) ?_)⟩
      refine ih (i + 1) _ (by omega) (by omega) (by omega) (fun p a b => ?_) (fun p hp => ?_)
      · by_cases z : p = i
        · rw [z]; exact pk_us
        · rw [pk_un z]; exact h3 p a (by omega)
      · rw [pk_un (by omega)]
        exact h4 p (by omega)
theorem xr_46 {post : Int32 → SX → Prop} {x lo pl : Nat} (hx : x < 8) (hpl : pl ≤ 12) (hlo : lo ≤ pl) (hl : a_low x = nI lo)
    (k : ∀ fol tu : Nat → Int32, (∀ p q, lo ≤ p → p < pl → (rx_on (fol p) q ↔ lo ≤ q ∧ q < pl ∧ rx_on (a_follow q) p)) → (∀ p, p < lo ∨ pl ≤ p → fol p = a_follow p) → post f_height (f_longest, f_height, nI pl, f_table, f_fresh, f_nodes, a_low, upd a_first x (a_last x), upd a_last x (a_first x), a_empty, a_kind, fol, tu, a_slotFirst, a_slotLast, a_slotEmpty, a_slotZeros, a_slotOnes, a_slotFollow, a_layer, a_set0, a_set1, a_set2, a_kid0, a_kid1, a_hit, a_ways, a_group)) :
    ∀ n i tu, lo ≤ i → i ≤ pl → pl < n + i → (∀ q r, q < 12 → (rx_on (tu q) r ↔ lo ≤ r ∧ r < i ∧ rx_on (a_follow r) q)) → wX_reverse_46 post (nI x) n (nI i) f_longest f_height (nI pl) f_table f_fresh f_nodes a_low a_first a_last a_empty a_kind a_follow tu a_slotFirst a_slotLast a_slotEmpty a_slotZeros a_slotOnes a_slotFollow a_layer a_set0 a_set1 a_set2 a_kid0 a_kid1 a_hit a_ways a_group := by
  have cx : (nI x).toNatClampNeg = x := nI_clamp (by omega)
  intro n
  induction n with
  | zero => intro i tu h0 h1 h2; omega
  | succ n ih =>
    intro i tu h0 h1 h2 h3
    refine pk_le pl i (fun h => ?_) (fun h => ?_)
    · refine ⟨pk_in x 8 hx, nm_r (e' := nI lo) (by rw [cx, hl]) ?_⟩
      refine Exists.intro (pl + 1) (xr_72 hx hpl hlo (fun fol a b => ?_) (pl + 1) lo a_follow (by omega) hlo (by omega) (fun p a b => by omega) (fun p _ => rfl))
      refine k fol tu (fun p q hp1 hp2 => ?_) b
      rw [a p hp1 hp2, h3 p q (by omega)]
      have e : i = pl := by omega
      rw [e]
    · refine xl_turn (by omega) (fun tu' ht => ?_)
      refine nm_r (nI_1 i) (ih (i + 1) tu' (by omega) (by omega) (by omega) (fun q r hq => ?_))
      rw [ht q r hq, h3 q r hq]
      constructor
      · rintro (y | ⟨y1, y2⟩)
        · exact ⟨y.1, by omega, y.2.2⟩
        · rw [y1]; exact ⟨by omega, by omega, y2⟩
      · intro ⟨y1, y2, y3⟩
        by_cases z : r = i
        · right; rw [z] at y3; exact ⟨z, y3⟩
        · left; exact ⟨y1, by omega, y3⟩
theorem xr_20 {post : Int32 → SX → Prop} {x lo pl : Nat} (hx : x < 8) (hpl : pl ≤ 12) (hlo : lo ≤ pl) (hl : a_low x = nI lo)
    (k : ∀ fol tu : Nat → Int32, (∀ p q, lo ≤ p → p < pl → (rx_on (fol p) q ↔ lo ≤ q ∧ q < pl ∧ rx_on (a_follow q) p)) → (∀ p, p < lo ∨ pl ≤ p → fol p = a_follow p) → post f_height (f_longest, f_height, nI pl, f_table, f_fresh, f_nodes, a_low, upd a_first x (a_last x), upd a_last x (a_first x), a_empty, a_kind, fol, tu, a_slotFirst, a_slotLast, a_slotEmpty, a_slotZeros, a_slotOnes, a_slotFollow, a_layer, a_set0, a_set1, a_set2, a_kid0, a_kid1, a_hit, a_ways, a_group)) :
    ∀ n i tu, i ≤ 12 → 12 < n + i → (∀ q, q < i → tu q = 0) → wX_reverse_20 post (nI x) f_longest f_height (nI pl) f_table f_fresh f_nodes n (nI i) a_low a_first a_last a_empty a_kind a_follow tu a_slotFirst a_slotLast a_slotEmpty a_slotZeros a_slotOnes a_slotFollow a_layer a_set0 a_set1 a_set2 a_kid0 a_kid1 a_hit a_ways a_group := by
  have cx : (nI x).toNatClampNeg = x := nI_clamp (by omega)
  intro n
  induction n with
  | zero => intro i tu h1 h2; omega
  | succ n ih =>
    intro i tu h1 h2 h3
    refine pk_le 12 i (fun h => ?_) (fun h => ?_)
    · refine ⟨pk_in x 8 hx, nm_r (e' := nI lo) (by rw [cx, hl]) ?_⟩
      refine Exists.intro (pl + 1) (xr_46 hx hpl hlo hl k (pl + 1) lo tu (by omega) hlo (by omega) (fun q r hq => ?_))
      rw [h3 q (by omega)]
      exact ⟨fun z => absurd z (rx_on_0 r), fun z => by omega⟩
    · have cl : (nI i).toNatClampNeg = i := nI_clamp (by omega)
      refine ⟨pk_in i 12 h, nm_r (yl_up cl rfl) (nm_r (nI_1 i) (ih (i + 1) _ (by omega) (by omega) (fun q hq => ?_)))⟩
      by_cases z : q = i
      · rw [z]; exact pk_us
      · rw [pk_un z]; exact h3 q (by omega)
theorem xc_rev {post : Int32 → SX → Prop} {h lo pl : Nat} (hh : 1 ≤ h) (hh8 : h ≤ 8) (hpl : pl ≤ 12) (hlo : lo ≤ pl) (hl : a_low (h - 1) = nI lo)
    (k : ∀ fol tu : Nat → Int32, (∀ p q, lo ≤ p → p < pl → (rx_on (fol p) q ↔ lo ≤ q ∧ q < pl ∧ rx_on (a_follow q) p)) → (∀ p, p < lo ∨ pl ≤ p → fol p = a_follow p) → post (nI h) (f_longest, nI h, nI pl, f_table, f_fresh, f_nodes, a_low, upd a_first (h - 1) (a_last (h - 1)), upd a_last (h - 1) (a_first (h - 1)), a_empty, a_kind, fol, tu, a_slotFirst, a_slotLast, a_slotEmpty, a_slotZeros, a_slotOnes, a_slotFollow, a_layer, a_set0, a_set1, a_set2, a_kid0, a_kid1, a_hit, a_ways, a_group)) :
    wpX_reverse post (f_longest, nI h, nI pl, f_table, f_fresh, f_nodes, a_low, a_first, a_last, a_empty, a_kind, a_follow, a_turned, a_slotFirst, a_slotLast, a_slotEmpty, a_slotZeros, a_slotOnes, a_slotFollow, a_layer, a_set0, a_set1, a_set2, a_kid0, a_kid1, a_hit, a_ways, a_group) := by
  have e1 : nI h - 1 = nI (h - 1) := pk_sub (b := 1) (by omega)
  refine br_t (nI_le (a := 1) hh (by omega)) (nm_r e1 ?_)
  exact Exists.intro 13 (xr_20 (by omega) hpl hlo hl k 13 0 a_turned (by omega) (by omega) (fun q hq => by omega))
/-! store -/
theorem xs_161 {post : Int32 → SX → Prop} {J : Int32 → (Nat → Int32) → (Nat → Int32) → (Nat → Int32) → (Nat → Int32) → (Nat → Int32) → (Nat → Int32) → (Nat → Int32) → (Nat → Int32) → (Nat → Int32) → (Nat → Int32) → (Nat → Int32) → (Nat → Int32) → (Nat → Int32) → (Nat → Int32) → (Nat → Int32) → (Nat → Int32) → (Nat → Int32) → (Nat → Int32) → (Nat → Int32) → (Nat → Int32) → (Nat → Int32) → (Nat → Int32) → Prop} {s lo p : Nat} {x2 : Int32} (hs : s < 3) (hp : p < 12) (hlo : lo ≤ p)
    (k : J (nI (p + 1)) a_low a_first a_last a_empty a_kind a_follow a_turned a_slotFirst a_slotLast a_slotEmpty a_slotZeros a_slotOnes (upd a_slotFollow (s * 12 + (p - lo)) (a_follow p >>> (nI lo &&& 31))) a_layer a_set0 a_set1 a_set2 a_kid0 a_kid1 a_hit a_ways a_group) : wX_store_161 post J (nI s) x2 (nI lo) (nI p) f_longest f_height f_places f_table f_fresh f_nodes a_low a_first a_last a_empty a_kind a_follow a_turned a_slotFirst a_slotLast a_slotEmpty a_slotZeros a_slotOnes a_slotFollow a_layer a_set0 a_set1 a_set2 a_kid0 a_kid1 a_hit a_ways a_group := by
  have cl : (nI p).toNatClampNeg = p := nI_clamp (by omega)
  have ei : (nI s * 12 + nI p) - nI lo = nI (s * 12 + (p - lo)) := by
    rw [show (12 : Int32) = nI 12 from rfl, pk_mul, nI_add, pk_sub (by omega)]
    exact congrArg nI (by omega)
  refine And.intro (pk_in p 12 hp) (And.intro (pk_in (s * 12 + (p - lo)) 36 (by omega) ei) (nm_r (yl_up (w := s * 12 + (p - lo)) (by rw [ei]; exact nI_clamp (by omega)) (by rw [cl])) (nm_r (nI_1 p) k)))
theorem xs_93 {post : Int32 → SX → Prop} {s lo pl : Nat} {x2 : Int32} (hs : s < 3) (hpl : pl ≤ 12) (hlo : lo ≤ pl)
    (k : ∀ (Z O : Int32) (sfo : Nat → Int32), (∀ q, rx_on Z q ↔ lo + q < pl ∧ a_kind (lo + q) ≠ 1) → (∀ q, rx_on O q ↔ lo + q < pl ∧ a_kind (lo + q) ≠ 0) → (∀ p, lo + p < pl → sfo (s * 12 + p) = a_follow (lo + p) >>> (nI lo &&& 31)) → (∀ j, j < s * 12 ∨ s * 12 + 12 ≤ j → sfo j = a_slotFollow j) →
      post x2 (f_longest, x2, nI lo, f_table, 0, f_nodes, a_low, a_first, a_last, a_empty, a_kind, a_follow, a_turned, a_slotFirst, a_slotLast, a_slotEmpty, upd a_slotZeros s Z, upd a_slotOnes s O, sfo, a_layer, a_set0, a_set1, a_set2, a_kid0, a_kid1, a_hit, a_ways, a_group)) :
    ∀ (n p : Nat) (Z O : Int32) (sfo : Nat → Int32), lo ≤ p → p ≤ pl → pl < n + p → (∀ q, rx_on Z q ↔ lo + q < p ∧ a_kind (lo + q) ≠ 1) → (∀ q, rx_on O q ↔ lo + q < p ∧ a_kind (lo + q) ≠ 0) → (∀ q, lo + q < p → sfo (s * 12 + q) = a_follow (lo + q) >>> (nI lo &&& 31)) → (∀ j, j < s * 12 ∨ s * 12 + 12 ≤ j → sfo j = a_slotFollow j) →
      wX_store_93 post (nI s) x2 (nI lo) f_longest f_height (nI pl) f_table f_fresh f_nodes n (nI p) a_low a_first a_last a_empty a_kind a_follow a_turned a_slotFirst a_slotLast a_slotEmpty (upd a_slotZeros s Z) (upd a_slotOnes s O) sfo a_layer a_set0 a_set1 a_set2 a_kid0 a_kid1 a_hit a_ways a_group := by
  have cs : (nI s).toNatClampNeg = s := nI_clamp (by omega)
  have is : vp_in (nI s) 3 := pk_in s 3 hs
  intro n
  induction n with
  | zero => intro p Z O sfo h0 h1 h2; omega
  | succ n ih =>
    intro p Z O sfo h0 h1 h2 h3 h4 h5 h6
    have cl : (nI p).toNatClampNeg = p := nI_clamp (by omega)
    refine pk_le pl p (fun h => ?_) (fun h => ?_)
    · have e : p = pl := by omega
      subst e
      exact k Z O sfo h3 h4 h5 h6
    · have eb : (1 : Int32) <<< ((nI p - nI lo) &&& 31) = (1 : Int32) <<< (nI (p - lo) &&& 31) := by rw [pk_sub h0]
      have hbit := rx_on_sh (show p - lo < 31 by omega)
      have keyZ : ∀ Z', (a_kind p = 1 → Z' = Z) → (a_kind p ≠ 1 → Z' = Z ||| ((1 : Int32) <<< (nI (p - lo) &&& 31))) → ∀ q, rx_on Z' q ↔ lo + q < p + 1 ∧ a_kind (lo + q) ≠ 1 := by
        intro Z' z1 z2 q
        by_cases z : a_kind p = 1
        · rw [z1 z, h3 q]
          refine ⟨fun y => ⟨by omega, y.2⟩, fun y => ⟨?_, y.2⟩⟩
          by_cases w : lo + q = p
          · rw [w] at y; exact absurd z y.2
          · omega
        · rw [z2 z, rx_on_or, h3 q, hbit q]
          constructor
          · rintro (y | y)
            · exact ⟨by omega, y.2⟩
            · have : lo + q = p := by omega
              rw [this]; exact ⟨by omega, z⟩
          · intro y
            by_cases w : lo + q = p
            · right; omega
            · left; exact ⟨by omega, y.2⟩
      have keyO : ∀ O', (a_kind p = 0 → O' = O) → (a_kind p ≠ 0 → O' = O ||| ((1 : Int32) <<< (nI (p - lo) &&& 31))) → ∀ q, rx_on O' q ↔ lo + q < p + 1 ∧ a_kind (lo + q) ≠ 0 := by
        intro Z' z1 z2 q
        by_cases z : a_kind p = 0
        · rw [z1 z, h4 q]
          refine ⟨fun y => ⟨by omega, y.2⟩, fun y => ⟨?_, y.2⟩⟩
          by_cases w : lo + q = p
          · rw [w] at y; exact absurd z y.2
          · omega
        · rw [z2 z, rx_on_or, h4 q, hbit q]
          constructor
          · rintro (y | y)
            · exact ⟨by omega, y.2⟩
            · have : lo + q = p := by omega
              rw [this]; exact ⟨by omega, z⟩
          · intro y
            by_cases w : lo + q = p
            · right; omega
            · left; exact ⟨by omega, y.2⟩
      have fin : ∀ Z' O', (∀ q, rx_on Z' q ↔ lo + q < p + 1 ∧ a_kind (lo + q) ≠ 1) → (∀ q, rx_on O' q ↔ lo + q < p + 1 ∧ a_kind (lo + q) ≠ 0) → wX_store_161 post (wX_store_93 post (nI s) x2 (nI lo) f_longest f_height (nI pl) f_table f_fresh f_nodes n) (nI s) x2 (nI lo) (nI p) f_longest f_height (nI pl) f_table f_fresh f_nodes a_low a_first a_last a_empty a_kind a_follow a_turned a_slotFirst a_slotLast a_slotEmpty (upd a_slotZeros s Z') (upd a_slotOnes s O') sfo a_layer a_set0 a_set1 a_set2 a_kid0 a_kid1 a_hit a_ways a_group := by
        intro Z' O' hz ho
        refine xs_161 hs (by omega) h0 ?_
        refine ih (p + 1) Z' O' _ (by omega) (by omega) (by omega) hz ho (fun q hq => ?_) (fun j hj => ?_)
        · by_cases w : q = p - lo
          · have e : lo + q = p := by omega
            rw [e, w]; exact pk_us
          · rw [pk_un (by omega)]; exact h5 q (by omega)
        · rw [pk_un (by omega)]; exact h6 j hj
      have mid : ∀ Z', (∀ q, rx_on Z' q ↔ lo + q < p + 1 ∧ a_kind (lo + q) ≠ 1) → wX_store_136 post (wX_store_93 post (nI s) x2 (nI lo) f_longest f_height (nI pl) f_table f_fresh f_nodes n) (nI s) x2 (nI lo) (nI p) ((1 : Int32) <<< (nI (p - lo) &&& 31)) f_longest f_height (nI pl) f_table f_fresh f_nodes a_low a_first a_last a_empty a_kind a_follow a_turned a_slotFirst a_slotLast a_slotEmpty (upd a_slotZeros s Z') (upd a_slotOnes s O) sfo a_layer a_set0 a_set1 a_set2 a_kid0 a_kid1 a_hit a_ways a_group := by
        intro Z' hz
        refine And.intro (pk_in p 12 (by omega)) ?_
        rw [cl, cs]
        refine br_c (fun z => ?_) (fun z => ?_)
        · exact fin Z' O hz (keyO O (fun _ => rfl) (fun w => absurd z w))
        · refine ⟨is, is, nm_r (e' := upd a_slotOnes s (O ||| ((1 : Int32) <<< (nI (p - lo) &&& 31)))) (by rw [rx_uu, pk_us]) ?_⟩
          exact fin Z' _ hz (keyO _ (fun w => absurd w z) (fun _ => rfl))
      refine nm_r eb ⟨pk_in p 12 (by omega), ?_⟩
      rw [cl, cs]
      refine br_c (fun z => ?_) (fun z => ?_)
      · exact mid Z (keyZ Z (fun _ => rfl) (fun w => absurd z w))
      · refine ⟨is, is, nm_r (e' := upd a_slotZeros s (Z ||| ((1 : Int32) <<< (nI (p - lo) &&& 31)))) (by rw [rx_uu, pk_us]) ?_⟩
        exact mid _ (keyZ _ (fun w => absurd w z) (fun _ => rfl))
theorem xc_store {post : Int32 → SX → Prop} {s h lo pl : Nat} (hs : s < 3) (hh : 1 ≤ h) (hh8 : h ≤ 8) (hpl : pl ≤ 12) (hlo : lo ≤ pl) (hl : a_low (h - 1) = nI lo) (he : a_empty (h - 1) = 0 ∨ a_empty (h - 1) = 1)
    (k : ∀ (Z O : Int32) (sfo : Nat → Int32), (∀ q, rx_on Z q ↔ lo + q < pl ∧ a_kind (lo + q) ≠ 1) → (∀ q, rx_on O q ↔ lo + q < pl ∧ a_kind (lo + q) ≠ 0) → (∀ p, lo + p < pl → sfo (s * 12 + p) = a_follow (lo + p) >>> (nI lo &&& 31)) → (∀ j, j < s * 12 ∨ s * 12 + 12 ≤ j → sfo j = a_slotFollow j) →
      post (nI (h - 1)) (f_longest, nI (h - 1), nI lo, f_table, 0, f_nodes, a_low, a_first, a_last, a_empty, a_kind, a_follow, a_turned, upd a_slotFirst s (a_first (h - 1) >>> (nI lo &&& 31)), upd a_slotLast s (a_last (h - 1) >>> (nI lo &&& 31)), upd a_slotEmpty s (a_empty (h - 1)), upd a_slotZeros s Z, upd a_slotOnes s O, sfo, a_layer, a_set0, a_set1, a_set2, a_kid0, a_kid1, a_hit, a_ways, a_group)) :
    wpX_store post (f_longest, nI h, nI pl, f_table, f_fresh, f_nodes, a_low, a_first, a_last, a_empty, a_kind, a_follow, a_turned, a_slotFirst, a_slotLast, a_slotEmpty, a_slotZeros, a_slotOnes, a_slotFollow, a_layer, a_set0, a_set1, a_set2, a_kid0, a_kid1, a_hit, a_ways, a_group) (nI s) := by
  have e1 : nI h - 1 = nI (h - 1) := pk_sub (b := 1) (by omega)
  have c1 : (nI (h - 1)).toNatClampNeg = h - 1 := nI_clamp (by omega)
  have cs : (nI s).toNatClampNeg = s := nI_clamp (by omega)
  have i1 : vp_in (nI (h - 1)) 8 := pk_in (h - 1) 8 (by omega)
  have is : vp_in (nI s) 3 := pk_in s 3 hs
  refine br_f (nI_pos (by omega)) (br_t (nI_le (b := 2) (by omega) (by omega)) (br_t (nI_le (a := 1) hh (by omega)) (nm_r e1 ⟨i1, nm_r (e' := nI lo) (by rw [c1, hl]) ?_⟩)))
  rw [c1, cs]
  refine ⟨i1, is, nm_e ⟨i1, is, nm_e ⟨i1, is, nm_r (by rw [rx_nar he]) ⟨is, nm_e ⟨is, nm_e ?_⟩⟩⟩⟩⟩
  exact Exists.intro (pl + 1) (xs_93 hs hpl hlo k (pl + 1) lo 0 0 a_slotFollow (Nat.le_refl _) hlo (by omega) (fun q => ⟨fun z => absurd z (rx_on_0 q), fun z => by omega⟩) (fun q => ⟨fun z => absurd z (rx_on_0 q), fun z => by omega⟩) (fun q hq => by omega) (fun j _ => rfl))
end
end
section
/-! the component: steps, nodes -/
noncomputable def rx_t (p : Prop) : Nat := @ite Nat p (Classical.propDecidable p) 1 0
theorem rx_t_t {p : Prop} (h : p) : rx_t p = 1 := by unfold rx_t; rw [if_pos h]
theorem rx_t_f {p : Prop} (h : ¬ p) : rx_t p = 0 := by unfold rx_t; rw [if_neg h]
theorem rx_t_le (p : Prop) : rx_t p ≤ 1 := by
  rcases Classical.em p with h | h
  · rw [rx_t_t h]; omega
  · rw [rx_t_f h]; omega
theorem rx_t_b (p : Prop) : nI (rx_t p) = rx_b p := by
  rcases Classical.em p with h | h
  · rw [rx_t_t h, rx_b_t h]; rfl
  · rw [rx_t_f h, rx_b_f h]; rfl
/-- the choice: the table's bit at three truth values -/
noncomputable def rx_ix (a : Prop × Prop × Prop) : Nat := rx_t a.1 + 2 * rx_t a.2.1 + 4 * rx_t a.2.2
def rx_c3 (tb : Int32) (a : Prop × Prop × Prop) : Prop := rx_on tb (rx_ix a)
theorem rx_ix_lt (a : Prop × Prop × Prop) : rx_ix a < 8 := by
  have := rx_t_le a.1
  have := rx_t_le a.2.1
  have := rx_t_le a.2.2
  unfold rx_ix
  omega
def rx_A6 (sF sL sE sZ sO sFo : Nat → Int32) (s : Nat) (S : Int32) (l : List Bool) : Prop := rx_AC (sF s) (sL s) (sE s) (sZ s) (sO s) (fun p => sFo (s * 12 + p)) S l
def rx_N3 (sF sL sE sZ sO sFo : Nat → Int32) (a b c : Int32) (l : List Bool) : Prop × Prop × Prop := (rx_A6 sF sL sE sZ sO sFo 0 a l, rx_A6 sF sL sE sZ sO sFo 1 b l, rx_A6 sF sL sE sZ sO sFo 2 c l)
def rx_SS (sF sL sE sZ sO sFo : Nat → Int32) (SL : Nat → List Bool → Prop) : Prop := ∀ s, s < 3 → rx_Sl (sF s) (sL s) (sE s) (sZ s) (sO s) (fun p => sFo (s * 12 + p)) (SL s)
section
variable {f_longest f_height f_places f_table f_fresh f_nodes : Int32} {a_low a_first a_last a_empty a_kind a_follow a_turned a_slotFirst a_slotLast a_slotEmpty a_slotZeros a_slotOnes a_slotFollow a_layer a_set0 a_set1 a_set2 a_kid0 a_kid1 a_hit a_ways a_group : Nat → Int32} {SL : Nat → List Bool → Prop}
theorem xg_step2 {post : Int32 → Prop} {s : Nat} {S x3 : Int32} {b : Bool} (hs : s < 3) (hb : (x3 = 0 ∧ b = false) ∨ (x3 = 1 ∧ b = true))
    (k : ∀ r, (∀ q, rx_on r q ↔ ((rx_on S 12 ∧ rx_on (a_slotFirst s) q) ∨ ∃ p, p < 12 ∧ rx_on S p ∧ rx_on (a_slotFollow (s * 12 + p)) q) ∧ rx_kb (a_slotZeros s) (a_slotOnes s) q b) → post r) :
    ∀ (n i : Nat) (x : Int32), i ≤ 12 → 12 < n + i → (∀ q, rx_on x q ↔ (rx_on S 12 ∧ rx_on (a_slotFirst s) q) ∨ ∃ p, p < i ∧ rx_on S p ∧ rx_on (a_slotFollow (s * 12 + p)) q) → wX_step_22 post (nI s) S x3 f_longest f_height f_places f_table f_fresh f_nodes a_low a_first a_last a_empty a_kind a_follow a_turned a_slotFirst a_slotLast a_slotEmpty a_slotZeros a_slotOnes a_slotFollow a_layer a_set0 a_set1 a_set2 a_kid0 a_kid1 a_hit a_ways a_group n x (nI i) := by
  have cs : (nI s).toNatClampNeg = s := nI_clamp (by omega)
  have is : vp_in (nI s) 3 := pk_in s 3 hs
  intro n
  induction n with
  | zero => intro i x h1 h2; omega
  | succ n ih =>
    intro i x h1 h2 h3
    refine pk_le 12 i (fun h => ?_) (fun h => ?_)
    · have e : i = 12 := by omega
      subst e
      rw [cs]
      rcases hb with ⟨e1, e2⟩ | ⟨e1, e2⟩
      · refine br_t e1 ⟨is, k _ (fun q => ?_)⟩
        subst e2
        rw [rx_on_and, h3 q]
        exact Iff.rfl
      · refine br_f (by rw [e1]; decide) ⟨is, k _ (fun q => ?_)⟩
        subst e2
        rw [rx_on_and, h3 q]
        exact Iff.rfl
    · have ei : nI s * 12 + nI i = nI (s * 12 + i) := by rw [show (12 : Int32) = nI 12 from rfl, pk_mul, nI_add]
      refine ek_if (rx_bit S (by omega)) (fun g => ?_) (fun g => ?_)
      · refine ⟨pk_in (s * 12 + i) 36 (by omega) ei, nm_e (nm_r (nI_1 i) ?_)⟩
        rw [ei, nI_clamp (by omega)]
        refine ih (i + 1) _ (by omega) (by omega) (fun q => ?_)
        rw [rx_on_or, h3 q]
        constructor
        · rintro ((y | ⟨p, y1, y2⟩) | y)
          · exact Or.inl y
          · exact Or.inr ⟨p, by omega, y2⟩
          · exact Or.inr ⟨i, by omega, g, y⟩
        · rintro (y | ⟨p, y1, y2⟩)
          · exact Or.inl (Or.inl y)
          · by_cases z : p = i
            · subst z; exact Or.inr y2.2
            · exact Or.inl (Or.inr ⟨p, by omega, y2⟩)
      · refine nm_r (nI_1 i) (ih (i + 1) _ (by omega) (by omega) (fun q => ?_))
        rw [h3 q]
        constructor
        · rintro (y | ⟨p, y1, y2⟩)
          · exact Or.inl y
          · exact Or.inr ⟨p, by omega, y2⟩
        · rintro (y | ⟨p, y1, y2⟩)
          · exact Or.inl y
          · by_cases z : p = i
            · subst z; exact absurd y2.1 g
            · exact Or.inr ⟨p, by omega, y2⟩
theorem xg_step {post : Int32 → Prop} {s : Nat} {S x3 : Int32} {b : Bool} (hs : s < 3) (hb : (x3 = 0 ∧ b = false) ∨ (x3 = 1 ∧ b = true)) (hS : rx_SS a_slotFirst a_slotLast a_slotEmpty a_slotZeros a_slotOnes a_slotFollow SL)
    (k : ∀ r, (∀ l, rx_A6 a_slotFirst a_slotLast a_slotEmpty a_slotZeros a_slotOnes a_slotFollow s r l ↔ rx_A6 a_slotFirst a_slotLast a_slotEmpty a_slotZeros a_slotOnes a_slotFollow s S (b :: l)) → post r) : wpX_step post (f_longest, f_height, f_places, f_table, f_fresh, f_nodes, a_low, a_first, a_last, a_empty, a_kind, a_follow, a_turned, a_slotFirst, a_slotLast, a_slotEmpty, a_slotZeros, a_slotOnes, a_slotFollow, a_layer, a_set0, a_set1, a_set2, a_kid0, a_kid1, a_hit, a_ways, a_group) (nI s) S x3 := by
  have cs : (nI s).toNatClampNeg = s := nI_clamp (by omega)
  have k' : ∀ r, (∀ q, rx_on r q ↔ ((rx_on S 12 ∧ rx_on (a_slotFirst s) q) ∨ ∃ p, p < 12 ∧ rx_on S p ∧ rx_on (a_slotFollow (s * 12 + p)) q) ∧ rx_kb (a_slotZeros s) (a_slotOnes s) q b) → post r := by
    intro r hr
    exact k r (fun l => ac_step (hS s hs).2.1 (hS s hs).2.2.1 hr l)
  refine ek_if (rx_st S) (fun g => ?_) (fun g => ?_)
  · refine Exists.intro 13 (xg_step2 hs hb k' 13 0 0 (by omega) (by omega) (fun q => ⟨fun z => absurd z (rx_on_0 q), fun z => ?_⟩))
    rcases z with z | ⟨p, z, _⟩
    · exact absurd z.1 g
    · omega
  · refine ⟨pk_in s 3 hs, nm_r (e' := a_slotFirst s) (by rw [cs]) ?_⟩
    refine Exists.intro 13 (xg_step2 hs hb k' 13 0 _ (by omega) (by omega) (fun q => ⟨fun z => Or.inl ⟨Classical.not_not.mp g, z⟩, fun z => ?_⟩))
    rcases z with z | ⟨p, z, _⟩
    · exact z.2
    · omega
theorem xg_acc {post : Int32 → Prop} {s : Nat} {S : Int32} (hs : s < 3) (hS : rx_SS a_slotFirst a_slotLast a_slotEmpty a_slotZeros a_slotOnes a_slotFollow SL) (k : post (rx_b (rx_A6 a_slotFirst a_slotLast a_slotEmpty a_slotZeros a_slotOnes a_slotFollow s S []))) : wpX_accepts post (f_longest, f_height, f_places, f_table, f_fresh, f_nodes, a_low, a_first, a_last, a_empty, a_kind, a_follow, a_turned, a_slotFirst, a_slotLast, a_slotEmpty, a_slotZeros, a_slotOnes, a_slotFollow, a_layer, a_set0, a_set1, a_set2, a_kid0, a_kid1, a_hit, a_ways, a_group) (nI s) S := by
  have cs : (nI s).toNatClampNeg = s := nI_clamp (by omega)
  have is : vp_in (nI s) 3 := pk_in s 3 hs
  have e := ac_end (F := a_slotFirst s) (E := a_slotEmpty s) (Z := a_slotZeros s) (O := a_slotOnes s) (sfo := fun p => a_slotFollow (s * 12 + p)) (S := S) (hS s hs).1
  have e01 := (hS s hs).2.2.2.1
  unfold rx_A6 at k
  have fin : ¬ (rx_on S 12 ∧ a_slotEmpty s = 1) → wX_accepts_19 post (nI s) S f_longest f_height f_places f_table f_fresh f_nodes a_low a_first a_last a_empty a_kind a_follow a_turned a_slotFirst a_slotLast a_slotEmpty a_slotZeros a_slotOnes a_slotFollow a_layer a_set0 a_set1 a_set2 a_kid0 a_kid1 a_hit a_ways a_group := by
    intro hn
    refine And.intro is ?_
    rw [cs]
    refine br_c (fun z => ?_) (fun z => ?_)
    · rw [rx_b_f] at k
      · exact k
      · intro y
        rcases e.mp y with y | y
        · exact hn y
        · exact y z
    · rw [rx_b_t (e.mpr (Or.inr z))] at k
      exact k
  refine ek_if (rx_st S) (fun g => ?_) (fun g => ?_)
  · exact fin (fun z => g z.1)
  · refine ⟨is, ?_⟩
    rw [cs]
    refine br_c (fun z => ?_) (fun z => ?_)
    · exact fin (fun y => absurd (z.symm.trans y.2) (by decide))
    · rw [rx_b_t (e.mpr (Or.inl ⟨Classical.not_not.mp g, e01.resolve_left z⟩))] at k
      exact k
theorem xg_45 {post : Int32 → Prop} {x : Nat} {p : Prop} (hx : x < 8) (e : p ↔ rx_on f_table x) (k : post (rx_b p)) : wX_chosen_45 post (nI x) f_longest f_height f_places f_table f_fresh f_nodes a_low a_first a_last a_empty a_kind a_follow a_turned a_slotFirst a_slotLast a_slotEmpty a_slotZeros a_slotOnes a_slotFollow a_layer a_set0 a_set1 a_set2 a_kid0 a_kid1 a_hit a_ways a_group := by
  refine ek_if (rx_bit f_table (by omega)) (fun g => ?_) (fun g => ?_)
  · rw [rx_b_t (e.mpr g)] at k; exact k
  · rw [rx_b_f (fun z => g (e.mp z))] at k; exact k
theorem xg_30 {post : Int32 → Prop} {x : Nat} {c : Int32} (hx : x < 4) (hS : rx_SS a_slotFirst a_slotLast a_slotEmpty a_slotZeros a_slotOnes a_slotFollow SL) (k : post (rx_b (rx_on f_table (x + 4 * rx_t (rx_A6 a_slotFirst a_slotLast a_slotEmpty a_slotZeros a_slotOnes a_slotFollow 2 c []))))) : wX_chosen_30 post c (nI x) f_longest f_height f_places f_table f_fresh f_nodes a_low a_first a_last a_empty a_kind a_follow a_turned a_slotFirst a_slotLast a_slotEmpty a_slotZeros a_slotOnes a_slotFollow a_layer a_set0 a_set1 a_set2 a_kid0 a_kid1 a_hit a_ways a_group := by
  refine xg_acc (s := 2) (by omega) hS (rx_br (fun g => ?_) (fun g => ?_))
  · rw [rx_t_f g] at k
    exact xg_45 (by omega) Iff.rfl k
  · rw [rx_t_t g] at k
    exact nm_r (nI_add x 4) (xg_45 (by omega) Iff.rfl k)
theorem xg_15 {post : Int32 → Prop} {x : Nat} {b c : Int32} (hx : x < 2) (hS : rx_SS a_slotFirst a_slotLast a_slotEmpty a_slotZeros a_slotOnes a_slotFollow SL) (k : post (rx_b (rx_on f_table (x + 2 * rx_t (rx_A6 a_slotFirst a_slotLast a_slotEmpty a_slotZeros a_slotOnes a_slotFollow 1 b []) + 4 * rx_t (rx_A6 a_slotFirst a_slotLast a_slotEmpty a_slotZeros a_slotOnes a_slotFollow 2 c []))))) : wX_chosen_15 post b c (nI x) f_longest f_height f_places f_table f_fresh f_nodes a_low a_first a_last a_empty a_kind a_follow a_turned a_slotFirst a_slotLast a_slotEmpty a_slotZeros a_slotOnes a_slotFollow a_layer a_set0 a_set1 a_set2 a_kid0 a_kid1 a_hit a_ways a_group := by
  refine xg_acc (s := 1) (by omega) hS (rx_br (fun g => ?_) (fun g => ?_))
  · rw [rx_t_f g] at k
    exact xg_30 (by omega) hS k
  · rw [rx_t_t g] at k
    exact nm_r (nI_add x 2) (xg_30 (by omega) hS k)
theorem xg_cho {post : Int32 → Prop} {a b c : Int32} (hS : rx_SS a_slotFirst a_slotLast a_slotEmpty a_slotZeros a_slotOnes a_slotFollow SL) (k : post (rx_b (rx_c3 f_table (rx_N3 a_slotFirst a_slotLast a_slotEmpty a_slotZeros a_slotOnes a_slotFollow a b c [])))) : wpX_chosen post (f_longest, f_height, f_places, f_table, f_fresh, f_nodes, a_low, a_first, a_last, a_empty, a_kind, a_follow, a_turned, a_slotFirst, a_slotLast, a_slotEmpty, a_slotZeros, a_slotOnes, a_slotFollow, a_layer, a_set0, a_set1, a_set2, a_kid0, a_kid1, a_hit, a_ways, a_group) a b c := by
  refine xg_acc (s := 0) (by omega) hS (rx_br (fun g => ?_) (fun g => ?_))
  · unfold rx_c3 rx_ix at k
    rw [show rx_t (rx_N3 a_slotFirst a_slotLast a_slotEmpty a_slotZeros a_slotOnes a_slotFollow a b c []).1 = 0 from rx_t_f g] at k
    exact xg_15 (x := 0) (by omega) hS k
  · unfold rx_c3 rx_ix at k
    rw [show rx_t (rx_N3 a_slotFirst a_slotLast a_slotEmpty a_slotZeros a_slotOnes a_slotFollow a b c []).1 = 1 from rx_t_t g] at k
    exact xg_15 (x := 1) (by omega) hS k
/-! nodes -/
theorem xg_node3 {post : Int32 → SX → Prop} {fr m : Nat} {A B C : Int32} (hm : m < 256) (hS : rx_SS a_slotFirst a_slotLast a_slotEmpty a_slotZeros a_slotOnes a_slotFollow SL) (HI : ∀ j, j < m → a_hit j = rx_b (rx_c3 f_table (rx_N3 a_slotFirst a_slotLast a_slotEmpty a_slotZeros a_slotOnes a_slotFollow (a_set0 j) (a_set1 j) (a_set2 j) [])))
    (k : ∀ (i m' : Nat) (s0 s1 s2 ht : Nat → Int32), fr ≤ i → i < m' → (m' = m ∨ (m' = m + 1 ∧ i = m)) → (∀ j, j < m → s0 j = a_set0 j ∧ s1 j = a_set1 j ∧ s2 j = a_set2 j) → s0 i = A → s1 i = B → s2 i = C →
      (∀ j, j < m' → ht j = rx_b (rx_c3 f_table (rx_N3 a_slotFirst a_slotLast a_slotEmpty a_slotZeros a_slotOnes a_slotFollow (s0 j) (s1 j) (s2 j) []))) → post (nI i) (f_longest, f_height, f_places, f_table, f_fresh, nI m', a_low, a_first, a_last, a_empty, a_kind, a_follow, a_turned, a_slotFirst, a_slotLast, a_slotEmpty, a_slotZeros, a_slotOnes, a_slotFollow, a_layer, s0, s1, s2, a_kid0, a_kid1, ht, a_ways, a_group)) :
    ∀ n i, fr ≤ i → i ≤ m → m < n + i → wX_node_3 post A B C f_longest f_height f_places f_table f_fresh (nI m) a_low a_first a_last a_empty a_kind a_follow a_turned a_slotFirst a_slotLast a_slotEmpty a_slotZeros a_slotOnes a_slotFollow a_layer a_set0 a_set1 a_set2 a_kid0 a_kid1 a_hit a_ways a_group n (nI i) := by
  intro n
  induction n with
  | zero => intro i h0 h1 h2; omega
  | succ n ih =>
    intro i h0 h1 h2
    have cl : (nI i).toNatClampNeg = i := nI_clamp (by omega)
    have cm : (nI m).toNatClampNeg = m := nI_clamp (by omega)
    refine pk_le m i (fun h => ?_) (fun h => ?_)
    · have im : vp_in (nI m) 256 := pk_in m 256 hm
      refine pk_le 256 m (fun g => by omega) (fun _ => ⟨im, nm_r (yl_up cm rfl) ⟨im, nm_r (yl_up cm rfl) ⟨im, nm_r (yl_up cm rfl) ?_⟩⟩⟩)
      refine xg_cho hS ?_
      refine ⟨im, nm_r (yl_up cm (rx_b_n _)) (nm_r (nI_1 m) ?_)⟩
      refine k m (m + 1) _ _ _ _ (by omega) (by omega) (Or.inr ⟨rfl, rfl⟩) (fun j hj => ⟨pk_un (by omega), pk_un (by omega), pk_un (by omega)⟩) pk_us pk_us pk_us (fun j hj => ?_)
      by_cases z : j = m
      · rw [z, pk_us, pk_us, pk_us, pk_us]
      · rw [pk_un z, pk_un z, pk_un z, pk_un z]
        exact HI j (by omega)
    · refine ⟨pk_in i 256 (by omega), ?_⟩
      rw [cl]
      have nx : wX_node_3 post A B C f_longest f_height f_places f_table f_fresh (nI m) a_low a_first a_last a_empty a_kind a_follow a_turned a_slotFirst a_slotLast a_slotEmpty a_slotZeros a_slotOnes a_slotFollow a_layer a_set0 a_set1 a_set2 a_kid0 a_kid1 a_hit a_ways a_group n (nI (i + 1)) := ih (i + 1) (by omega) (by omega) (by omega)
      refine br_c (fun g0 => ⟨pk_in i 256 (by omega), br_c (fun g1 => ⟨pk_in i 256 (by omega), br_c (fun g2 => ?_) (fun _ => nm_r (nI_1 i) nx)⟩) (fun _ => nm_r (nI_1 i) nx)⟩) (fun _ => nm_r (nI_1 i) nx)
      exact k i m _ _ _ _ h0 h (Or.inl rfl) (fun j _ => ⟨rfl, rfl, rfl⟩) g0 g1 g2 HI
theorem xg_node {post : Int32 → SX → Prop} {fr m : Nat} {A B C : Int32} (hm : m < 256) (hf : fr ≤ m) (hS : rx_SS a_slotFirst a_slotLast a_slotEmpty a_slotZeros a_slotOnes a_slotFollow SL) (HI : ∀ j, j < m → a_hit j = rx_b (rx_c3 f_table (rx_N3 a_slotFirst a_slotLast a_slotEmpty a_slotZeros a_slotOnes a_slotFollow (a_set0 j) (a_set1 j) (a_set2 j) [])))
    (k : ∀ (i m' : Nat) (s0 s1 s2 ht : Nat → Int32), fr ≤ i → i < m' → (m' = m ∨ (m' = m + 1 ∧ i = m)) → (∀ j, j < m → s0 j = a_set0 j ∧ s1 j = a_set1 j ∧ s2 j = a_set2 j) → s0 i = A → s1 i = B → s2 i = C →
      (∀ j, j < m' → ht j = rx_b (rx_c3 f_table (rx_N3 a_slotFirst a_slotLast a_slotEmpty a_slotZeros a_slotOnes a_slotFollow (s0 j) (s1 j) (s2 j) []))) → post (nI i) (f_longest, f_height, f_places, f_table, f_fresh, nI m', a_low, a_first, a_last, a_empty, a_kind, a_follow, a_turned, a_slotFirst, a_slotLast, a_slotEmpty, a_slotZeros, a_slotOnes, a_slotFollow, a_layer, s0, s1, s2, a_kid0, a_kid1, ht, a_ways, a_group)) :
    wpX_node post (f_longest, f_height, f_places, f_table, f_fresh, nI m, a_low, a_first, a_last, a_empty, a_kind, a_follow, a_turned, a_slotFirst, a_slotLast, a_slotEmpty, a_slotZeros, a_slotOnes, a_slotFollow, a_layer, a_set0, a_set1, a_set2, a_kid0, a_kid1, a_hit, a_ways, a_group) (nI fr) A B C :=
  Exists.intro (m + 1) (xg_node3 hm hS HI k (m + 1) fr (Nat.le_refl _) hf (by omega))
theorem xg_child {post : Int32 → SX → Prop} {fr m i : Nat} {c : Int32} {b : Bool} (hm : m < 256) (hf : fr ≤ m) (hi : i < m) (hb : (c = 0 ∧ b = false) ∨ (c = 1 ∧ b = true)) (hS : rx_SS a_slotFirst a_slotLast a_slotEmpty a_slotZeros a_slotOnes a_slotFollow SL) (HI : ∀ j, j < m → a_hit j = rx_b (rx_c3 f_table (rx_N3 a_slotFirst a_slotLast a_slotEmpty a_slotZeros a_slotOnes a_slotFollow (a_set0 j) (a_set1 j) (a_set2 j) [])))
    (k : ∀ (x m' : Nat) (s0 s1 s2 ht : Nat → Int32), fr ≤ x → x < m' → (m' = m ∨ (m' = m + 1 ∧ x = m)) → (∀ j, j < m → s0 j = a_set0 j ∧ s1 j = a_set1 j ∧ s2 j = a_set2 j) →
      (∀ l, rx_N3 a_slotFirst a_slotLast a_slotEmpty a_slotZeros a_slotOnes a_slotFollow (s0 x) (s1 x) (s2 x) l = rx_N3 a_slotFirst a_slotLast a_slotEmpty a_slotZeros a_slotOnes a_slotFollow (a_set0 i) (a_set1 i) (a_set2 i) (b :: l)) →
      (∀ j, j < m' → ht j = rx_b (rx_c3 f_table (rx_N3 a_slotFirst a_slotLast a_slotEmpty a_slotZeros a_slotOnes a_slotFollow (s0 j) (s1 j) (s2 j) []))) → post (nI x) (f_longest, f_height, f_places, f_table, f_fresh, nI m', a_low, a_first, a_last, a_empty, a_kind, a_follow, a_turned, a_slotFirst, a_slotLast, a_slotEmpty, a_slotZeros, a_slotOnes, a_slotFollow, a_layer, s0, s1, s2, a_kid0, a_kid1, ht, a_ways, a_group)) :
    wpX_child post (f_longest, f_height, f_places, f_table, f_fresh, nI m, a_low, a_first, a_last, a_empty, a_kind, a_follow, a_turned, a_slotFirst, a_slotLast, a_slotEmpty, a_slotZeros, a_slotOnes, a_slotFollow, a_layer, a_set0, a_set1, a_set2, a_kid0, a_kid1, a_hit, a_ways, a_group) (nI fr) (nI i) c := by
  have cl : (nI i).toNatClampNeg = i := nI_clamp (by omega)
  have ii : vp_in (nI i) 256 := pk_in i 256 (by omega)
  unfold wpX_child
  refine And.intro ii ?_
  rw [cl]
  refine xg_step (s := 0) (by omega) hb hS (fun r0 h0 => And.intro ii ?_)
  refine xg_step (s := 1) (by omega) hb hS (fun r1 h1 => And.intro ii ?_)
  refine xg_step (s := 2) (by omega) hb hS (fun r2 h2 => ?_)
  refine xg_node hm hf hS HI (fun x m' s0 s1 s2 ht a1 a2 a3 a4 e0 e1 e2 a5 => ?_)
  refine k x m' s0 s1 s2 ht a1 a2 a3 a4 (fun l => ?_) a5
  rw [e0, e1, e2]
  unfold rx_N3
  rw [propext (h0 l), propext (h1 l), propext (h2 l)]
end
end
section
/-! the component: the layered graph -/
def rx_KD (N : Nat → List Bool → Prop × Prop × Prop) (k0 k1 : Nat → Int32) (lo hi i : Nat) : Prop :=
  ∃ x y, k0 i = nI x ∧ k1 i = nI y ∧ lo ≤ x ∧ x < hi ∧ lo ≤ y ∧ y < hi ∧ (∀ l, N x l = N i (false :: l)) ∧ (∀ l, N y l = N i (true :: l))
def rx_BI (N : Nat → List Bool → Prop × Prop × Prop) (R : List Bool → Prop × Prop × Prop) (k0 k1 hit : Nat → Int32) (tb : Int32) (D i : Nat) (ly : Nat → Nat) : Prop :=
  ly 0 = 0 ∧ ly 1 = 1 ∧ (∀ e, e ≤ D → ly e ≤ ly (e + 1)) ∧
  (∀ e j, e < D → ly e ≤ j → j < ly (e + 1) → j < i → rx_KD N k0 k1 (ly (e + 1)) (ly (e + 2)) j) ∧
  (∀ e x, e < D → ly (e + 1) ≤ x → x < ly (e + 2) → ∃ j, j < i ∧ ly e ≤ j ∧ j < ly (e + 1) ∧ (k0 j = nI x ∨ k1 j = nI x)) ∧
  (∀ j, j < ly (D + 1) → hit j = rx_b (rx_c3 tb (N j []))) ∧ (∀ l, N 0 l = R l)
theorem rx_mono {ly : Nat → Nat} {D : Nat} (h : ∀ e, e ≤ D → ly e ≤ ly (e + 1)) : ∀ b a, a ≤ b → b ≤ D + 1 → ly a ≤ ly b := by
  intro b
  induction b with
  | zero => intro a ha _; have : a = 0 := by omega
            rw [this]; exact Nat.le_refl _
  | succ b ih =>
    intro a ha hb
    by_cases z : a = b + 1
    · rw [z]; exact Nat.le_refl _
    · exact Nat.le_trans (ih a (by omega) (by omega)) (h b (by omega))
section
variable {N N' : Nat → List Bool → Prop × Prop × Prop} {R : List Bool → Prop × Prop × Prop} {k0 k1 hit k0' k1' hit' : Nat → Int32} {tb : Int32} {d i m : Nat} {ly : Nat → Nat}
theorem kd_ext {lo hi hi' j : Nat} (h : rx_KD N k0 k1 lo hi j) (hj : j < m) (hh : hi ≤ m) (h' : hi ≤ hi') (hN : ∀ j, j < m → N' j = N j) (e0 : k0' j = k0 j) (e1 : k1' j = k1 j) : rx_KD N' k0' k1' lo hi' j := by
  obtain ⟨x, y, a, b, c1, c2, c3, c4, c5, c6⟩ := h
  refine ⟨x, y, e0.trans a, e1.trans b, c1, by omega, c3, by omega, fun l => ?_, fun l => ?_⟩
  · rw [hN x (by omega), hN j hj]; exact c5 l
  · rw [hN y (by omega), hN j hj]; exact c6 l
theorem bi_step {m' : Nat} (h : rx_BI N R k0 k1 hit tb (d + 1) i ly) (hi1 : ly d ≤ i) (hi2 : i < ly (d + 1)) (hm : ly (d + 2) ≤ m') (hN : ∀ j, j < ly (d + 2) → N' j = N j)
    (hk : ∀ j, j ≠ i → k0' j = k0 j ∧ k1' j = k1 j) (hKD : rx_KD N' k0' k1' (ly (d + 1)) m' i) (hnew : ∀ x, ly (d + 2) ≤ x → x < m' → k0' i = nI x ∨ k1' i = nI x)
    (hh : ∀ j, j < m' → hit' j = rx_b (rx_c3 tb (N' j []))) : rx_BI N' R k0' k1' hit' tb (d + 1) (i + 1) (fun e => if e = d + 2 then m' else ly e) := by
  obtain ⟨a0, a1, a2, a3, a4, a5, a6⟩ := h
  have mono := rx_mono a2
  have l1 : ∀ e, e ≤ d + 1 → (fun e => if e = d + 2 then m' else ly e) e = ly e := fun e he => if_neg (by omega)
  have l2 : (fun e => if e = d + 2 then m' else ly e) (d + 2) = m' := if_pos rfl
  generalize (fun e => if e = d + 2 then m' else ly e) = lz at l1 l2
  have m1 := mono (d + 1) 1 (by omega) (by omega)
  have m2 := mono (d + 2) (d + 1) (by omega) (by omega)
  refine ⟨?_, ?_, fun e he => ?_, fun e j he h1 h2 h3 => ?_, fun e x he h1 h2 => ?_, ?_, fun l => ?_⟩
  · rw [l1 0 (by omega)]; exact a0
  · rw [l1 1 (by omega)]; exact a1
  · by_cases z : e = d + 1
    · rw [z, l1 (d + 1) (by omega), show d + 1 + 1 = d + 2 from rfl, l2]; omega
    · rw [l1 e (by omega), l1 (e + 1) (by omega)]; exact a2 e he
  · rw [l1 e (by omega)] at h1
    rw [l1 (e + 1) (by omega)] at h2 ⊢
    by_cases z : j = i
    · have ze : e = d := by
        rcases Nat.lt_or_ge e d with w | w
        · have := mono d (e + 1) (by omega) (by omega); omega
        · omega
      rw [ze, l2, z]
      exact hKD
    · have hj : j < i := by omega
      have kk := a3 e j he h1 h2 hj
      have q := hk j z
      have b1 := mono (d + 2) (e + 2) (by omega) (by omega)
      refine kd_ext (m := ly (d + 2)) kk (by omega) b1 ?_ hN q.1 q.2
      by_cases ze : e = d
      · rw [ze, l2]; exact hm
      · rw [l1 (e + 2) (by omega)]; exact Nat.le_refl _
  · rw [l1 (e + 1) (by omega)] at h1
    by_cases w : x < ly (e + 2)
    · obtain ⟨j, b1, b2, b3, b4⟩ := a4 e x he h1 w
      have q := hk j (by omega)
      exact ⟨j, by omega, by rw [l1 e (by omega)]; exact b2, by rw [l1 (e + 1) (by omega)]; exact b3, by rw [q.1, q.2]; exact b4⟩
    · have ze : e = d := by
        by_cases ze : e = d
        · exact ze
        · rw [l1 (e + 2) (by omega)] at h2; omega
      rw [ze] at h1 w h2 ⊢
      rw [l2] at h2
      exact ⟨i, by omega, by rw [l1 d (by omega)]; exact hi1, by rw [l1 (d + 1) (by omega)]; exact hi2, hnew x (by omega) h2⟩
  · intro j hj
    rw [show d + 1 + 1 = d + 2 from rfl, l2] at hj
    exact hh j hj
  · rw [hN 0 (by omega)]; exact a6 l
theorem bi_open (h : rx_BI N R k0 k1 hit tb d (ly d) ly) : rx_BI N R k0 k1 hit tb (d + 1) (ly d) (fun e => if e = d + 2 then ly (d + 1) else ly e) := by
  obtain ⟨a0, a1, a2, a3, a4, a5, a6⟩ := h
  have l1 : ∀ e, e ≤ d + 1 → (fun e => if e = d + 2 then ly (d + 1) else ly e) e = ly e := fun e he => if_neg (by omega)
  have l2 : (fun e => if e = d + 2 then ly (d + 1) else ly e) (d + 2) = ly (d + 1) := if_pos rfl
  generalize (fun e => if e = d + 2 then ly (d + 1) else ly e) = lz at l1 l2
  refine ⟨?_, ?_, fun e he => ?_, fun e j he h1 h2 h3 => ?_, fun e x he h1 h2 => ?_, ?_, a6⟩
  · rw [l1 0 (by omega)]; exact a0
  · rw [l1 1 (by omega)]; exact a1
  · by_cases z : e = d + 1
    · rw [z, l1 (d + 1) (by omega), show d + 1 + 1 = d + 2 from rfl, l2]; exact Nat.le_refl _
    · rw [l1 e (by omega), l1 (e + 1) (by omega)]; exact a2 e (by omega)
  · rw [l1 e (by omega)] at h1
    rw [l1 (e + 1) (by omega)] at h2 ⊢
    by_cases ze : e = d
    · rw [ze] at h1; omega
    · rw [l1 (e + 2) (by omega)]; exact a3 e j (by omega) h1 h2 h3
  · rw [l1 (e + 1) (by omega)] at h1
    by_cases ze : e = d
    · rw [ze] at h1 h2; rw [l2] at h2; omega
    · rw [l1 (e + 2) (by omega)] at h2
      rw [l1 e (by omega), l1 (e + 1) (by omega)]
      exact a4 e x (by omega) h1 h2
  · rw [show d + 1 + 1 = d + 2 from rfl, l2]; exact a5
end
section
variable {f_longest f_height f_places f_table f_fresh f_nodes : Int32} {a_low a_first a_last a_empty a_kind a_follow a_turned a_slotFirst a_slotLast a_slotEmpty a_slotZeros a_slotOnes a_slotFollow a_layer a_set0 a_set1 a_set2 a_kid0 a_kid1 a_hit a_ways a_group : Nat → Int32} {SL : Nat → List Bool → Prop} {R : List Bool → Prop × Prop × Prop}
theorem xb_66 {post : SX → Prop} {J : Int32 → Int32 → Int32 → Int32 → Int32 → Int32 → Int32 → (Nat → Int32) → (Nat → Int32) → (Nat → Int32) → (Nat → Int32) → (Nat → Int32) → (Nat → Int32) → (Nat → Int32) → (Nat → Int32) → (Nat → Int32) → (Nat → Int32) → (Nat → Int32) → (Nat → Int32) → (Nat → Int32) → (Nat → Int32) → (Nat → Int32) → (Nat → Int32) → (Nat → Int32) → (Nat → Int32) → (Nat → Int32) → (Nat → Int32) → (Nat → Int32) → (Nat → Int32) → Prop}
    {d b e : Nat} (hd : d < 7) (he : e ≤ 255) (hbe : b ≤ e) (hb : e + 2 * (e - b) ≤ 255) (hS : rx_SS a_slotFirst a_slotLast a_slotEmpty a_slotZeros a_slotOnes a_slotFollow SL) {lz : Nat → Nat} (hb1 : lz d = b) (he1 : lz (d + 1) = e)
    (K : ∀ (s0 s1 s2 k0 k1 ht : Nat → Int32) (ly : Nat → Nat), (∀ c, c ≤ d + 1 → ly c = lz c) → rx_BI (fun j l => rx_N3 a_slotFirst a_slotLast a_slotEmpty a_slotZeros a_slotOnes a_slotFollow (s0 j) (s1 j) (s2 j) l) R k0 k1 ht f_table (d + 1) e ly → ly (d + 2) ≤ e + 2 * (e - b) →
      J (nI (d + 1)) f_longest f_height f_places f_table f_fresh (nI (ly (d + 2))) a_low a_first a_last a_empty a_kind a_follow a_turned a_slotFirst a_slotLast a_slotEmpty a_slotZeros a_slotOnes a_slotFollow a_layer s0 s1 s2 k0 k1 ht a_ways a_group) :
    ∀ (n i : Nat) (s0 s1 s2 k0 k1 ht : Nat → Int32) (ly : Nat → Nat), b ≤ i → i ≤ e → e < n + i → (∀ c, c ≤ d + 1 → ly c = lz c) → rx_BI (fun j l => rx_N3 a_slotFirst a_slotLast a_slotEmpty a_slotZeros a_slotOnes a_slotFollow (s0 j) (s1 j) (s2 j) l) R k0 k1 ht f_table (d + 1) i ly → ly (d + 2) ≤ e + 2 * (i - b) →
      wX_build_66 post J (nI d) (nI e) n (nI i) f_longest f_height f_places f_table f_fresh (nI (ly (d + 2))) a_low a_first a_last a_empty a_kind a_follow a_turned a_slotFirst a_slotLast a_slotEmpty a_slotZeros a_slotOnes a_slotFollow a_layer s0 s1 s2 k0 k1 ht a_ways a_group := by
  intro n
  induction n with
  | zero => intro i s0 s1 s2 k0 k1 ht ly h0 h1 h2; omega
  | succ n ih =>
    intro i s0 s1 s2 k0 k1 ht ly h0 h1 h2 h3 h4 h5
    refine pk_le e i (fun h => ?_) (fun h => ?_)
    · have ei : i = e := by omega
      subst ei
      exact nm_r (nI_1 d) (K s0 s1 s2 k0 k1 ht ly h3 h4 h5)
    · have cl : (nI i).toNatClampNeg = i := nI_clamp (by omega)
      have ii : vp_in (nI i) 256 := pk_in i 256 (by omega)
      have q1 : ly (d + 1) = e := (h3 _ (by omega)).trans he1
      have q0 : ly d = b := (h3 _ (by omega)).trans hb1
      have q2 : e ≤ ly (d + 2) := by have := h4.2.2.1 (d + 1) (by omega); rw [q1] at this; exact this
      refine xg_child (b := false) (by omega) q2 (by omega) (Or.inl ⟨rfl, rfl⟩) hS h4.2.2.2.2.2.1 (fun x m1 t0 t1 t2 ht1 a1 a2 a3 a4 a5 a6 => ?_)
      refine And.intro ii (nm_r (yl_up cl rfl) ?_)
      refine xg_child (b := true) (by omega) (by omega) (by omega) (Or.inr ⟨rfl, rfl⟩) hS a6 (fun y m2 r0 r1 r2 ht2 c1 c2 c3 c4 c5 c6 => ?_)
      refine And.intro ii (nm_r (yl_up cl rfl) (nm_r (nI_1 i) ?_))
      have hN1 : ∀ j, j < ly (d + 2) → (fun l => rx_N3 a_slotFirst a_slotLast a_slotEmpty a_slotZeros a_slotOnes a_slotFollow (t0 j) (t1 j) (t2 j) l) = (fun l => rx_N3 a_slotFirst a_slotLast a_slotEmpty a_slotZeros a_slotOnes a_slotFollow (s0 j) (s1 j) (s2 j) l) := by
        intro j hj
        have z := a4 j hj
        rw [z.1, z.2.1, z.2.2]
      have hN2 : ∀ j, j < m1 → (fun l => rx_N3 a_slotFirst a_slotLast a_slotEmpty a_slotZeros a_slotOnes a_slotFollow (r0 j) (r1 j) (r2 j) l) = (fun l => rx_N3 a_slotFirst a_slotLast a_slotEmpty a_slotZeros a_slotOnes a_slotFollow (t0 j) (t1 j) (t2 j) l) := by
        intro j hj
        have z := c4 j hj
        rw [z.1, z.2.1, z.2.2]
      have st := bi_step (N' := fun j l => rx_N3 a_slotFirst a_slotLast a_slotEmpty a_slotZeros a_slotOnes a_slotFollow (r0 j) (r1 j) (r2 j) l) (k0' := upd k0 i (nI x)) (k1' := upd k1 i (nI y)) (hit' := ht2) (m' := m2) h4 (by omega) (by omega) (by omega)
        (fun j hj => (hN2 j (by omega)).trans (hN1 j hj)) (fun j hj => ⟨pk_un hj, pk_un hj⟩)
        ⟨x, y, pk_us, pk_us, by omega, by omega, by omega, by omega, fun l => by
          have z1 := congrFun (hN2 x (by omega)) l
          have z2 := congrFun ((hN2 i (by omega)).trans (hN1 i (by omega))) (false :: l)
          exact z1.trans ((a5 l).trans z2.symm), fun l => by
          have z2 := congrFun (hN2 i (by omega)) (true :: l)
          exact (c5 l).trans z2.symm⟩
        (fun z g1 g2 => by
          rcases Nat.lt_or_ge z m1 with w | w
          · left; rw [pk_us]; have : x = z := by omega
            rw [this]
          · right; rw [pk_us]; have : y = z := by omega
            rw [this]) c6
      have e2 : (if d + 2 = d + 2 then m2 else ly (d + 2)) = m2 := if_pos rfl
      have res := ih (i + 1) r0 r1 r2 (upd k0 i (nI x)) (upd k1 i (nI y)) ht2 (fun c => if c = d + 2 then m2 else ly c) (by omega) (by omega) (by omega) (fun c hc => (if_neg (by omega)).trans (h3 c hc)) st (by rw [e2]; omega)
      rw [e2] at res
      exact res
theorem xb_37 {post : SX → Prop} {L : Nat} (hL : L ≤ 7) (hS : rx_SS a_slotFirst a_slotLast a_slotEmpty a_slotZeros a_slotOnes a_slotFollow SL)
    (K : ∀ (ly : Nat → Nat) (nn : Int32) (la s0 s1 s2 k0 k1 ht : Nat → Int32), rx_BI (fun j l => rx_N3 a_slotFirst a_slotLast a_slotEmpty a_slotZeros a_slotOnes a_slotFollow (s0 j) (s1 j) (s2 j) l) R k0 k1 ht f_table L (ly L) ly → (∀ c, c ≤ L + 1 → la c = nI (ly c)) → ly (L + 1) ≤ 255 →
      post (nI L, f_height, f_places, f_table, 1, nn, a_low, a_first, a_last, a_empty, a_kind, a_follow, a_turned, a_slotFirst, a_slotLast, a_slotEmpty, a_slotZeros, a_slotOnes, a_slotFollow, la, s0, s1, s2, k0, k1, ht, a_ways, a_group)) :
    ∀ (n d : Nat) (la s0 s1 s2 k0 k1 ht : Nat → Int32) (ly : Nat → Nat), d ≤ L → L < n + d → rx_BI (fun j l => rx_N3 a_slotFirst a_slotLast a_slotEmpty a_slotZeros a_slotOnes a_slotFollow (s0 j) (s1 j) (s2 j) l) R k0 k1 ht f_table d (ly d) ly → (∀ c, c ≤ d → la c = nI (ly c)) → ly (d + 1) + 1 ≤ 2 ^ (d + 1) → ly (d + 1) ≤ ly d + 2 ^ d →
      wX_build_37 post n (nI d) (nI L) f_height f_places f_table f_fresh (nI (ly (d + 1))) a_low a_first a_last a_empty a_kind a_follow a_turned a_slotFirst a_slotLast a_slotEmpty a_slotZeros a_slotOnes a_slotFollow la s0 s1 s2 k0 k1 ht a_ways a_group := by
  intro n
  induction n with
  | zero => intro d la s0 s1 s2 k0 k1 ht ly h0 h1; omega
  | succ n ih =>
    intro d la s0 s1 s2 k0 k1 ht ly h0 h1 h2 h3 h4 h5
    refine pk_le L d (fun h => ?_) (fun h => ?_)
    · have ed : d = L := by omega
      subst ed
      have b := rx_p7 hL
      rw [Nat.pow_succ] at h4
      refine ⟨pk_in (d + 1) 10 (by omega) (nI_1 d), nm_r (yl_up (w := d + 1) (by rw [nI_1]; exact nI_clamp (by omega)) rfl) ?_⟩
      refine K ly (nI (ly (d + 1))) _ s0 s1 s2 k0 k1 ht h2 (fun c hc => ?_) (by omega)
      by_cases z : c = d + 1
      · rw [z]; exact pk_us
      · rw [pk_un z]; exact h3 c (by omega)
    · have b := rx_p7 (show d + 1 ≤ 7 by omega)
      have m0 := h2.2.2.1 d (by omega)
      have hb2 : ly (d + 1) + 2 * (ly (d + 1) - ly d) + 1 ≤ 2 ^ (d + 2) := by
        rw [Nat.pow_succ] at h4 ⊢
        rw [Nat.pow_succ]
        omega
      have hb3 : 2 ^ (d + 2) ≤ 256 := Nat.pow_le_pow_right (n := 2) (j := 8) (by decide) (by omega)
      have hb4 : 2 * (ly (d + 1) - ly d) ≤ 2 ^ (d + 1) := by rw [Nat.pow_succ]; omega
      have cd : (nI d).toNatClampNeg = d := nI_clamp (by omega)
      refine ⟨pk_in (d + 1) 10 (by omega) (nI_1 d), nm_r (yl_up (w := d + 1) (by rw [nI_1]; exact nI_clamp (by omega)) rfl) ⟨pk_in d 10 (by omega), nm_r (e' := nI (ly d)) (by rw [cd, pk_un (by omega)]; exact h3 d (Nat.le_refl _)) ?_⟩⟩
      have lay : ∀ c, c ≤ d + 1 → upd la (d + 1) (nI (ly (d + 1))) c = nI (ly c) := by
        intro c hc
        by_cases z : c = d + 1
        · rw [z]; exact pk_us
        · rw [pk_un z]; exact h3 c (by omega)
      have op := bi_open h2
      have e2 : (if d + 2 = d + 2 then ly (d + 1) else ly (d + 2)) = ly (d + 1) := if_pos rfl
      have big := xb_66 (f_longest := nI L) (f_height := f_height) (f_places := f_places) (f_fresh := f_fresh) (a_low := a_low) (a_first := a_first) (a_last := a_last) (a_empty := a_empty) (a_kind := a_kind) (a_follow := a_follow) (a_turned := a_turned) (a_layer := upd la (d + 1) (nI (ly (d + 1)))) (a_ways := a_ways) (a_group := a_group) (post := post) (J := wX_build_37 post n) (d := d) (b := ly d) (e := ly (d + 1)) (R := R) (by omega) (by omega) m0 (by omega) hS (lz := ly) rfl rfl
        (fun s0' s1' s2' k0' k1' ht' ly' g1 g2 g3 => by
          have z1 := g1 (d + 1) (Nat.le_refl _)
          refine ih (d + 1) _ s0' s1' s2' k0' k1' ht' ly' (by omega) (by omega) (by rw [z1]; exact g2) (fun c hc => by rw [g1 c hc]; exact lay c hc) ?_ ?_
          · show ly' (d + 2) + 1 ≤ 2 ^ (d + 2); omega
          · show ly' (d + 2) ≤ ly' (d + 1) + 2 ^ (d + 1); rw [z1]; omega)
        (ly (d + 1) + 1) (ly d) s0 s1 s2 k0 k1 ht (fun c => if c = d + 2 then ly (d + 1) else ly c) (Nat.le_refl _) m0 (by omega) (fun c hc => if_neg (by omega)) op (by rw [e2]; omega)
      rw [e2] at big
      exact Exists.intro _ big
theorem xb_build0 {post : SX → Prop} {L : Nat} (hL : L ≤ 7) (hS : rx_SS a_slotFirst a_slotLast a_slotEmpty a_slotZeros a_slotOnes a_slotFollow SL) (hR : ∀ l, R l = (SL 0 l, SL 1 l, SL 2 l)) (hf : f_fresh = 0)
    (K : ∀ (ly : Nat → Nat) (nn : Int32) (la s0 s1 s2 k0 k1 ht : Nat → Int32), rx_BI (fun j l => rx_N3 a_slotFirst a_slotLast a_slotEmpty a_slotZeros a_slotOnes a_slotFollow (s0 j) (s1 j) (s2 j) l) R k0 k1 ht f_table L (ly L) ly → (∀ c, c ≤ L + 1 → la c = nI (ly c)) → ly (L + 1) ≤ 255 →
      post (nI L, f_height, f_places, f_table, 1, nn, a_low, a_first, a_last, a_empty, a_kind, a_follow, a_turned, a_slotFirst, a_slotLast, a_slotEmpty, a_slotZeros, a_slotOnes, a_slotFollow, la, s0, s1, s2, k0, k1, ht, a_ways, a_group)) : wpX_build post (nI L, f_height, f_places, f_table, f_fresh, f_nodes, a_low, a_first, a_last, a_empty, a_kind, a_follow, a_turned, a_slotFirst, a_slotLast, a_slotEmpty, a_slotZeros, a_slotOnes, a_slotFollow, a_layer, a_set0, a_set1, a_set2, a_kid0, a_kid1, a_hit, a_ways, a_group) := by
  refine br_t hf (nm_e ?_)
  refine xg_node (m := 0) (fr := 0) (by omega) (Nat.le_refl _) hS (fun j hj => by omega) (fun i m' s0 s1 s2 ht a1 a2 a3 a4 e0 e1 e2 a5 => ?_)
  have hi : i = 0 := by omega
  have hm : m' = 1 := by omega
  subst hi hm
  refine Exists.intro (L + 1) (xb_37 hL hS K (L + 1) 0 _ s0 s1 s2 a_kid0 a_kid1 ht (fun c => c) (by omega) (by omega) ⟨rfl, rfl, fun e _ => Nat.le_succ e, fun e j he => by omega, fun e x he => by omega, a5, fun l => ?_⟩ (fun c hc => ?_) (by decide) (by decide))
  · show rx_N3 a_slotFirst a_slotLast a_slotEmpty a_slotZeros a_slotOnes a_slotFollow (s0 0) (s1 0) (s2 0) l = R l
    rw [e0, e1, e2, hR]
    unfold rx_N3 rx_A6
    rw [propext (ac_start l), propext (ac_start l), propext (ac_start l), ← propext ((hS 0 (by omega)).2.2.2.2 l), ← propext ((hS 1 (by omega)).2.2.2.2 l), ← propext ((hS 2 (by omega)).2.2.2.2 l)]
  · have z : c = 0 := by omega
    subst z
    exact pk_us
end
end
section
/-! the graph by words -/
noncomputable def rx_d (w : Nat) : List Bool := Classical.choose (rx_n_ex w)
theorem rx_n_d (w : Nat) : rx_n (rx_d w) = w := Classical.choose_spec (rx_n_ex w)
theorem rx_d_n (l : List Bool) : rx_d (rx_n l) = l := rx_n_inj (rx_n_d _)
theorem rx_d_l (w : Nat) : rx_d (2 * w + 1) = rx_d w ++ [false] := rx_n_inj (by rw [rx_n_d, rx_n_snoc, rx_n_d]; rfl)
theorem rx_d_r (w : Nat) : rx_d (2 * w + 2) = rx_d w ++ [true] := rx_n_inj (by rw [rx_n_d, rx_n_snoc, rx_n_d]; rfl)
theorem rx_d_0 : rx_d 0 = [] := rx_n_inj (by rw [rx_n_d]; rfl)
def rx_c (tb : Int32) (SL : Nat → List Bool → Prop) (l : List Bool) : Prop := rx_c3 tb (SL 0 l, SL 1 l, SL 2 l)
def rx_ch (tb : Int32) (SL : Nat → List Bool → Prop) (w : Nat) : Prop := rx_c tb SL (rx_d w)
def rx_G (L : Nat) (ch : Nat → Prop) (ly nd : Nat → Nat) (la k0 k1 hit : Nat → Int32) : Prop :=
  (∀ d, d ≤ L + 1 → la d = nI (ly d)) ∧ ly 0 = 0 ∧ (∀ d, d ≤ L → ly d ≤ ly (d + 1)) ∧ ly (L + 1) ≤ 255 ∧ nd 0 = 0 ∧
  (∀ d w, d ≤ L → rx_lv d w → ly d ≤ nd w ∧ nd w < ly (d + 1) ∧ hit (nd w) = rx_b (ch w)) ∧
  (∀ d w, d < L → rx_lv d w → k0 (nd w) = nI (nd (2 * w + 1)) ∧ k1 (nd w) = nI (nd (2 * w + 2))) ∧
  (∀ d i, d ≤ L → ly d ≤ i → i < ly (d + 1) → ∃ w, rx_lv d w ∧ nd w = i)
def rx_nd (k0 k1 : Nat → Int32) (l : List Bool) : Nat := l.foldl (fun i b => (cond b (k1 i) (k0 i)).toNatClampNeg) 0
theorem rx_nd_s (k0 k1 : Nat → Int32) (l : List Bool) (b : Bool) : rx_nd k0 k1 (l ++ [b]) = (cond b (k1 (rx_nd k0 k1 l)) (k0 (rx_nd k0 k1 l))).toNatClampNeg := by
  unfold rx_nd
  rw [List.foldl_append]
  rfl
theorem bi_G {N : Nat → List Bool → Prop × Prop × Prop} {R : List Bool → Prop × Prop × Prop} {k0 k1 hit la : Nat → Int32} {tb : Int32} {L : Nat} {ly : Nat → Nat} {SL : Nat → List Bool → Prop}
    (h : rx_BI N R k0 k1 hit tb L (ly L) ly) (hR : ∀ l, R l = (SL 0 l, SL 1 l, SL 2 l)) (hla : ∀ c, c ≤ L + 1 → la c = nI (ly c)) (h255 : ly (L + 1) ≤ 255) :
    ∃ nd, rx_G L (rx_ch tb SL) ly nd la k0 k1 hit := by
  obtain ⟨a0, a1, a2, a3, a4, a5, a6⟩ := h
  have mono := rx_mono a2
  have n0 : rx_nd k0 k1 (rx_d 0) = 0 := by rw [rx_d_0]; rfl
  have key : ∀ d, d ≤ L → ∀ w, rx_lv d w → ly d ≤ rx_nd k0 k1 (rx_d w) ∧ rx_nd k0 k1 (rx_d w) < ly (d + 1) ∧ ∀ l, N (rx_nd k0 k1 (rx_d w)) l = R (rx_d w ++ l) := by
    intro d
    induction d with
    | zero =>
      intro _ w hw
      have e := rx_lv_00 hw
      subst e
      rw [n0]
      refine ⟨by omega, by show 0 < ly 1; omega, fun l => ?_⟩
      rw [rx_d_0]
      exact a6 l
    | succ d ih =>
      intro hd w hw
      obtain ⟨v, hv, e⟩ := rx_lv_up hw
      obtain ⟨b1, b2, b3⟩ := ih (by omega) v hv
      have m1 := mono L (d + 1) (by omega) (by omega)
      have m2 := mono (L + 1) (d + 2) (by omega) (by omega)
      obtain ⟨x, y, c1, c2, c3, c4, c5, c6, c7, c8⟩ := a3 d _ (by omega) b1 b2 (by omega)
      rcases e with e | e
      · have en : rx_nd k0 k1 (rx_d w) = x := by
          rw [e, rx_d_l, rx_nd_s]
          show (k0 (rx_nd k0 k1 (rx_d v))).toNatClampNeg = x
          rw [c1]
          exact nI_clamp (by omega)
        rw [en]
        refine ⟨c3, c4, fun l => ?_⟩
        rw [c7 l, b3, e, rx_d_l, List.append_assoc]
        rfl
      · have en : rx_nd k0 k1 (rx_d w) = y := by
          rw [e, rx_d_r, rx_nd_s]
          show (k1 (rx_nd k0 k1 (rx_d v))).toNatClampNeg = y
          rw [c2]
          exact nI_clamp (by omega)
        rw [en]
        refine ⟨c5, c6, fun l => ?_⟩
        rw [c8 l, b3, e, rx_d_r, List.append_assoc]
        rfl
  have kids : ∀ d w, d < L → rx_lv d w → k0 (rx_nd k0 k1 (rx_d w)) = nI (rx_nd k0 k1 (rx_d (2 * w + 1))) ∧ k1 (rx_nd k0 k1 (rx_d w)) = nI (rx_nd k0 k1 (rx_d (2 * w + 2))) := by
    intro d w hd hw
    obtain ⟨b1, b2, b3⟩ := key d (by omega) w hw
    have m1 := mono L (d + 1) (by omega) (by omega)
    have m2 := mono (L + 1) (d + 2) (by omega) (by omega)
    obtain ⟨x, y, c1, c2, c3, c4, c5, c6, c7, c8⟩ := a3 d _ (by omega) b1 b2 (by omega)
    constructor
    · rw [rx_d_l, rx_nd_s]
      show _ = nI (k0 (rx_nd k0 k1 (rx_d w))).toNatClampNeg
      rw [c1, nI_clamp (by omega)]
    · rw [rx_d_r, rx_nd_s]
      show _ = nI (k1 (rx_nd k0 k1 (rx_d w))).toNatClampNeg
      rw [c2, nI_clamp (by omega)]
  refine ⟨fun w => rx_nd k0 k1 (rx_d w), hla, a0, a2, h255, n0, fun d w hd hw => ?_, kids, fun d => ?_⟩
  · obtain ⟨b1, b2, b3⟩ := key d hd w hw
    have m2 := mono (L + 1) (d + 1) (by omega) (by omega)
    refine ⟨b1, b2, ?_⟩
    show hit (rx_nd k0 k1 (rx_d w)) = _
    rw [a5 _ (by omega), b3, List.append_nil, hR]
    rfl
  · induction d with
    | zero =>
      intro i _ h1 h2
      have h2' : i < ly 1 := h2
      exact ⟨0, rx_lv_0, by show rx_nd k0 k1 (rx_d 0) = i; rw [n0]; omega⟩
    | succ d ih =>
      intro i hd h1 h2
      obtain ⟨j, _, c2, c3, c4⟩ := a4 d i (by omega) h1 h2
      obtain ⟨w, hw, ew⟩ := ih j (by omega) c2 c3
      have kk := kids d w (by omega) hw
      have ew' : rx_nd k0 k1 (rx_d w) = j := ew
      rw [ew'] at kk
      have m2 : ly (d + 1 + 1) ≤ ly (L + 1) := mono (L + 1) (d + 2) (by omega) (by omega)
      rcases c4 with c4 | c4
      · have r := key (d + 1) hd _ (rx_lv_l hw)
        refine ⟨2 * w + 1, rx_lv_l hw, ?_⟩
        show rx_nd k0 k1 (rx_d (2 * w + 1)) = i
        exact (nI_eq (by omega) (by omega)).mp (kk.1.symm.trans c4)
      · have r := key (d + 1) hd _ (rx_lv_r hw)
        refine ⟨2 * w + 2, rx_lv_r hw, ?_⟩
        show rx_nd k0 k1 (rx_d (2 * w + 2)) = i
        exact (nI_eq (by omega) (by omega)).mp (kk.2.symm.trans c4)
/-! counts -/
noncomputable def rx_P (ch : Nat → Prop) : Nat → Nat
  | 0 => 0
  | n + 1 => rx_P ch n + rx_t (ch n)
noncomputable def rx_cw (ch : Nat → Prop) : Nat → Nat → Nat
  | 0, w => rx_t (ch w)
  | k + 1, w => rx_cw ch k (2 * w + 1) + rx_cw ch k (2 * w + 2)
section
variable {ch : Nat → Prop}
theorem rx_P1 (n : Nat) : rx_P ch (n + 1) = rx_P ch n + rx_t (ch n) := rfl
theorem rx_P_mono : ∀ b a, a ≤ b → rx_P ch a ≤ rx_P ch b := by
  intro b
  induction b with
  | zero => intro a h; have : a = 0 := by omega
            rw [this]; exact Nat.le_refl _
  | succ b ih =>
    intro a h
    by_cases z : a = b + 1
    · rw [z]; exact Nat.le_refl _
    · have := ih a (by omega)
      rw [rx_P1]
      omega
theorem rx_P_le : ∀ n, rx_P ch n ≤ n := by
  intro n
  induction n with
  | zero => exact Nat.le_refl _
  | succ n ih => have := rx_t_le (ch n); rw [rx_P1]; omega
theorem rx_cw_P : ∀ k w, rx_cw ch k w + rx_P ch ((w + 1) * 2 ^ k - 1) = rx_P ch ((w + 2) * 2 ^ k - 1) := by
  intro k
  induction k with
  | zero =>
    intro w
    show rx_t (ch w) + rx_P ch ((w + 1) * 1 - 1) = rx_P ch ((w + 2) * 1 - 1)
    have e1 : (w + 1) * 1 - 1 = w := by omega
    have e2 : (w + 2) * 1 - 1 = w + 1 := by omega
    rw [e1, e2, rx_P1]
    omega
  | succ k ih =>
    intro w
    have h1 := ih (2 * w + 1)
    have h2 := ih (2 * w + 2)
    have e1 : (w + 1) * 2 ^ (k + 1) = (2 * w + 1 + 1) * 2 ^ k := by
      rw [Nat.pow_succ, Nat.mul_comm (2 ^ k) 2, ← Nat.mul_assoc]
      exact congrArg (· * 2 ^ k) (by omega)
    have e2 : (w + 2) * 2 ^ (k + 1) = (2 * w + 2 + 2) * 2 ^ k := by
      rw [Nat.pow_succ, Nat.mul_comm (2 ^ k) 2, ← Nat.mul_assoc]
      exact congrArg (· * 2 ^ k) (by omega)
    show rx_cw ch k (2 * w + 1) + rx_cw ch k (2 * w + 2) + rx_P ch ((w + 1) * 2 ^ (k + 1) - 1) = _
    rw [e1, e2]
    rw [show 2 * w + 1 + 2 = 2 * w + 2 + 1 from rfl] at h1
    omega
theorem rx_cw_le : ∀ k w, rx_cw ch k w ≤ 2 ^ k := by
  intro k
  induction k with
  | zero => intro w; exact rx_t_le _
  | succ k ih =>
    intro w
    have h1 := ih (2 * w + 1)
    have h2 := ih (2 * w + 2)
    show rx_cw ch k (2 * w + 1) + rx_cw ch k (2 * w + 2) ≤ 2 ^ (k + 1)
    rw [Nat.pow_succ]
    omega
theorem rx_cw_0 (n : Nat) : rx_P ch (2 ^ n - 1) + rx_cw ch n 0 = rx_P ch (2 ^ (n + 1) - 1) := by
  have h := rx_cw_P (ch := ch) n 0
  have e : (0 + 2) * 2 ^ n = 2 ^ (n + 1) := by rw [Nat.pow_succ]; omega
  rw [e, Nat.zero_add, Nat.one_mul] at h
  omega
theorem rx_P_z {a : Nat} : ∀ b, a ≤ b → (∀ w, a ≤ w → w < b → ¬ ch w) → rx_P ch b = rx_P ch a := by
  intro b
  induction b with
  | zero => intro h _; have : a = 0 := by omega
            rw [this]
  | succ b ih =>
    intro h g
    by_cases z : a = b + 1
    · rw [z]
    · rw [rx_P1, rx_t_f (g b (by omega) (by omega)), ih (by omega) (fun w h1 h2 => g w h1 (by omega))]
      rfl
theorem rx_P_x {ch' : Nat → Prop} {a : Nat} : ∀ b, a ≤ b → (∀ w, a ≤ w → w < b → (ch' w ↔ ch w)) → rx_P ch' b + rx_P ch a = rx_P ch b + rx_P ch' a := by
  intro b
  induction b with
  | zero => intro h _; have : a = 0 := by omega
            rw [this]
            exact Nat.add_comm _ _
  | succ b ih =>
    intro h g
    by_cases z : a = b + 1
    · rw [z]; exact Nat.add_comm _ _
    · have := ih (by omega) (fun w h1 h2 => g w h1 (by omega))
      rw [rx_P1, rx_P1, propext (g b (by omega) (by omega))]
      omega
theorem rx_P_lt {a b : Nat} (h : rx_P ch a < rx_P ch b) : a < b := by
  rcases Nat.lt_or_ge a b with z | z
  · exact z
  · have := rx_P_mono (ch := ch) a b z; omega
end
end
section
/-! the reference: questions -/
theorem rx_P_inj {ch : Nat → Prop} {a b : Nat} (ha : ch a) (hb : ch b) (h : rx_P ch a = rx_P ch b) : a = b := by
  rcases Nat.lt_trichotomy a b with z | z | z
  · have := rx_P_mono (ch := ch) b (a + 1) z
    rw [rx_P1, rx_t_t ha] at this
    omega
  · exact z
  · have := rx_P_mono (ch := ch) a (b + 1) z
    rw [rx_P1, rx_t_t hb] at this
    omega
theorem rx_2p {L : Nat} (hL : L ≤ 7) : 2 ^ (L + 1) ≤ 256 := Nat.pow_le_pow_right (n := 2) (j := 8) (by decide) (by omega)
/-- the words below len whose first letters are those of st, and chosen -/
def rx_cf (ch : Nat → Prop) (len st w : Nat) : Prop := ch w ∧ ∃ d, rx_lv d w ∧ len ≤ d ∧ (w + 1) / 2 ^ (d - len) = st + 1
section
variable {g_depth g_table g_n : Int32} {b_stack b_lc b_slots b_fresh : Nat → Int32} {SL : Nat → List Bool → Prop} {L : Nat}
theorem yq_51 {post : Int32 → Prop} {a b : Nat} (h : b + a < 8) (k : post (rx_b (rx_on g_table (b + a)))) : wY_chosen_51 post (nI a) (nI b) g_depth g_table g_n b_stack b_lc b_slots b_fresh := by
  refine nm_r (nI_add b a) ?_
  refine ek_if (rx_bit g_table (by omega)) (fun g => ?_) (fun g => ?_)
  · rw [rx_b_t g] at k; exact k
  · rw [rx_b_f g] at k; exact k
theorem yq_32 {post : Int32 → Prop} {w a b : Nat} {q : Prop} (hw : w < 255) (h : b + a < 4) (e : b_slots (510 + w) = rx_b q) (k : post (rx_b (rx_on g_table (b + a + 4 * rx_t q)))) : wY_chosen_32 post (nI w) (nI a) (nI b) g_depth g_table g_n b_stack b_lc b_slots b_fresh := by
  have ei : (510 : Int32) + nI w = nI (510 + w) := nI_add 510 w
  refine And.intro (pk_in (510 + w) 765 (by omega) ei) ?_
  rw [ei, nI_clamp (by omega), e, nI_add]
  refine rx_br (fun g => ?_) (fun g => ?_)
  · rw [rx_t_f g] at k; exact yq_51 (a := 0) (by omega) k
  · rw [rx_t_t g] at k; exact yq_51 (a := 4) (by omega) k
theorem yq_14 {post : Int32 → Prop} {w a : Nat} {q q' : Prop} (hw : w < 255) (h : a < 2) (e : b_slots (255 + w) = rx_b q) (e' : b_slots (510 + w) = rx_b q') (k : post (rx_b (rx_on g_table (a + 2 * rx_t q + 4 * rx_t q')))) : wY_chosen_14 post (nI w) (nI a) g_depth g_table g_n b_stack b_lc b_slots b_fresh := by
  have ei : (255 : Int32) + nI w = nI (255 + w) := nI_add 255 w
  refine And.intro (pk_in (255 + w) 765 (by omega) ei) ?_
  rw [ei, nI_clamp (by omega), e]
  refine rx_br (fun g => ?_) (fun g => ?_)
  · rw [rx_t_f g] at k; exact yq_32 (a := 0) hw (by omega) e' k
  · rw [rx_t_t g] at k; exact yq_32 (a := 2) hw (by omega) e' k
theorem yq_cho {post : Int32 → Prop} {w : Nat} (hsl : ∀ s l, s < 3 → l.length ≤ 7 → b_slots (s * 255 + rx_n l) = rx_b (SL s l)) (hw : w < 255) (k : post (rx_b (rx_ch g_table SL w))) : wpY_chosen post (g_depth, g_table, g_n, b_stack, b_lc, b_slots, b_fresh) (nI w) := by
  have hn := rx_n_d w
  have h7 : (rx_d w).length ≤ 7 := rx_len_7 (by omega)
  have s0 := hsl 0 _ (by omega) h7
  have s1 := hsl 1 _ (by omega) h7
  have s2 := hsl 2 _ (by omega) h7
  rw [hn] at s0 s1 s2
  rw [Nat.zero_mul, Nat.zero_add] at s0
  unfold rx_ch rx_c rx_c3 rx_ix at k
  refine And.intro (pk_in w 765 (by omega)) ?_
  rw [nI_clamp (by omega), s0]
  refine rx_br (fun g => ?_) (fun g => ?_)
  · rw [show rx_t (SL 0 (rx_d w), SL 1 (rx_d w), SL 2 (rx_d w)).1 = 0 from rx_t_f g] at k
    exact yq_14 (a := 0) hw (by omega) s1 s2 k
  · rw [show rx_t (SL 0 (rx_d w), SL 1 (rx_d w), SL 2 (rx_d w)).1 = 1 from rx_t_t g] at k
    exact yq_14 (a := 1) hw (by omega) s1 s2 k
theorem yq_cb5 {post : Int32 → Prop} {lo hi : Nat} (hsl : ∀ s l, s < 3 → l.length ≤ 7 → b_slots (s * 255 + rx_n l) = rx_b (SL s l)) (hlo : lo ≤ hi) (hhi : hi ≤ 255)
    (k : ∀ c, c + rx_P (rx_ch g_table SL) lo = rx_P (rx_ch g_table SL) hi → post (nI c)) :
    ∀ n w g c, (w ≤ lo → g = lo) → (lo ≤ w → w ≤ hi → g = w) → (hi ≤ w → g = hi) → c + rx_P (rx_ch g_table SL) lo = rx_P (rx_ch g_table SL) g → w ≤ 255 → 255 < n + w → wY_chosenBetween_5 post (nI lo) (nI hi) g_depth g_table g_n b_stack b_lc b_slots b_fresh n (nI c) (nI w) := by
  intro n
  induction n with
  | zero => intro w g c _ _ _ _ h1 h2; omega
  | succ n ih =>
    intro w g c g1 g2 g3 hc h1 h2
    refine pk_le 255 w (fun h => ?_) (fun h => ?_)
    · refine k c ?_
      rw [g3 (by omega)] at hc
      exact hc
    · refine pk_lt w lo (fun z => ?_) (fun z => ?_)
      · refine nm_r (nI_1 w) (ih (w + 1) g c (fun _ => g1 (by omega)) (fun _ _ => ?_) (fun _ => ?_) hc (by omega) (by omega))
        · have := g1 (by omega); omega
        · have := g1 (by omega); omega
      · refine pk_le hi w (fun y => ?_) (fun y => ?_)
        · refine nm_r (nI_1 w) (ih (w + 1) g c (fun _ => ?_) (fun _ _ => ?_) (fun _ => g3 y) hc (by omega) (by omega))
          · omega
          · omega
        · have eg : g = w := g2 z (by omega)
          subst eg
          refine yq_cho hsl h (rx_br (fun a => ?_) (fun a => ?_))
          · refine nm_r (nI_1 g) (ih (g + 1) (g + 1) c (by omega) (by omega) (by omega) ?_ (by omega) (by omega))
            rw [rx_P1, rx_t_f a]
            exact hc
          · refine nm_r (nI_1 c) (nm_r (nI_1 g) (ih (g + 1) (g + 1) (c + 1) (by omega) (by omega) (by omega) ?_ (by omega) (by omega)))
            rw [rx_P1, rx_t_t a]
            omega
theorem yq_cb {post : Int32 → Prop} {lo hi : Nat} (hsl : ∀ s l, s < 3 → l.length ≤ 7 → b_slots (s * 255 + rx_n l) = rx_b (SL s l)) (hlo : lo ≤ hi) (hhi : hi ≤ 255)
    (k : ∀ c, c + rx_P (rx_ch g_table SL) lo = rx_P (rx_ch g_table SL) hi → post (nI c)) : wpY_chosenBetween post (g_depth, g_table, g_n, b_stack, b_lc, b_slots, b_fresh) (nI lo) (nI hi) :=
  Exists.intro 256 (yq_cb5 hsl hlo hhi k 256 0 lo 0 (fun _ => rfl) (fun h _ => by omega) (fun h => by omega) (by omega) (by omega) (by omega))
theorem yq_count {post : Int32 → Prop} {len : Nat} (hL : L ≤ 7) (hl : len ≤ L) (hsl : ∀ s l, s < 3 → l.length ≤ 7 → b_slots (s * 255 + rx_n l) = rx_b (SL s l))
    (k : post (nI (rx_cw (rx_ch g_table SL) len 0))) : wpY_count post (g_depth, g_table, nI L, b_stack, b_lc, b_slots, b_fresh) (nI len) := by
  refine br_f (nI_pos (by omega)) (br_t (nI_le hl (by omega)) ?_)
  have h2 := rx_2p (show len ≤ 7 by omega)
  have h1 : 2 ^ len ≤ 2 ^ (len + 1) := Nat.pow_le_pow_right (by decide) (by omega)
  rw [nI_1, rx_sm (show len < 31 by omega), rx_sm (show len + 1 < 31 by omega)]
  refine yq_cb hsl (by omega) (by omega) (fun c hc => ?_)
  have e := rx_cw_0 (ch := rx_ch g_table SL) len
  have ec : c = rx_cw (rx_ch g_table SL) len 0 := by omega
  rw [ec]
  exact k
theorem yq_total {post : Int32 → Prop} (hL : L ≤ 7) (hsl : ∀ s l, s < 3 → l.length ≤ 7 → b_slots (s * 255 + rx_n l) = rx_b (SL s l))
    (k : post (nI (rx_P (rx_ch g_table SL) (2 ^ (L + 1) - 1)))) : wpY_total post (g_depth, g_table, nI L, b_stack, b_lc, b_slots, b_fresh) := by
  have h2 := rx_2p hL
  unfold wpY_total
  show wpY_chosenBetween (fun r_1 => post r_1) (g_depth, g_table, nI L, b_stack, b_lc, b_slots, b_fresh) 0 (((1 : Int32) <<< ((nI L + 1) &&& 31)) - 1)
  rw [nI_1, rx_sm (show L + 1 < 31 by omega)]
  refine yq_cb (lo := 0) hsl (by omega) (by omega) (fun c hc => ?_)
  have ec : c = rx_P (rx_ch g_table SL) (2 ^ (L + 1) - 1) := hc
  rw [ec]
  exact k
theorem yq_vok {post : Int32 → Prop} {a b : Nat} (hL : L ≤ 7) (ha : a ≤ L) (hb : b < 2 ^ a) (k : post 1) : wpY_valid post (g_depth, g_table, nI L, b_stack, b_lc, b_slots, b_fresh) (nI a) (nI b) := by
  have h2 := rx_p7 (show a ≤ 7 by omega)
  exact br_f (nI_pos (by omega)) (br_f (nI_nlt ha (by omega)) (br_f (nI_pos (by omega)) (br_f (by rw [rx_sh a (by omega)]; exact nI_ge hb (by omega)) k)))
theorem yq_vno {post : Int32 → Prop} {v1 v2 : Int32} (hL : L ≤ 7) (h : ¬ ∃ a b : Nat, v1 = nI a ∧ v2 = nI b ∧ a ≤ L ∧ b < 2 ^ a) (k : post 0) : wpY_valid post (g_depth, g_table, nI L, b_stack, b_lc, b_slots, b_fresh) v1 v2 := by
  refine br_c (fun _ => k) (fun h1 => br_c (fun _ => k) (fun h2 => br_c (fun _ => k) (fun h3 => br_c (fun _ => k) (fun h4 => ?_))))
  exfalso
  obtain ⟨a, ha, rfl⟩ := nI_of h1
  obtain ⟨b, hb, rfl⟩ := nI_of h3
  rw [nI_ltI (by omega) ha] at h2
  have h5 := rx_p7 (show a ≤ 7 by omega)
  rw [rx_sh a (by omega), nI_leI (by omega) hb] at h4
  exact h ⟨a, b, rfl, rfl, by omega, by omega⟩
theorem rx_lv_mk {a b : Nat} (hb : b < 2 ^ a) : rx_lv a (2 ^ a - 1 + b) := by
  have := Nat.two_pow_pos a
  unfold rx_lv
  rw [Nat.pow_succ]
  omega
theorem yq_isC {post : Int32 → Prop} {a b : Nat} (hL : L ≤ 7) (ha : a ≤ L) (hb : b < 2 ^ a) (hsl : ∀ s l, s < 3 → l.length ≤ 7 → b_slots (s * 255 + rx_n l) = rx_b (SL s l))
    (k : post (rx_b (rx_ch g_table SL (2 ^ a - 1 + b)))) : wpY_isChosen post (g_depth, g_table, nI L, b_stack, b_lc, b_slots, b_fresh) (nI a) (nI b) := by
  unfold wpY_isChosen
  refine yq_vok hL ha hb ?_
  refine br_f (by decide) ?_
  rw [rx_sm (show a < 31 by omega), nI_add]
  refine yq_cho hsl (rx_lv_255 (rx_lv_mk hb) (by omega)) (rx_br (fun g => ?_) (fun g => ?_))
  · rw [rx_b_f g] at k; exact k
  · rw [rx_b_t g] at k; exact k
theorem yq_rank {post : Int32 → Prop} {a b : Nat} (hL : L ≤ 7) (ha : a ≤ L) (hb : b < 2 ^ a) (hsl : ∀ s l, s < 3 → l.length ≤ 7 → b_slots (s * 255 + rx_n l) = rx_b (SL s l))
    (k : post (nI (rx_P (rx_ch g_table SL) (2 ^ a - 1 + b)))) : wpY_rank post (g_depth, g_table, nI L, b_stack, b_lc, b_slots, b_fresh) (nI a) (nI b) := by
  unfold wpY_rank
  refine yq_vok hL ha hb ?_
  refine br_f (by decide) ?_
  rw [rx_sm (show a < 31 by omega), nI_add]
  have := rx_lv_255 (rx_lv_mk hb) (show a ≤ 7 by omega)
  refine yq_cb (lo := 0) hsl (by omega) (by omega) (fun c hc => ?_)
  have ec : c = rx_P (rx_ch g_table SL) (2 ^ a - 1 + b) := hc
  rw [ec]
  exact k
/-! find -/
theorem yq_fs {post : Int32 → Prop} {w0 : Nat} (hL : L ≤ 7) (hw : w0 < 2 ^ (L + 1) - 1) (hc : rx_ch g_table SL w0) (hsl : ∀ s l, s < 3 → l.length ≤ 7 → b_slots (s * 255 + rx_n l) = rx_b (SL s l)) (k : post (nI w0)) :
    ∀ (n w : Nat) (x : Int32), w ≤ 2 ^ (L + 1) - 1 → 2 ^ (L + 1) - 1 < n + w → (w0 < w → x = nI w0) → wY_find_7 post (nI (rx_P (rx_ch g_table SL) w0)) g_depth g_table (nI L) b_stack b_lc b_slots b_fresh n (nI (rx_P (rx_ch g_table SL) w)) x (nI w) := by
  have h2 := rx_2p hL
  have eM : ((1 : Int32) <<< ((nI L + 1) &&& 31)) - 1 = nI (2 ^ (L + 1) - 1) := by rw [nI_1]; exact rx_sm (by omega)
  intro n
  induction n with
  | zero => intro w x h1 h2; omega
  | succ n ih =>
    intro w x h1 h2 h3
    have pw := rx_P_le (ch := rx_ch g_table SL) w
    have pw0 := rx_P_le (ch := rx_ch g_table SL) w0
    refine pk_le (2 ^ (L + 1) - 1) w (fun h => ?_) (fun h => ?_) eM
    · rw [h3 (by omega)]; exact k
    · refine yq_cho hsl (by omega) (rx_br (fun a => ?_) (fun a => ?_))
      · have e : rx_P (rx_ch g_table SL) (w + 1) = rx_P (rx_ch g_table SL) w := by rw [rx_P1, rx_t_f a]; rfl
        refine nm_r (nI_1 w) ?_
        rw [← e]
        refine ih (w + 1) x (by omega) (by omega) (fun y => ?_)
        by_cases z : w0 = w
        · rw [z] at hc; exact absurd hc a
        · exact h3 (by omega)
      · have e : nI (rx_P (rx_ch g_table SL) w) + 1 = nI (rx_P (rx_ch g_table SL) (w + 1)) := by rw [nI_1, rx_P1, rx_t_t a]
        refine pk_eq (rx_P (rx_ch g_table SL) w) (rx_P (rx_ch g_table SL) w0) (fun z => ?_) (fun z => ?_)
        · have ew := rx_P_inj a hc z
          refine nm_r e (nm_r (nI_1 w) (ih (w + 1) _ (by omega) (by omega) (fun _ => by rw [ew])))
        · refine nm_r e (nm_r (nI_1 w) (ih (w + 1) x (by omega) (by omega) (fun y => ?_)))
          by_cases z' : w0 = w
          · exact absurd (by rw [z']) z
          · exact h3 (by omega)
theorem yq_fn {post : Int32 → Prop} {kk : Int32} (hL : L ≤ 7) (hn : ∀ w, w < 2 ^ (L + 1) - 1 → rx_ch g_table SL w → kk ≠ nI (rx_P (rx_ch g_table SL) w)) (hsl : ∀ s l, s < 3 → l.length ≤ 7 → b_slots (s * 255 + rx_n l) = rx_b (SL s l)) (k : post (-1)) :
    ∀ (n w : Nat), w ≤ 2 ^ (L + 1) - 1 → 2 ^ (L + 1) - 1 < n + w → wY_find_7 post kk g_depth g_table (nI L) b_stack b_lc b_slots b_fresh n (nI (rx_P (rx_ch g_table SL) w)) (-1) (nI w) := by
  have h2 := rx_2p hL
  have eM : ((1 : Int32) <<< ((nI L + 1) &&& 31)) - 1 = nI (2 ^ (L + 1) - 1) := by rw [nI_1]; exact rx_sm (by omega)
  intro n
  induction n with
  | zero => intro w h1 h2; omega
  | succ n ih =>
    intro w h1 h2
    refine pk_le (2 ^ (L + 1) - 1) w (fun h => ?_) (fun h => ?_) eM
    · exact k
    · refine yq_cho hsl (by omega) (rx_br (fun a => ?_) (fun a => ?_))
      · have e : rx_P (rx_ch g_table SL) (w + 1) = rx_P (rx_ch g_table SL) w := by rw [rx_P1, rx_t_f a]; rfl
        refine nm_r (nI_1 w) ?_
        rw [← e]
        exact ih (w + 1) (by omega) (by omega)
      · have e : nI (rx_P (rx_ch g_table SL) w) + 1 = nI (rx_P (rx_ch g_table SL) (w + 1)) := by rw [nI_1, rx_P1, rx_t_t a]
        exact br_f (fun z => hn w h a z.symm) (nm_r e (nm_r (nI_1 w) (ih (w + 1) (by omega) (by omega))))
theorem yq_wl {post : Int32 → Prop} {w0 d : Nat} (hL : L ≤ 7) (hd : d ≤ L) (hv : rx_lv d w0) (hc : rx_ch g_table SL w0) (hsl : ∀ s l, s < 3 → l.length ≤ 7 → b_slots (s * 255 + rx_n l) = rx_b (SL s l)) (k : post (nI d)) :
    wpY_wordLen post (g_depth, g_table, nI L, b_stack, b_lc, b_slots, b_fresh) (nI (rx_P (rx_ch g_table SL) w0)) := by
  have h255 := rx_lv_255 hv (by omega)
  have hw : w0 < 2 ^ (L + 1) - 1 := by
    have := Nat.pow_le_pow_right (n := 2) (by decide) (show d + 1 ≤ L + 1 by omega)
    have := hv.2
    omega
  refine Exists.intro (2 ^ (L + 1)) (yq_fs hL hw hc hsl ?_ (2 ^ (L + 1)) 0 (-1) (by omega) (by omega) (fun h => by omega))
  exact br_t (nI_pos' (by omega)) (yl_len (by omega) hv k)
theorem yq_wln {post : Int32 → Prop} {kk : Int32} (hL : L ≤ 7) (hn : ∀ w, w < 2 ^ (L + 1) - 1 → rx_ch g_table SL w → kk ≠ nI (rx_P (rx_ch g_table SL) w)) (hsl : ∀ s l, s < 3 → l.length ≤ 7 → b_slots (s * 255 + rx_n l) = rx_b (SL s l)) (k : post (-1)) :
    wpY_wordLen post (g_depth, g_table, nI L, b_stack, b_lc, b_slots, b_fresh) kk := by
  refine Exists.intro (2 ^ (L + 1)) (yq_fn hL hn hsl ?_ (2 ^ (L + 1)) 0 (by omega) (by have := Nat.two_pow_pos (L + 1); omega))
  exact br_f (by decide) k
theorem yq_wb {post : Int32 → Prop} {w0 d : Nat} (hL : L ≤ 7) (hd : d ≤ L) (hv : rx_lv d w0) (hc : rx_ch g_table SL w0) (hsl : ∀ s l, s < 3 → l.length ≤ 7 → b_slots (s * 255 + rx_n l) = rx_b (SL s l)) (k : post (nI (w0 + 1 - 2 ^ d))) :
    wpY_wordBits post (g_depth, g_table, nI L, b_stack, b_lc, b_slots, b_fresh) (nI (rx_P (rx_ch g_table SL) w0)) := by
  have h255 := rx_lv_255 hv (by omega)
  have hw : w0 < 2 ^ (L + 1) - 1 := by
    have := Nat.pow_le_pow_right (n := 2) (by decide) (show d + 1 ≤ L + 1 by omega)
    have := hv.2
    omega
  refine Exists.intro (2 ^ (L + 1)) (yq_fs hL hw hc hsl ?_ (2 ^ (L + 1)) 0 (-1) (by omega) (by omega) (fun h => by omega))
  refine br_t (nI_pos' (by omega)) (yl_len (by omega) hv ?_)
  have b := rx_p7 (show d ≤ 7 by omega)
  have := hv.1
  have e1 : nI w0 - (((1 : Int32) <<< (nI d &&& 31)) - 1) = nI (w0 + 1 - 2 ^ d) := by
    rw [rx_sm (by omega), pk_sub (by omega)]
    exact congrArg nI (by omega)
  rw [e1]
  exact k
theorem yq_wbn {post : Int32 → Prop} {kk : Int32} (hL : L ≤ 7) (hn : ∀ w, w < 2 ^ (L + 1) - 1 → rx_ch g_table SL w → kk ≠ nI (rx_P (rx_ch g_table SL) w)) (hsl : ∀ s l, s < 3 → l.length ≤ 7 → b_slots (s * 255 + rx_n l) = rx_b (SL s l)) (k : post (-1)) :
    wpY_wordBits post (g_depth, g_table, nI L, b_stack, b_lc, b_slots, b_fresh) kk := by
  refine Exists.intro (2 ^ (L + 1)) (yq_fn hL hn hsl ?_ (2 ^ (L + 1)) 0 (by omega) (by have := Nat.two_pow_pos (L + 1); omega))
  exact br_f (by decide) k
/-! countFrom -/
theorem yq_cf25 {post : Int32 → Prop} {len st : Nat} (hL : L ≤ 7) (hlen : len ≤ L) (hst : rx_lv len st) (hsl : ∀ s l, s < 3 → l.length ≤ 7 → b_slots (s * 255 + rx_n l) = rx_b (SL s l))
    (k : post (nI (rx_P (rx_cf (rx_ch g_table SL) len st) (2 ^ (L + 1) - 1)))) :
    ∀ (n w : Nat), w ≤ 2 ^ (L + 1) - 1 → 2 ^ (L + 1) - 1 < n + w → wY_countFrom_25 post (nI len) (nI st) g_depth g_table (nI L) b_stack b_lc b_slots b_fresh n (nI (rx_P (rx_cf (rx_ch g_table SL) len st) w)) (nI w) := by
  have h2 := rx_2p hL
  have hs255 := rx_lv_255 hst (by omega)
  have eM : ((1 : Int32) <<< ((nI L + 1) &&& 31)) - 1 = nI (2 ^ (L + 1) - 1) := by rw [nI_1]; exact rx_sm (by omega)
  intro n
  induction n with
  | zero => intro w h1 h2; omega
  | succ n ih =>
    intro w h1 h2
    refine pk_le (2 ^ (L + 1) - 1) w (fun h => ?_) (fun h => ?_) eM
    · have e : w = 2 ^ (L + 1) - 1 := by omega
      rw [e]
      exact k
    · obtain ⟨d, hd⟩ := rx_lv_ex w
      have hd7 : d ≤ 7 := rx_lv_7 hd (by omega)
      have no : ¬ rx_cf (rx_ch g_table SL) len st w → ∀ y : Int32, y = nI w + 1 → wY_countFrom_25 post (nI len) (nI st) g_depth g_table (nI L) b_stack b_lc b_slots b_fresh n (nI (rx_P (rx_cf (rx_ch g_table SL) len st) w)) y := by
        intro a
        have e : rx_P (rx_cf (rx_ch g_table SL) len st) (w + 1) = rx_P (rx_cf (rx_ch g_table SL) len st) w := by rw [rx_P1, rx_t_f a]; rfl
        refine nm_r (nI_1 w) ?_
        rw [← e]
        exact ih (w + 1) (by omega) (by omega)
      refine yl_len hd7 hd (pk_lt d len (fun z => ?_) (fun z => ?_))
      · refine no (fun ⟨_, d', q1, q2, _⟩ => ?_)
        have := rx_lv_uni q1 hd
        omega
      · refine yl_pre hd7 hd z ?_
        have hq : (w + 1) / 2 ^ (d - len) ≤ w + 1 := Nat.div_le_self _ _
        have hq1 : 1 ≤ (w + 1) / 2 ^ (d - len) := by
          rw [Nat.le_div_iff_mul_le (Nat.two_pow_pos _), Nat.one_mul]
          exact Nat.le_trans (Nat.pow_le_pow_right (by decide) (by omega)) hd.1
        refine pk_eq ((w + 1) / 2 ^ (d - len) - 1) st (fun y => ?_) (fun y => ?_)
        · refine yq_cho hsl (by omega) (rx_br (fun a => ?_) (fun a => ?_))
          · exact no (fun q => a q.1)
          · have a' : rx_cf (rx_ch g_table SL) len st w := ⟨a, d, hd, z, by omega⟩
            have e : nI (rx_P (rx_cf (rx_ch g_table SL) len st) w) + 1 = nI (rx_P (rx_cf (rx_ch g_table SL) len st) (w + 1)) := by rw [nI_1, rx_P1, rx_t_t a']
            exact nm_r e (nm_r (nI_1 w) (ih (w + 1) (by omega) (by omega)))
        · refine no (fun ⟨_, d', q1, q2, q3⟩ => ?_)
          have := rx_lv_uni q1 hd
          subst this
          omega
theorem yq_cf {post : Int32 → Prop} {a b : Nat} (hL : L ≤ 7) (ha : a ≤ L) (hb : b < 2 ^ a) (hsl : ∀ s l, s < 3 → l.length ≤ 7 → b_slots (s * 255 + rx_n l) = rx_b (SL s l))
    (k : post (nI (rx_P (rx_cf (rx_ch g_table SL) a (2 ^ a - 1 + b)) (2 ^ (L + 1) - 1)))) : wpY_countFrom post (g_depth, g_table, nI L, b_stack, b_lc, b_slots, b_fresh) (nI a) (nI b) := by
  unfold wpY_countFrom
  refine yq_vok hL ha hb ?_
  refine br_f (by decide) ?_
  refine nm_r (e' := nI (2 ^ a - 1 + b)) (by rw [rx_sm (show a < 31 by omega), nI_add]) ?_
  exact Exists.intro (2 ^ (L + 1)) (yq_cf25 hL ha (rx_lv_mk hb) hsl k (2 ^ (L + 1)) 0 (by omega) (by have := Nat.two_pow_pos (L + 1); omega))
end
end
section
/-! the component: fill and walk -/
def rx_Fr (L : Nat) (ch : Nat → Prop) (fresh : Int32) (la k0 k1 hit : Nat → Int32) : Prop := fresh = 0 ∨ (fresh ≠ 0 ∧ ∃ ly nd, rx_G L ch ly nd la k0 k1 hit)
def rx_Wy (ch : Nat → Prop) (len : Nat) (nd : Nat → Nat) (wy : Nat → Int32) : Prop := ∀ d w, d ≤ len → rx_lv d w → wy (nd w) = nI (rx_cw ch (len - d) w)
theorem rx_find {ly : Nat → Nat} {i : Nat} (h0 : ly 0 = 0) : ∀ n, i < ly n → ∃ d, d < n ∧ ly d ≤ i ∧ i < ly (d + 1) := by
  intro n
  induction n with
  | zero => intro h; omega
  | succ n ih =>
    intro h
    by_cases z : i < ly n
    · obtain ⟨d, a, b⟩ := ih z
      exact ⟨d, by omega, b⟩
    · exact ⟨n, by omega, by omega, h⟩
theorem rx_m1 {a : Nat} (h : a < 2 ^ 30) : nI a - 1 < 0 ↔ a = 0 := by
  rw [Int32.lt_iff_toInt_lt, show (nI a - 1).toInt = (a : Int) - (1 : Nat) from pk_sub_toInt h (by decide), show (0 : Int32).toInt = 0 from by decide]
  omega
theorem rx_m2 (a : Nat) : nI (a + 1) - 1 + (-1) = nI a - 1 := by
  rw [nI_pred, Int32.sub_eq_add_neg]
theorem rx_G_mono {L : Nat} {ch : Nat → Prop} {ly nd : Nat → Nat} {la k0 k1 hit : Nat → Int32} (G : rx_G L ch ly nd la k0 k1 hit) : ∀ b a, a ≤ b → b ≤ L + 1 → ly a ≤ ly b := rx_mono G.2.2.1
theorem rx_G_255 {L : Nat} {ch : Nat → Prop} {ly nd : Nat → Nat} {la k0 k1 hit : Nat → Int32} (G : rx_G L ch ly nd la k0 k1 hit) {d w : Nat} (hd : d ≤ L) (hw : rx_lv d w) : nd w < 255 := by
  have a := G.2.2.2.2.2.1 d w hd hw
  have b := rx_G_mono G (L + 1) (d + 1) (by omega) (by omega)
  have c := G.2.2.2.1
  omega
section
variable {f_longest f_height f_places f_table f_fresh f_nodes : Int32} {a_low a_first a_last a_empty a_kind a_follow a_turned a_slotFirst a_slotLast a_slotEmpty a_slotZeros a_slotOnes a_slotFollow a_layer a_set0 a_set1 a_set2 a_kid0 a_kid1 a_hit a_ways a_group : Nat → Int32} {SL : Nat → List Bool → Prop} {L : Nat}
theorem xq_build {post : SX → Prop} (hL : L ≤ 7) (hS : rx_SS a_slotFirst a_slotLast a_slotEmpty a_slotZeros a_slotOnes a_slotFollow SL) (hF : rx_Fr L (rx_ch f_table SL) f_fresh a_layer a_kid0 a_kid1 a_hit)
    (K : ∀ (ly nd : Nat → Nat) (ff nn : Int32) (la s0 s1 s2 k0 k1 ht : Nat → Int32), ff ≠ 0 → rx_G L (rx_ch f_table SL) ly nd la k0 k1 ht → post (nI L, f_height, f_places, f_table, ff, nn, a_low, a_first, a_last, a_empty, a_kind, a_follow, a_turned, a_slotFirst, a_slotLast, a_slotEmpty, a_slotZeros, a_slotOnes, a_slotFollow, la, s0, s1, s2, k0, k1, ht, a_ways, a_group)) : wpX_build post (nI L, f_height, f_places, f_table, f_fresh, f_nodes, a_low, a_first, a_last, a_empty, a_kind, a_follow, a_turned, a_slotFirst, a_slotLast, a_slotEmpty, a_slotZeros, a_slotOnes, a_slotFollow, a_layer, a_set0, a_set1, a_set2, a_kid0, a_kid1, a_hit, a_ways, a_group) := by
  rcases hF with hF | ⟨hF, ly, nd, hG⟩
  · refine xb_build0 (SL := SL) (R := fun l => (SL 0 l, SL 1 l, SL 2 l)) hL hS (fun l => rfl) hF (fun ly nn la s0 s1 s2 k0 k1 ht a1 a2 a3 => ?_)
    obtain ⟨nd, hG⟩ := bi_G (SL := SL) a1 (fun l => rfl) a2 a3
    exact K ly nd 1 nn la s0 s1 s2 k0 k1 ht (by decide) hG
  · exact br_f hF (K ly nd f_fresh f_nodes a_layer a_set0 a_set1 a_set2 a_kid0 a_kid1 a_hit hF hG)
theorem xq_f58 {post : SX → Prop} {ch : Nat → Prop} {ly nd : Nat → Nat} {len : Nat} (hL : L ≤ 7) (hl : len ≤ L) (G : rx_G L ch ly nd a_layer a_kid0 a_kid1 a_hit)
    (K : ∀ wy, rx_Wy ch len nd wy → post (nI L, f_height, f_places, f_table, f_fresh, f_nodes, a_low, a_first, a_last, a_empty, a_kind, a_follow, a_turned, a_slotFirst, a_slotLast, a_slotEmpty, a_slotZeros, a_slotOnes, a_slotFollow, a_layer, a_set0, a_set1, a_set2, a_kid0, a_kid1, a_hit, wy, a_group)) :
    ∀ (n a : Nat) (wy : Nat → Int32), a ≤ ly len → a < n → (∀ d w, d ≤ len → rx_lv d w → a ≤ nd w → wy (nd w) = nI (rx_cw ch (len - d) w)) → wX_fill_58 post (nI L) f_height f_places f_table f_fresh f_nodes n (nI a - 1) a_low a_first a_last a_empty a_kind a_follow a_turned a_slotFirst a_slotLast a_slotEmpty a_slotZeros a_slotOnes a_slotFollow a_layer a_set0 a_set1 a_set2 a_kid0 a_kid1 a_hit wy a_group := by
  have mono := rx_G_mono G
  have h255 := G.2.2.2.1
  have m0 := mono (L + 1) len (by omega) (by omega)
  intro n
  induction n with
  | zero => intro a wy h1 h2; omega
  | succ n ih =>
    intro a wy h1 h2 h3
    refine ek_if (rx_m1 (by omega)) (fun z => ?_) (fun z => ?_)
    · exact K wy (fun d w hd hw => h3 d w hd hw (by omega))
    · obtain ⟨i, rfl⟩ : ∃ i, a = i + 1 := ⟨a - 1, by omega⟩
      have ei : nI (i + 1) - 1 = nI i := nI_pred i
      have cl : (nI (i + 1) - 1).toNatClampNeg = i := by rw [ei]; exact nI_clamp (by omega)
      obtain ⟨d, hd, b1, b2⟩ := rx_find G.2.1 len (show i < ly len by omega)
      obtain ⟨w, hw, ew⟩ := G.2.2.2.2.2.2.2 d i (by omega) b1 b2
      have kk := G.2.2.2.2.2.2.1 d w (by omega) hw
      rw [ew] at kk
      have q0 := rx_G_255 G (show d + 1 ≤ L by omega) (rx_lv_l hw)
      have q1 := rx_G_255 G (show d + 1 ≤ L by omega) (rx_lv_r hw)
      have ii : vp_in (nI (i + 1) - 1) 256 := pk_in i 256 (by omega) ei
      rw [cl, kk.1, kk.2]
      refine ⟨ii, pk_in (nd (2 * w + 1)) 256 (by omega), ii, pk_in (nd (2 * w + 2)) 256 (by omega), ii, nm_e (nm_r (rx_m2 i) ?_)⟩
      refine ih i _ (by omega) (by omega) (fun d' w' hd' hw' hn => ?_)
      by_cases zz : nd w' = i
      · have r' := G.2.2.2.2.2.1 d' w' (by omega) hw'
        have hlt : d' < len := by
          rcases Nat.lt_or_ge d' len with y | y
          · exact y
          · have : d' = len := by omega
            rw [this] at r'; omega
        have kk' := G.2.2.2.2.2.2.1 d' w' (by omega) hw'
        rw [zz] at kk'
        have rl := G.2.2.2.2.2.1 (d' + 1) _ (by omega) (rx_lv_l hw')
        have rr := G.2.2.2.2.2.1 (d' + 1) _ (by omega) (rx_lv_r hw')
        have v0 := h3 (d' + 1) _ (by omega) (rx_lv_l hw') (by omega)
        have v1 := h3 (d' + 1) _ (by omega) (rx_lv_r hw') (by omega)
        have e0 : nd (2 * w' + 1) = nd (2 * w + 1) := (nI_eq (by have := rx_G_255 G (show d' + 1 ≤ L by omega) (rx_lv_l hw'); omega) (by omega)).mp (kk'.1.symm.trans kk.1)
        have e1 : nd (2 * w' + 2) = nd (2 * w + 2) := (nI_eq (by have := rx_G_255 G (show d' + 1 ≤ L by omega) (rx_lv_r hw'); omega) (by omega)).mp (kk'.2.symm.trans kk.2)
        rw [zz, pk_us, nI_clamp (by omega), nI_clamp (by omega), ← e0, ← e1, v0, v1, nI_add]
        have el : len - d' = (len - (d' + 1)) + 1 := by omega
        rw [el]
        rfl
      · rw [pk_un zz]
        exact h3 d' w' hd' hw' (by omega)
theorem xq_f11 {post : SX → Prop} {ch : Nat → Prop} {ly nd : Nat → Nat} {len : Nat} (hL : L ≤ 7) (hl : len ≤ L) (G : rx_G L ch ly nd a_layer a_kid0 a_kid1 a_hit)
    (K : ∀ wy, rx_Wy ch len nd wy → post (nI L, f_height, f_places, f_table, f_fresh, f_nodes, a_low, a_first, a_last, a_empty, a_kind, a_follow, a_turned, a_slotFirst, a_slotLast, a_slotEmpty, a_slotZeros, a_slotOnes, a_slotFollow, a_layer, a_set0, a_set1, a_set2, a_kid0, a_kid1, a_hit, wy, a_group)) :
    ∀ (n i : Nat) (wy : Nat → Int32), ly len ≤ i → i ≤ ly (len + 1) → ly (len + 1) < n + i → (∀ w, rx_lv len w → nd w < i → wy (nd w) = nI (rx_cw ch 0 w)) → wX_fill_11 post (nI len) (nI L) f_height f_places f_table f_fresh f_nodes n (nI i) a_low a_first a_last a_empty a_kind a_follow a_turned a_slotFirst a_slotLast a_slotEmpty a_slotZeros a_slotOnes a_slotFollow a_layer a_set0 a_set1 a_set2 a_kid0 a_kid1 a_hit wy a_group := by
  have mono := rx_G_mono G
  have h255 := G.2.2.2.1
  have m0 := mono (L + 1) (len + 1) (by omega) (by omega)
  have m1 := mono (len + 1) len (by omega) (by omega)
  have c1 : (nI len + 1).toNatClampNeg = len + 1 := by rw [nI_1]; exact nI_clamp (by omega)
  have c0 : (nI len).toNatClampNeg = len := nI_clamp (by omega)
  intro n
  induction n with
  | zero => intro i wy h0 h1 h2; omega
  | succ n ih =>
    intro i wy h0 h1 h2 h3
    have cl : (nI i).toNatClampNeg = i := nI_clamp (by omega)
    refine ⟨pk_in (len + 1) 10 (by omega) (nI_1 len), ?_⟩
    refine pk_le (ly (len + 1)) i (fun h => ?_) (fun h => ?_) (by rw [c1]; exact G.1 (len + 1) (by omega))
    · refine ⟨pk_in len 10 (by omega), nm_r (e' := nI (ly len) - 1) (by rw [c0, G.1 len (by omega)]) ?_⟩
      refine Exists.intro (ly len + 1) (xq_f58 hL hl G K (ly len + 1) (ly len) wy (Nat.le_refl _) (by omega) (fun d w hd hw hn => ?_))
      have r := G.2.2.2.2.2.1 d w (by omega) hw
      have ed : d = len := by
        rcases Nat.lt_or_ge d len with y | y
        · have := mono len (d + 1) (by omega) (by omega); omega
        · omega
      subst ed
      rw [Nat.sub_self]
      exact h3 w hw (by omega)
    · obtain ⟨w, hw, ew⟩ := G.2.2.2.2.2.2.2 len i hl h0 h
      have hh := (G.2.2.2.2.2.1 len w hl hw).2.2
      rw [ew] at hh
      have fin : ∀ x : Int32, x = a_hit i → ∀ a : Nat → Int32, a = upd wy i x → ∀ y : Int32, y = nI i + 1 → wX_fill_11 post (nI len) (nI L) f_height f_places f_table f_fresh f_nodes n y a_low a_first a_last a_empty a_kind a_follow a_turned a_slotFirst a_slotLast a_slotEmpty a_slotZeros a_slotOnes a_slotFollow a_layer a_set0 a_set1 a_set2 a_kid0 a_kid1 a_hit a a_group := by
        intro x hx a ea
        subst ea
        refine nm_r (nI_1 i) (ih (i + 1) _ (by omega) (by omega) (by omega) (fun w' hw' hn => ?_))
        by_cases zz : nd w' = i
        · have hh' := (G.2.2.2.2.2.1 len w' hl hw').2.2
          rw [zz] at hh'
          rw [zz, pk_us, hx, hh']
          exact (rx_t_b _).symm
        · rw [pk_un zz]
          exact h3 w' hw' (by omega)
      refine ⟨pk_in i 256 (by omega), ?_⟩
      rw [cl, hh]
      refine rx_br (fun g => ⟨pk_in i 256 (by omega), ?_⟩) (fun g => ⟨pk_in i 256 (by omega), ?_⟩)
      · exact fin 0 (by rw [hh, rx_b_f g])
      · exact fin 1 (by rw [hh, rx_b_t g])
theorem xq_fillF {post : SX → Prop} {ch : Nat → Prop} {ly nd : Nat → Nat} {len : Nat} (hL : L ≤ 7) (hl : len ≤ L) (hf : f_fresh ≠ 0) (G : rx_G L ch ly nd a_layer a_kid0 a_kid1 a_hit)
    (K : ∀ wy, rx_Wy ch len nd wy → post (nI L, f_height, f_places, f_table, f_fresh, f_nodes, a_low, a_first, a_last, a_empty, a_kind, a_follow, a_turned, a_slotFirst, a_slotLast, a_slotEmpty, a_slotZeros, a_slotOnes, a_slotFollow, a_layer, a_set0, a_set1, a_set2, a_kid0, a_kid1, a_hit, wy, a_group)) : wpX_fill post (nI L, f_height, f_places, f_table, f_fresh, f_nodes, a_low, a_first, a_last, a_empty, a_kind, a_follow, a_turned, a_slotFirst, a_slotLast, a_slotEmpty, a_slotZeros, a_slotOnes, a_slotFollow, a_layer, a_set0, a_set1, a_set2, a_kid0, a_kid1, a_hit, a_ways, a_group) (nI len) := by
  have c0 : (nI len).toNatClampNeg = len := nI_clamp (by omega)
  unfold wpX_fill
  refine br_f hf ?_
  refine And.intro (pk_in len 10 (by omega)) (nm_r (e' := nI (ly len)) (by rw [c0, G.1 len (by omega)]) ?_)
  exact Exists.intro (ly (len + 1) + 1) (xq_f11 hL hl G K (ly (len + 1) + 1) (ly len) a_ways (Nat.le_refl _) (rx_G_mono G (len + 1) len (by omega) (by omega)) (by omega) (fun w hw hn => by have := (G.2.2.2.2.2.1 len w hl hw).1; omega))
theorem xq_fill {post : SX → Prop} {len : Nat} (hL : L ≤ 7) (hl : len ≤ L) (hS : rx_SS a_slotFirst a_slotLast a_slotEmpty a_slotZeros a_slotOnes a_slotFollow SL) (hF : rx_Fr L (rx_ch f_table SL) f_fresh a_layer a_kid0 a_kid1 a_hit)
    (K : ∀ (ly nd : Nat → Nat) (ff nn : Int32) (la s0 s1 s2 k0 k1 ht wy : Nat → Int32), ff ≠ 0 → rx_G L (rx_ch f_table SL) ly nd la k0 k1 ht → rx_Wy (rx_ch f_table SL) len nd wy → post (nI L, f_height, f_places, f_table, ff, nn, a_low, a_first, a_last, a_empty, a_kind, a_follow, a_turned, a_slotFirst, a_slotLast, a_slotEmpty, a_slotZeros, a_slotOnes, a_slotFollow, la, s0, s1, s2, k0, k1, ht, wy, a_group)) : wpX_fill post (nI L, f_height, f_places, f_table, f_fresh, f_nodes, a_low, a_first, a_last, a_empty, a_kind, a_follow, a_turned, a_slotFirst, a_slotLast, a_slotEmpty, a_slotZeros, a_slotOnes, a_slotFollow, a_layer, a_set0, a_set1, a_set2, a_kid0, a_kid1, a_hit, a_ways, a_group) (nI len) := by
  have c0 : (nI len).toNatClampNeg = len := nI_clamp (by omega)
  unfold wpX_fill
  refine xq_build hL hS hF (fun ly nd ff nn la s0 s1 s2 k0 k1 ht hff G => ?_)
  refine And.intro (pk_in len 10 (by omega)) (nm_r (e' := nI (ly len)) (by rw [c0, G.1 len (by omega)]) ?_)
  exact Exists.intro (ly (len + 1) + 1) (xq_f11 hL hl G (fun wy hw => K ly nd ff nn la s0 s1 s2 k0 k1 ht wy hff G hw) (ly (len + 1) + 1) (ly len) a_ways (Nat.le_refl _) (rx_G_mono G (len + 1) len (by omega) (by omega)) (by omega) (fun w hw hn => by have := (G.2.2.2.2.2.1 len w hl hw).1; omega))
end
/-! the words along a walk -/
theorem rx_wk {len a b : Nat} (hb : b < 2 ^ len) (ha : a ≤ len) : rx_lv (len - a) ((2 ^ len + b) / 2 ^ a - 1) := by
  have e1 : 2 ^ (len - a) * 2 ^ a = 2 ^ len := by rw [← Nat.pow_add]; exact congrArg _ (by omega)
  have p := Nat.two_pow_pos a
  have l1 : 2 ^ (len - a) ≤ (2 ^ len + b) / 2 ^ a := by rw [Nat.le_div_iff_mul_le p, e1]; omega
  have l2 : (2 ^ len + b) / 2 ^ a < 2 ^ (len - a + 1) := by
    rw [Nat.div_lt_iff_lt_mul p, Nat.pow_succ, Nat.mul_right_comm, e1]; omega
  have p2 := Nat.two_pow_pos (len - a)
  unfold rx_lv
  omega
theorem rx_wk1 {len a : Nat} (b : Nat) (ha : a ≤ len) : 1 ≤ (2 ^ len + b) / 2 ^ a := by
  rw [Nat.le_div_iff_mul_le (Nat.two_pow_pos a), Nat.one_mul]
  have := Nat.pow_le_pow_right (n := 2) (by decide) ha
  omega
theorem rx_wk2 {len a b : Nat} (ha : a + 1 ≤ len) : (2 ^ len + b) / 2 ^ a = 2 * ((2 ^ len + b) / 2 ^ (a + 1)) + b / 2 ^ a % 2 := by
  have e1 : 2 ^ len = 2 * 2 ^ (len - a - 1) * 2 ^ a := by
    rw [Nat.mul_comm 2, ← Nat.pow_succ, ← Nat.pow_add]; exact congrArg _ (by omega)
  have p := Nat.two_pow_pos a
  have e2 : (2 ^ len + b) / 2 ^ a = b / 2 ^ a + 2 * 2 ^ (len - a - 1) := by
    rw [e1, Nat.add_comm, Nat.add_mul_div_right _ _ p]
  rw [Nat.pow_succ, ← Nat.div_div_eq_div_mul, e2]
  omega
section
variable {f_longest f_height f_places f_table f_fresh f_nodes : Int32} {a_low a_first a_last a_empty a_kind a_follow a_turned a_slotFirst a_slotLast a_slotEmpty a_slotZeros a_slotOnes a_slotFollow a_layer a_set0 a_set1 a_set2 a_kid0 a_kid1 a_hit a_ways a_group : Nat → Int32} {SL : Nat → List Bool → Prop} {L : Nat}
theorem xq_w11 {post : Int32 → SX → Prop} {ch : Nat → Prop} {ly nd : Nat → Nat} {len b : Nat} (hL : L ≤ 7) (hl : len ≤ L) (hb : b < 2 ^ len) (G : rx_G L ch ly nd a_layer a_kid0 a_kid1 a_hit)
    (K : post (nI (nd (2 ^ len - 1 + b))) (nI L, f_height, f_places, f_table, f_fresh, f_nodes, a_low, a_first, a_last, a_empty, a_kind, a_follow, a_turned, a_slotFirst, a_slotLast, a_slotEmpty, a_slotZeros, a_slotOnes, a_slotFollow, a_layer, a_set0, a_set1, a_set2, a_kid0, a_kid1, a_hit, a_ways, a_group)) :
    ∀ n a, a ≤ len → a < n → wX_walk_11 post (nI b) (nI L) f_height f_places f_table f_fresh f_nodes a_low a_first a_last a_empty a_kind a_follow a_turned a_slotFirst a_slotLast a_slotEmpty a_slotZeros a_slotOnes a_slotFollow a_layer a_set0 a_set1 a_set2 a_kid0 a_kid1 a_hit a_ways a_group n (nI (nd ((2 ^ len + b) / 2 ^ a - 1))) (nI a - 1) := by
  have p7 := rx_p7 (show len ≤ 7 by omega)
  intro n
  induction n with
  | zero => intro a h1 h2; omega
  | succ n ih =>
    intro a h1 h2
    refine ek_if (rx_m1 (by omega)) (fun z => ?_) (fun z => ?_)
    · subst z
      rw [Nat.pow_zero, Nat.div_one, show 2 ^ len + b - 1 = 2 ^ len - 1 + b by omega]
      exact K
    · obtain ⟨i, rfl⟩ : ∃ i, a = i + 1 := ⟨a - 1, by omega⟩
      have lv := rx_wk hb h1
      have w2 := rx_wk2 (b := b) h1
      have q := rx_G_255 G (by omega) lv
      have kk := G.2.2.2.2.2.2.1 _ _ (by omega) lv
      have p1 := rx_wk1 b h1
      have cl : (nI (nd ((2 ^ len + b) / 2 ^ (i + 1) - 1))).toNatClampNeg = nd ((2 ^ len + b) / 2 ^ (i + 1) - 1) := nI_clamp (by omega)
      have eb : ((nI b >>> ((nI (i + 1) - 1) &&& 31)) &&& 1) = nI (b / 2 ^ i % 2) := by rw [nI_pred]; exact rx_nb (by omega) (by omega)
      refine pk_eq (b / 2 ^ i % 2) 1 (fun y => ?_) (fun y => ?_) eb
      · refine ⟨vp_in_nI (by omega) (by decide), nm_r (e' := nI (nd ((2 ^ len + b) / 2 ^ i - 1))) ?_ (nm_r (rx_m2 i) (ih i (by omega) (by omega)))⟩
        rw [cl, kk.2, w2, y]
        exact congrArg (fun x => nI (nd x)) (by generalize (2 ^ len + b) / 2 ^ (i + 1) = m at p1 ⊢; omega)
      · refine ⟨vp_in_nI (by omega) (by decide), nm_r (e' := nI (nd ((2 ^ len + b) / 2 ^ i - 1))) ?_ (nm_r (rx_m2 i) (ih i (by omega) (by omega)))⟩
        rw [cl, kk.1, w2, show b / 2 ^ i % 2 = 0 by omega]
        exact congrArg (fun x => nI (nd x)) (by generalize (2 ^ len + b) / 2 ^ (i + 1) = m at p1 ⊢; omega)
theorem xq_walk {post : Int32 → SX → Prop} {len b : Nat} (hL : L ≤ 7) (hl : len ≤ L) (hb : b < 2 ^ len) (hS : rx_SS a_slotFirst a_slotLast a_slotEmpty a_slotZeros a_slotOnes a_slotFollow SL) (hF : rx_Fr L (rx_ch f_table SL) f_fresh a_layer a_kid0 a_kid1 a_hit)
    (K : ∀ (ly nd : Nat → Nat) (ff nn : Int32) (la s0 s1 s2 k0 k1 ht : Nat → Int32), ff ≠ 0 → rx_G L (rx_ch f_table SL) ly nd la k0 k1 ht → post (nI (nd (2 ^ len - 1 + b))) (nI L, f_height, f_places, f_table, ff, nn, a_low, a_first, a_last, a_empty, a_kind, a_follow, a_turned, a_slotFirst, a_slotLast, a_slotEmpty, a_slotZeros, a_slotOnes, a_slotFollow, la, s0, s1, s2, k0, k1, ht, a_ways, a_group)) : wpX_walk post (nI L, f_height, f_places, f_table, f_fresh, f_nodes, a_low, a_first, a_last, a_empty, a_kind, a_follow, a_turned, a_slotFirst, a_slotLast, a_slotEmpty, a_slotZeros, a_slotOnes, a_slotFollow, a_layer, a_set0, a_set1, a_set2, a_kid0, a_kid1, a_hit, a_ways, a_group) (nI len) (nI b) := by
  unfold wpX_walk
  refine xq_build hL hS hF (fun ly nd ff nn la s0 s1 s2 k0 k1 ht hff G => ?_)
  refine nm_e ?_
  have h := xq_w11 (f_height := f_height) (f_places := f_places) (f_table := f_table) (f_fresh := ff) (f_nodes := nn) (a_low := a_low) (a_first := a_first) (a_last := a_last) (a_empty := a_empty) (a_kind := a_kind) (a_follow := a_follow) (a_turned := a_turned) (a_slotFirst := a_slotFirst) (a_slotLast := a_slotLast) (a_slotEmpty := a_slotEmpty) (a_slotZeros := a_slotZeros) (a_slotOnes := a_slotOnes) (a_slotFollow := a_slotFollow) (a_set0 := s0) (a_set1 := s1) (a_set2 := s2) (a_ways := a_ways) (a_group := a_group) hL hl hb G (K ly nd ff nn la s0 s1 s2 k0 k1 ht hff G) (len + 1) len (Nat.le_refl _) (by omega)
  have e1 : (2 ^ len + b) / 2 ^ len - 1 = 0 := rx_lv_00 (by have := rx_wk hb (Nat.le_refl len); rw [Nat.sub_self] at this; exact this)
  rw [e1, G.2.2.2.2.1] at h
  exact Exists.intro (len + 1) h
end
end
section
/-! the component: questions -/
theorem rx_cf_0 {ch : Nat → Prop} {len st : Nat} : rx_P (rx_cf ch len st) (2 ^ len - 1) = 0 := by
  refine rx_P_z (a := 0) _ (Nat.zero_le _) (fun w _ h2 ⟨_, d, q1, q2, _⟩ => ?_)
  have := q1.1
  have := Nat.pow_le_pow_right (n := 2) (by decide) q2
  omega
theorem rx_cf_s {ch : Nat → Prop} {len st l : Nat} (hst : rx_lv len st) (hl : len ≤ l) : rx_P (rx_cf ch len st) (2 ^ l - 1) + rx_cw ch (l - len) st = rx_P (rx_cf ch len st) (2 ^ (l + 1) - 1) := by
  have e1 : 2 ^ len * 2 ^ (l - len) = 2 ^ l := by rw [← Nat.pow_add]; exact congrArg _ (by omega)
  have e2 : 2 ^ (len + 1) * 2 ^ (l - len) = 2 ^ (l + 1) := by rw [← Nat.pow_add]; exact congrArg _ (by omega)
  have p := Nat.two_pow_pos (l - len)
  have b1 : 2 ^ l ≤ (st + 1) * 2 ^ (l - len) := by rw [← e1]; exact Nat.mul_le_mul_right _ hst.1
  have b2 : (st + 2) * 2 ^ (l - len) ≤ 2 ^ (l + 1) := by rw [← e2]; exact Nat.mul_le_mul_right _ hst.2
  have b3 : (st + 1) * 2 ^ (l - len) ≤ (st + 2) * 2 ^ (l - len) := Nat.mul_le_mul_right _ (by omega)
  have pl := Nat.two_pow_pos l
  have iff : ∀ w, rx_lv l w → (rx_cf ch len st w ↔ ch w ∧ (st + 1) * 2 ^ (l - len) ≤ w + 1 ∧ w + 1 < (st + 2) * 2 ^ (l - len)) := by
    intro w hw
    constructor
    · intro ⟨c, d, q1, q2, q3⟩
      have e := rx_lv_uni q1 hw
      subst e
      refine ⟨c, ?_, ?_⟩
      · rw [← Nat.le_div_iff_mul_le p]; omega
      · rw [← Nat.div_lt_iff_lt_mul p]; omega
    · intro ⟨c, q1, q2⟩
      rw [← Nat.le_div_iff_mul_le p] at q1
      rw [← Nat.div_lt_iff_lt_mul p] at q2
      exact ⟨c, l, hw, hl, by omega⟩
  have lv : ∀ w, 2 ^ l - 1 ≤ w → w < 2 ^ (l + 1) - 1 → rx_lv l w := by
    intro w h1 h2
    unfold rx_lv
    omega
  have z1 := rx_P_z (ch := rx_cf ch len st) (a := 2 ^ l - 1) ((st + 1) * 2 ^ (l - len) - 1) (by omega) (fun w h1 h2 h => by
    have := ((iff w (lv w h1 (by omega))).mp h).2.1; omega)
  have z2 := rx_P_z (ch := rx_cf ch len st) (a := (st + 2) * 2 ^ (l - len) - 1) (2 ^ (l + 1) - 1) (by omega) (fun w h1 h2 h => by
    have := ((iff w (lv w (by omega) h2)).mp h).2.2; omega)
  have x := rx_P_x (ch := ch) (ch' := rx_cf ch len st) (a := (st + 1) * 2 ^ (l - len) - 1) ((st + 2) * 2 ^ (l - len) - 1) (by omega) (fun w h1 h2 => by
    rw [iff w (lv w (by omega) (by omega))]
    exact ⟨fun h => h.1, fun h => ⟨h, by omega, by omega⟩⟩)
  have c := rx_cw_P (ch := ch) (l - len) st
  omega
section
variable {f_longest f_height f_places f_table f_fresh f_nodes : Int32} {a_low a_first a_last a_empty a_kind a_follow a_turned a_slotFirst a_slotLast a_slotEmpty a_slotZeros a_slotOnes a_slotFollow a_layer a_set0 a_set1 a_set2 a_kid0 a_kid1 a_hit a_ways a_group : Nat → Int32} {SL : Nat → List Bool → Prop} {L : Nat}
theorem rx_W0 {ch : Nat → Prop} {ly nd : Nat → Nat} {la k0 k1 ht wy : Nat → Int32} {len : Nat} (G : rx_G L ch ly nd la k0 k1 ht) (W : rx_Wy ch len nd wy) : wy 0 = nI (rx_cw ch len 0) := by
  have h := W 0 0 (Nat.zero_le _) rx_lv_0
  rw [G.2.2.2.2.1] at h
  exact h
theorem xq_vok {post : Int32 → Prop} {a b : Nat} (hL : L ≤ 7) (ha : a ≤ L) (hb : b < 2 ^ a) (k : post 1) : wpX_valid post (nI L, f_height, f_places, f_table, f_fresh, f_nodes, a_low, a_first, a_last, a_empty, a_kind, a_follow, a_turned, a_slotFirst, a_slotLast, a_slotEmpty, a_slotZeros, a_slotOnes, a_slotFollow, a_layer, a_set0, a_set1, a_set2, a_kid0, a_kid1, a_hit, a_ways, a_group) (nI a) (nI b) := by
  have h2 := rx_p7 (show a ≤ 7 by omega)
  exact br_f (nI_pos (by omega)) (br_f (nI_nlt ha (by omega)) (br_t (nI_pos' (by omega)) (br_f (by rw [rx_sh a (by omega)]; exact nI_ge hb (by omega)) k)))
theorem xq_vno {post : Int32 → Prop} {v1 v2 : Int32} (hL : L ≤ 7) (h : ¬ ∃ a b : Nat, v1 = nI a ∧ v2 = nI b ∧ a ≤ L ∧ b < 2 ^ a) (k : post 0) : wpX_valid post (nI L, f_height, f_places, f_table, f_fresh, f_nodes, a_low, a_first, a_last, a_empty, a_kind, a_follow, a_turned, a_slotFirst, a_slotLast, a_slotEmpty, a_slotZeros, a_slotOnes, a_slotFollow, a_layer, a_set0, a_set1, a_set2, a_kid0, a_kid1, a_hit, a_ways, a_group) v1 v2 := by
  refine br_c (fun _ => k) (fun h1 => br_c (fun _ => k) (fun h2 => br_c (fun h3 => br_c (fun _ => k) (fun h4 => ?_)) (fun _ => k)))
  exfalso
  obtain ⟨a, ha, rfl⟩ := nI_of h1
  obtain ⟨b, hb, rfl⟩ := nI_of (Int32.not_lt.mpr h3)
  rw [nI_ltI (by omega) ha] at h2
  have h5 := rx_p7 (show a ≤ 7 by omega)
  rw [rx_sh a (by omega), nI_leI (by omega) hb] at h4
  exact h ⟨a, b, rfl, rfl, by omega, by omega⟩
theorem xq_count {post : Int32 → SX → Prop} {len : Nat} (hL : L ≤ 7) (hl : len ≤ L) (hS : rx_SS a_slotFirst a_slotLast a_slotEmpty a_slotZeros a_slotOnes a_slotFollow SL) (hF : rx_Fr L (rx_ch f_table SL) f_fresh a_layer a_kid0 a_kid1 a_hit)
    (K : ∀ (ff nn : Int32) (la s0 s1 s2 k0 k1 ht wy : Nat → Int32), rx_Fr L (rx_ch f_table SL) ff la k0 k1 ht → post (nI (rx_cw (rx_ch f_table SL) len 0)) (nI L, f_height, f_places, f_table, ff, nn, a_low, a_first, a_last, a_empty, a_kind, a_follow, a_turned, a_slotFirst, a_slotLast, a_slotEmpty, a_slotZeros, a_slotOnes, a_slotFollow, la, s0, s1, s2, k0, k1, ht, wy, a_group)) : wpX_count post (nI L, f_height, f_places, f_table, f_fresh, f_nodes, a_low, a_first, a_last, a_empty, a_kind, a_follow, a_turned, a_slotFirst, a_slotLast, a_slotEmpty, a_slotZeros, a_slotOnes, a_slotFollow, a_layer, a_set0, a_set1, a_set2, a_kid0, a_kid1, a_hit, a_ways, a_group) (nI len) := by
  refine br_f (nI_pos (by omega)) (br_t (nI_le hl (by omega)) ?_)
  refine xq_fill hL hl hS hF (fun ly nd ff nn la s0 s1 s2 k0 k1 ht wy hff G W => ?_)
  show post (wy 0) _
  rw [rx_W0 G W]
  exact K ff nn la s0 s1 s2 k0 k1 ht wy (Or.inr ⟨hff, ly, nd, G⟩)
theorem xq_sh4 {post : Int32 → SX → Prop} {len : Nat} (hL : L ≤ 7) (hl : len ≤ L + 1) (hS : rx_SS a_slotFirst a_slotLast a_slotEmpty a_slotZeros a_slotOnes a_slotFollow SL)
    (K : ∀ (ff nn : Int32) (la s0 s1 s2 k0 k1 ht wy : Nat → Int32), rx_Fr L (rx_ch f_table SL) ff la k0 k1 ht → post (nI (rx_P (rx_ch f_table SL) (2 ^ len - 1))) (nI L, f_height, f_places, f_table, ff, nn, a_low, a_first, a_last, a_empty, a_kind, a_follow, a_turned, a_slotFirst, a_slotLast, a_slotEmpty, a_slotZeros, a_slotOnes, a_slotFollow, la, s0, s1, s2, k0, k1, ht, wy, a_group)) :
    ∀ (n l : Nat) (ff nn : Int32) (la s0 s1 s2 k0 k1 ht wy : Nat → Int32), l ≤ len → len < n + l → rx_Fr L (rx_ch f_table SL) ff la k0 k1 ht → wX_shorter_4 post (nI len) n (nI (rx_P (rx_ch f_table SL) (2 ^ l - 1))) (nI l) (nI L) f_height f_places f_table ff nn a_low a_first a_last a_empty a_kind a_follow a_turned a_slotFirst a_slotLast a_slotEmpty a_slotZeros a_slotOnes a_slotFollow la s0 s1 s2 k0 k1 ht wy a_group := by
  intro n
  induction n with
  | zero => intro l ff nn la s0 s1 s2 k0 k1 ht wy h1 h2; omega
  | succ n ih =>
    intro l ff nn la s0 s1 s2 k0 k1 ht wy h1 h2 hF
    refine pk_le len l (fun h => ?_) (fun h => ?_)
    · have e : l = len := by omega
      subst e
      exact K ff nn la s0 s1 s2 k0 k1 ht wy hF
    · refine xq_fill hL (by omega) hS hF (fun ly nd ff nn la s0 s1 s2 k0 k1 ht wy hff G W => ?_)
      refine nm_r (e' := nI (rx_P (rx_ch f_table SL) (2 ^ (l + 1) - 1))) ?_ (nm_r (nI_1 l) (ih (l + 1) ff nn la s0 s1 s2 k0 k1 ht wy (by omega) (by omega) (Or.inr ⟨hff, ly, nd, G⟩)))
      rw [rx_W0 G W, nI_add, rx_cw_0]
theorem xq_sh {post : Int32 → SX → Prop} {len : Nat} (hL : L ≤ 7) (hl : len ≤ L + 1) (hS : rx_SS a_slotFirst a_slotLast a_slotEmpty a_slotZeros a_slotOnes a_slotFollow SL) (hF : rx_Fr L (rx_ch f_table SL) f_fresh a_layer a_kid0 a_kid1 a_hit)
    (K : ∀ (ff nn : Int32) (la s0 s1 s2 k0 k1 ht wy : Nat → Int32), rx_Fr L (rx_ch f_table SL) ff la k0 k1 ht → post (nI (rx_P (rx_ch f_table SL) (2 ^ len - 1))) (nI L, f_height, f_places, f_table, ff, nn, a_low, a_first, a_last, a_empty, a_kind, a_follow, a_turned, a_slotFirst, a_slotLast, a_slotEmpty, a_slotZeros, a_slotOnes, a_slotFollow, la, s0, s1, s2, k0, k1, ht, wy, a_group)) : wpX_shorter post (nI L, f_height, f_places, f_table, f_fresh, f_nodes, a_low, a_first, a_last, a_empty, a_kind, a_follow, a_turned, a_slotFirst, a_slotLast, a_slotEmpty, a_slotZeros, a_slotOnes, a_slotFollow, a_layer, a_set0, a_set1, a_set2, a_kid0, a_kid1, a_hit, a_ways, a_group) (nI len) :=
  Exists.intro (len + 1) (xq_sh4 hL hl hS K (len + 1) 0 f_fresh f_nodes a_layer a_set0 a_set1 a_set2 a_kid0 a_kid1 a_hit a_ways (by omega) (by omega) hF)
theorem xq_total {post : Int32 → SX → Prop} (hL : L ≤ 7) (hS : rx_SS a_slotFirst a_slotLast a_slotEmpty a_slotZeros a_slotOnes a_slotFollow SL) (hF : rx_Fr L (rx_ch f_table SL) f_fresh a_layer a_kid0 a_kid1 a_hit)
    (K : ∀ (ff nn : Int32) (la s0 s1 s2 k0 k1 ht wy : Nat → Int32), rx_Fr L (rx_ch f_table SL) ff la k0 k1 ht → post (nI (rx_P (rx_ch f_table SL) (2 ^ (L + 1) - 1))) (nI L, f_height, f_places, f_table, ff, nn, a_low, a_first, a_last, a_empty, a_kind, a_follow, a_turned, a_slotFirst, a_slotLast, a_slotEmpty, a_slotZeros, a_slotOnes, a_slotFollow, la, s0, s1, s2, k0, k1, ht, wy, a_group)) : wpX_total post (nI L, f_height, f_places, f_table, f_fresh, f_nodes, a_low, a_first, a_last, a_empty, a_kind, a_follow, a_turned, a_slotFirst, a_slotLast, a_slotEmpty, a_slotZeros, a_slotOnes, a_slotFollow, a_layer, a_set0, a_set1, a_set2, a_kid0, a_kid1, a_hit, a_ways, a_group) := by
  unfold wpX_total
  show wpX_shorter _ _ (nI L + 1)
  rw [nI_1]
  exact xq_sh hL (Nat.le_refl _) hS hF (fun ff nn la s0 s1 s2 k0 k1 ht wy hF' => K ff nn la s0 s1 s2 k0 k1 ht wy hF')
theorem xq_isC {post : Int32 → SX → Prop} {a b : Nat} (hL : L ≤ 7) (ha : a ≤ L) (hb : b < 2 ^ a) (hS : rx_SS a_slotFirst a_slotLast a_slotEmpty a_slotZeros a_slotOnes a_slotFollow SL) (hF : rx_Fr L (rx_ch f_table SL) f_fresh a_layer a_kid0 a_kid1 a_hit)
    (K : ∀ (ff nn : Int32) (la s0 s1 s2 k0 k1 ht : Nat → Int32), rx_Fr L (rx_ch f_table SL) ff la k0 k1 ht → post (rx_b (rx_ch f_table SL (2 ^ a - 1 + b))) (nI L, f_height, f_places, f_table, ff, nn, a_low, a_first, a_last, a_empty, a_kind, a_follow, a_turned, a_slotFirst, a_slotLast, a_slotEmpty, a_slotZeros, a_slotOnes, a_slotFollow, la, s0, s1, s2, k0, k1, ht, a_ways, a_group)) : wpX_isChosen post (nI L, f_height, f_places, f_table, f_fresh, f_nodes, a_low, a_first, a_last, a_empty, a_kind, a_follow, a_turned, a_slotFirst, a_slotLast, a_slotEmpty, a_slotZeros, a_slotOnes, a_slotFollow, a_layer, a_set0, a_set1, a_set2, a_kid0, a_kid1, a_hit, a_ways, a_group) (nI a) (nI b) := by
  unfold wpX_isChosen
  refine xq_vok hL ha hb ?_
  refine br_f (by decide) ?_
  refine xq_walk hL ha hb hS hF (fun ly nd ff nn la s0 s1 s2 k0 k1 ht hff G => ?_)
  have lv := rx_lv_mk hb
  have q := rx_G_255 G ha lv
  have hh := (G.2.2.2.2.2.1 a _ ha lv).2.2
  have kk := K ff nn la s0 s1 s2 k0 k1 ht (Or.inr ⟨hff, ly, nd, G⟩)
  refine And.intro (vp_in_nI (by omega) (by decide)) ?_
  rw [nI_clamp (by omega), hh]
  refine rx_br (fun g => ?_) (fun g => ?_)
  · rw [rx_b_f g] at kk; exact kk
  · rw [rx_b_t g] at kk; exact kk
theorem xq_r30 {post : Int32 → SX → Prop} {ch : Nat → Prop} {ly nd : Nat → Nat} {len b : Nat} (hL : L ≤ 7) (hl : len ≤ L) (hb : b < 2 ^ len) (G : rx_G L ch ly nd a_layer a_kid0 a_kid1 a_hit) (W : rx_Wy ch len nd a_ways)
    (K : post (nI (rx_P ch (2 ^ len - 1 + b))) (nI L, f_height, f_places, f_table, f_fresh, f_nodes, a_low, a_first, a_last, a_empty, a_kind, a_follow, a_turned, a_slotFirst, a_slotLast, a_slotEmpty, a_slotZeros, a_slotOnes, a_slotFollow, a_layer, a_set0, a_set1, a_set2, a_kid0, a_kid1, a_hit, a_ways, a_group)) :
    ∀ n a, a ≤ len → a < n → wX_rank_30 post (nI b) (nI L) f_height f_places f_table f_fresh f_nodes a_low a_first a_last a_empty a_kind a_follow a_turned a_slotFirst a_slotLast a_slotEmpty a_slotZeros a_slotOnes a_slotFollow a_layer a_set0 a_set1 a_set2 a_kid0 a_kid1 a_hit a_ways a_group n (nI (rx_P ch ((2 ^ len + b) / 2 ^ a * 2 ^ a - 1))) (nI (nd ((2 ^ len + b) / 2 ^ a - 1))) (nI a - 1) := by
  have p7 := rx_p7 (show len ≤ 7 by omega)
  intro n
  induction n with
  | zero => intro a h1 h2; omega
  | succ n ih =>
    intro a h1 h2
    refine ek_if (rx_m1 (by omega)) (fun z => ?_) (fun z => ?_)
    · subst z
      rw [Nat.pow_zero, Nat.div_one, Nat.mul_one, show 2 ^ len + b - 1 = 2 ^ len - 1 + b by omega]
      exact K
    · obtain ⟨i, rfl⟩ : ∃ i, a = i + 1 := ⟨a - 1, by omega⟩
      have ihi := ih i (by omega) (by omega)
      have lv := rx_wk hb h1
      have w2 := rx_wk2 (b := b) h1
      have q := rx_G_255 G (by omega) lv
      have kk := G.2.2.2.2.2.2.1 _ _ (by omega) lv
      have p1 := rx_wk1 b h1
      have q0 := rx_G_255 G (by omega) (rx_lv_l lv)
      have wv := W _ _ (by omega) (rx_lv_l lv)
      rw [show len - (len - (i + 1) + 1) = i by omega] at wv
      have cwp := rx_cw_P (ch := ch) i (2 * ((2 ^ len + b) / 2 ^ (i + 1) - 1) + 1)
      have cl : (nI (nd ((2 ^ len + b) / 2 ^ (i + 1) - 1))).toNatClampNeg = nd ((2 ^ len + b) / 2 ^ (i + 1) - 1) := nI_clamp (by omega)
      have eb : ((nI b >>> ((nI (i + 1) - 1) &&& 31)) &&& 1) = nI (b / 2 ^ i % 2) := by rw [nI_pred]; exact rx_nb (by omega) (by omega)
      have ei : vp_in (nI (nd ((2 ^ len + b) / 2 ^ (i + 1) - 1))) 256 := vp_in_nI (by omega) (by decide)
      rw [w2] at ihi
      refine pk_eq (b / 2 ^ i % 2) 1 (fun y => ?_) (fun y => ?_) eb
      · rw [y] at ihi
        rw [cl, kk.1, nI_clamp (by omega), wv, kk.2]
        refine ⟨ei, vp_in_nI (by omega) (by decide), nm_r (nI_add _ _) ⟨ei, nm_e (nm_r (rx_m2 i) ?_)⟩⟩
        clear W kk wv lv w2 q q0 cl ih eb
        generalize (2 ^ len + b) / 2 ^ (i + 1) = v at p1 cwp ihi ⊢
        have e1 : rx_P ch (v * 2 ^ (i + 1) - 1) + rx_cw ch i (2 * (v - 1) + 1) = rx_P ch ((2 * v + 1) * 2 ^ i - 1) := by
          rw [show 2 * (v - 1) + 1 + 1 = v * 2 by omega, show 2 * (v - 1) + 1 + 2 = 2 * v + 1 by omega] at cwp
          rw [Nat.pow_succ, Nat.mul_comm (2 ^ i) 2, ← Nat.mul_assoc]
          omega
        rw [e1, show 2 * (v - 1) + 2 = 2 * v + 1 - 1 by omega]
        exact ihi
      · rw [show b / 2 ^ i % 2 = 0 by omega] at ihi
        rw [cl, kk.1]
        refine ⟨ei, nm_e (nm_r (rx_m2 i) ?_)⟩
        clear W kk wv lv w2 q q0 cl ih eb cwp
        generalize (2 ^ len + b) / 2 ^ (i + 1) = v at p1 ihi ⊢
        have e1 : v * 2 ^ (i + 1) = (2 * v + 0) * 2 ^ i := by
          rw [Nat.pow_succ, Nat.mul_comm (2 ^ i) 2, ← Nat.mul_assoc]
          exact congrArg (· * 2 ^ i) (by omega)
        rw [e1, show 2 * (v - 1) + 1 = 2 * v + 0 - 1 by omega]
        exact ihi
theorem xq_rank {post : Int32 → SX → Prop} {a b : Nat} (hL : L ≤ 7) (ha : a ≤ L) (hb : b < 2 ^ a) (hS : rx_SS a_slotFirst a_slotLast a_slotEmpty a_slotZeros a_slotOnes a_slotFollow SL) (hF : rx_Fr L (rx_ch f_table SL) f_fresh a_layer a_kid0 a_kid1 a_hit)
    (K : ∀ (ff nn : Int32) (la s0 s1 s2 k0 k1 ht wy : Nat → Int32), rx_Fr L (rx_ch f_table SL) ff la k0 k1 ht → post (nI (rx_P (rx_ch f_table SL) (2 ^ a - 1 + b))) (nI L, f_height, f_places, f_table, ff, nn, a_low, a_first, a_last, a_empty, a_kind, a_follow, a_turned, a_slotFirst, a_slotLast, a_slotEmpty, a_slotZeros, a_slotOnes, a_slotFollow, la, s0, s1, s2, k0, k1, ht, wy, a_group)) : wpX_rank post (nI L, f_height, f_places, f_table, f_fresh, f_nodes, a_low, a_first, a_last, a_empty, a_kind, a_follow, a_turned, a_slotFirst, a_slotLast, a_slotEmpty, a_slotZeros, a_slotOnes, a_slotFollow, a_layer, a_set0, a_set1, a_set2, a_kid0, a_kid1, a_hit, a_ways, a_group) (nI a) (nI b) := by
  unfold wpX_rank
  refine xq_vok hL ha hb ?_
  refine br_f (by decide) ?_
  refine xq_sh hL (by omega) hS hF (fun ff nn la s0 s1 s2 k0 k1 ht wy hF' => ?_)
  refine xq_fill hL ha hS hF' (fun ly nd ff nn la s0 s1 s2 k0 k1 ht wy hff G W => ?_)
  refine nm_e ?_
  have h := xq_r30 (f_height := f_height) (f_places := f_places) (f_table := f_table) (f_fresh := ff) (f_nodes := nn) (a_low := a_low) (a_first := a_first) (a_last := a_last) (a_empty := a_empty) (a_kind := a_kind) (a_follow := a_follow) (a_turned := a_turned) (a_slotFirst := a_slotFirst) (a_slotLast := a_slotLast) (a_slotEmpty := a_slotEmpty) (a_slotZeros := a_slotZeros) (a_slotOnes := a_slotOnes) (a_slotFollow := a_slotFollow) (a_set0 := s0) (a_set1 := s1) (a_set2 := s2) (a_group := a_group) hL ha hb G W (K ff nn la s0 s1 s2 k0 k1 ht wy (Or.inr ⟨hff, ly, nd, G⟩)) (a + 1) a (Nat.le_refl _) (by omega)
  have e1 : (2 ^ a + b) / 2 ^ a - 1 = 0 := rx_lv_00 (by have := rx_wk hb (Nat.le_refl a); rw [Nat.sub_self] at this; exact this)
  have e2 := rx_wk1 b (Nat.le_refl a)
  have e3 : (2 ^ a + b) / 2 ^ a = 1 := by omega
  rw [e1, G.2.2.2.2.1, e3, Nat.one_mul] at h
  exact Exists.intro (a + 1) h
theorem xq_wl10 {post : Int32 → SX → Prop} {k : Nat} (hk : k < 2 ^ 31) (hL : L ≤ 7) (hS : rx_SS a_slotFirst a_slotLast a_slotEmpty a_slotZeros a_slotOnes a_slotFollow SL)
    (K1 : ∀ (d : Nat) (ff nn : Int32) (la s0 s1 s2 k0 k1 ht wy : Nat → Int32), d ≤ L → rx_P (rx_ch f_table SL) (2 ^ d - 1) ≤ k → k < rx_P (rx_ch f_table SL) (2 ^ (d + 1) - 1) → rx_Fr L (rx_ch f_table SL) ff la k0 k1 ht → post (nI d) (nI L, f_height, f_places, f_table, ff, nn, a_low, a_first, a_last, a_empty, a_kind, a_follow, a_turned, a_slotFirst, a_slotLast, a_slotEmpty, a_slotZeros, a_slotOnes, a_slotFollow, la, s0, s1, s2, k0, k1, ht, wy, a_group))
    (K2 : rx_P (rx_ch f_table SL) (2 ^ (L + 1) - 1) ≤ k → ∀ (ff nn : Int32) (la s0 s1 s2 k0 k1 ht wy : Nat → Int32), rx_Fr L (rx_ch f_table SL) ff la k0 k1 ht → post (-1) (nI L, f_height, f_places, f_table, ff, nn, a_low, a_first, a_last, a_empty, a_kind, a_follow, a_turned, a_slotFirst, a_slotLast, a_slotEmpty, a_slotZeros, a_slotOnes, a_slotFollow, la, s0, s1, s2, k0, k1, ht, wy, a_group)) :
    ∀ (n d left : Nat) (ff nn : Int32) (la s0 s1 s2 k0 k1 ht wy : Nat → Int32), d ≤ L + 1 → L + 1 < n + d → left + rx_P (rx_ch f_table SL) (2 ^ d - 1) = k → rx_Fr L (rx_ch f_table SL) ff la k0 k1 ht → wX_wordLen_10 post n (nI left) (nI d) (nI L) f_height f_places f_table ff nn a_low a_first a_last a_empty a_kind a_follow a_turned a_slotFirst a_slotLast a_slotEmpty a_slotZeros a_slotOnes a_slotFollow la s0 s1 s2 k0 k1 ht wy a_group := by
  intro n
  induction n with
  | zero => intro d left ff nn la s0 s1 s2 k0 k1 ht wy h1 h2; omega
  | succ n ih =>
    intro d left ff nn la s0 s1 s2 k0 k1 ht wy h1 h2 h3 hF
    refine pk_lt L d (fun h => ?_) (fun h => ?_)
    · have e : d = L + 1 := by omega
      subst e
      exact K2 (by omega) ff nn la s0 s1 s2 k0 k1 ht wy hF
    · refine xq_fill hL h hS hF (fun ly nd ff nn la s0 s1 s2 k0 k1 ht wy hff G W => ?_)
      have cw0 := rx_cw_0 (ch := (rx_ch f_table SL)) d
      have cwl := rx_cw_le (ch := (rx_ch f_table SL)) d 0
      have p7 := rx_p7 (show d ≤ 7 by omega)
      refine pk_le (rx_cw (rx_ch f_table SL) d 0) left (fun y => ?_) (fun y => ?_) (rx_W0 G W)
      · refine nm_r (e' := nI (left - rx_cw (rx_ch f_table SL) d 0)) (by rw [rx_W0 G W]; exact pk_sub y) (nm_r (nI_1 d) ?_)
        exact ih (d + 1) _ ff nn la s0 s1 s2 k0 k1 ht wy (by omega) (by omega) (by omega) (Or.inr ⟨hff, ly, nd, G⟩)
      · exact K1 d ff nn la s0 s1 s2 k0 k1 ht wy h (by omega) (by omega) (Or.inr ⟨hff, ly, nd, G⟩)
theorem xq_wl {post : Int32 → SX → Prop} {k : Nat} (hk : k < 2 ^ 31) (hL : L ≤ 7) (hS : rx_SS a_slotFirst a_slotLast a_slotEmpty a_slotZeros a_slotOnes a_slotFollow SL) (hF : rx_Fr L (rx_ch f_table SL) f_fresh a_layer a_kid0 a_kid1 a_hit)
    (K1 : ∀ (d : Nat) (ff nn : Int32) (la s0 s1 s2 k0 k1 ht wy : Nat → Int32), d ≤ L → rx_P (rx_ch f_table SL) (2 ^ d - 1) ≤ k → k < rx_P (rx_ch f_table SL) (2 ^ (d + 1) - 1) → rx_Fr L (rx_ch f_table SL) ff la k0 k1 ht → post (nI d) (nI L, f_height, f_places, f_table, ff, nn, a_low, a_first, a_last, a_empty, a_kind, a_follow, a_turned, a_slotFirst, a_slotLast, a_slotEmpty, a_slotZeros, a_slotOnes, a_slotFollow, la, s0, s1, s2, k0, k1, ht, wy, a_group))
    (K2 : rx_P (rx_ch f_table SL) (2 ^ (L + 1) - 1) ≤ k → ∀ (ff nn : Int32) (la s0 s1 s2 k0 k1 ht wy : Nat → Int32), rx_Fr L (rx_ch f_table SL) ff la k0 k1 ht → post (-1) (nI L, f_height, f_places, f_table, ff, nn, a_low, a_first, a_last, a_empty, a_kind, a_follow, a_turned, a_slotFirst, a_slotLast, a_slotEmpty, a_slotZeros, a_slotOnes, a_slotFollow, la, s0, s1, s2, k0, k1, ht, wy, a_group)) : wpX_wordLen post (nI L, f_height, f_places, f_table, f_fresh, f_nodes, a_low, a_first, a_last, a_empty, a_kind, a_follow, a_turned, a_slotFirst, a_slotLast, a_slotEmpty, a_slotZeros, a_slotOnes, a_slotFollow, a_layer, a_set0, a_set1, a_set2, a_kid0, a_kid1, a_hit, a_ways, a_group) (nI k) :=
  br_t (nI_pos' hk) (Exists.intro (L + 2) (xq_wl10 hk hL hS K1 K2 (L + 2) 0 k f_fresh f_nodes a_layer a_set0 a_set1 a_set2 a_kid0 a_kid1 a_hit a_ways (by omega) (by omega) rfl hF))
theorem xq_wb34 {post : Int32 → SX → Prop} {ch : Nat → Prop} {ly nd : Nat → Nat} {len k : Nat} (hk : k < 2 ^ 31) (hL : L ≤ 7) (hl : len ≤ L) (G : rx_G L ch ly nd a_layer a_kid0 a_kid1 a_hit) (W : rx_Wy ch len nd a_ways)
    (K : ∀ w, rx_lv len w → ch w → rx_P ch w = k → post (nI (w + 1 - 2 ^ len)) (nI L, f_height, f_places, f_table, f_fresh, f_nodes, a_low, a_first, a_last, a_empty, a_kind, a_follow, a_turned, a_slotFirst, a_slotLast, a_slotEmpty, a_slotZeros, a_slotOnes, a_slotFollow, a_layer, a_set0, a_set1, a_set2, a_kid0, a_kid1, a_hit, a_ways, a_group)) :
    ∀ n i w left, i ≤ len → len < n + i → rx_lv i w → left + rx_P ch ((w + 1) * 2 ^ (len - i) - 1) = k → k < rx_P ch ((w + 2) * 2 ^ (len - i) - 1) → wX_wordBits_34 post (nI len) (nI L) f_height f_places f_table f_fresh f_nodes a_low a_first a_last a_empty a_kind a_follow a_turned a_slotFirst a_slotLast a_slotEmpty a_slotZeros a_slotOnes a_slotFollow a_layer a_set0 a_set1 a_set2 a_kid0 a_kid1 a_hit a_ways a_group n (nI left) (nI (nd w)) (nI (w + 1 - 2 ^ i)) (nI i) := by
  intro n
  induction n with
  | zero => intro i w left h1 h2; omega
  | succ n ih =>
    intro i w left h1 h2 lv h3 h4
    refine pk_le len i (fun h => ?_) (fun h => ?_)
    · have e : i = len := by omega
      subst e
      rw [Nat.sub_self, Nat.pow_zero, Nat.mul_one] at h3 h4
      rw [show w + 1 - 1 = w from rfl] at h3
      rw [show w + 2 - 1 = w + 1 from rfl, rx_P1] at h4
      have tl := rx_t_le (ch w)
      have hc : ch w := by
        rcases Classical.em (ch w) with c | c
        · exact c
        · rw [rx_t_f c] at h4; omega
      exact K w lv hc (by rw [rx_t_t hc] at h4; omega)
    · have q := rx_G_255 G (by omega) lv
      have kk := G.2.2.2.2.2.2.1 i w (by omega) lv
      have q0 := rx_G_255 G (by omega) (rx_lv_l lv)
      have q1 := rx_G_255 G (by omega) (rx_lv_r lv)
      have wv := W _ _ (by omega) (rx_lv_l lv)
      obtain ⟨r, hr⟩ : ∃ r, len - i = r + 1 := ⟨len - i - 1, by omega⟩
      rw [show len - (i + 1) = r by omega] at wv
      have ih0 := ih (i + 1) (2 * w + 1)
      have ih1 := ih (i + 1) (2 * w + 2)
      rw [show len - (i + 1) = r by omega] at ih0 ih1
      have cwp := rx_cw_P (ch := ch) r (2 * w + 1)
      have cwl := rx_cw_le (ch := ch) r (2 * w + 1)
      have p7 := rx_p7 (show r ≤ 7 by omega)
      have lw := lv.1
      have e1 : (w + 1) * 2 ^ (len - i) = (2 * w + 1 + 1) * 2 ^ r := by
        rw [hr, Nat.pow_succ, Nat.mul_comm (2 ^ r) 2, ← Nat.mul_assoc]
        exact congrArg (· * 2 ^ r) (by omega)
      have e2 : (w + 2) * 2 ^ (len - i) = (2 * w + 2 + 2) * 2 ^ r := by
        rw [hr, Nat.pow_succ, Nat.mul_comm (2 ^ r) 2, ← Nat.mul_assoc]
        exact congrArg (· * 2 ^ r) (by omega)
      rw [e1] at h3
      rw [e2] at h4
      have cl : (nI (nd w)).toNatClampNeg = nd w := nI_clamp (by omega)
      have ei : vp_in (nI (nd w)) 256 := vp_in_nI (by omega) (by decide)
      have b0 : nI (w + 1 - 2 ^ i) * 2 = nI (2 * w + 1 + 1 - 2 ^ (i + 1)) := by
        rw [show (2 : Int32) = nI 2 from rfl, pk_mul, Nat.pow_succ]
        exact congrArg nI (by omega)
      have b1 : nI (w + 1 - 2 ^ i) * 2 + 1 = nI (2 * w + 2 + 1 - 2 ^ (i + 1)) := by
        rw [b0, nI_1, Nat.pow_succ]
        exact congrArg nI (by omega)
      refine ⟨ei, ?_⟩
      rw [cl, kk.1, nI_clamp (show nd (2 * w + 1) < 2 ^ 31 by omega), wv, kk.2]
      refine ⟨vp_in_nI (by omega) (by decide), nm_e ?_⟩
      refine pk_le (rx_cw ch r (2 * w + 1)) left (fun y => ?_) (fun y => ?_)
      · refine nm_r (pk_sub y) (nm_r b1 ⟨ei, nm_e (nm_r (nI_1 i) ?_)⟩)
        exact ih1 _ (by omega) (by omega) (rx_lv_r lv) (by rw [show 2 * w + 2 + 1 = 2 * w + 1 + 2 from rfl]; omega) h4
      · refine nm_r b0 ⟨ei, nm_e (nm_r (nI_1 i) ?_)⟩
        exact ih0 _ (by omega) (by omega) (rx_lv_l lv) h3 (by omega)
theorem xq_wb {post : Int32 → SX → Prop} {k : Nat} (hk : k < 2 ^ 31) (hL : L ≤ 7) (hS : rx_SS a_slotFirst a_slotLast a_slotEmpty a_slotZeros a_slotOnes a_slotFollow SL) (hF : rx_Fr L (rx_ch f_table SL) f_fresh a_layer a_kid0 a_kid1 a_hit)
    (K1 : ∀ (d w : Nat) (ff nn : Int32) (la s0 s1 s2 k0 k1 ht wy : Nat → Int32), d ≤ L → rx_lv d w → rx_ch f_table SL w → rx_P (rx_ch f_table SL) w = k → rx_Fr L (rx_ch f_table SL) ff la k0 k1 ht → post (nI (w + 1 - 2 ^ d)) (nI L, f_height, f_places, f_table, ff, nn, a_low, a_first, a_last, a_empty, a_kind, a_follow, a_turned, a_slotFirst, a_slotLast, a_slotEmpty, a_slotZeros, a_slotOnes, a_slotFollow, la, s0, s1, s2, k0, k1, ht, wy, a_group))
    (K2 : rx_P (rx_ch f_table SL) (2 ^ (L + 1) - 1) ≤ k → ∀ (ff nn : Int32) (la s0 s1 s2 k0 k1 ht wy : Nat → Int32), rx_Fr L (rx_ch f_table SL) ff la k0 k1 ht → post (-1) (nI L, f_height, f_places, f_table, ff, nn, a_low, a_first, a_last, a_empty, a_kind, a_follow, a_turned, a_slotFirst, a_slotLast, a_slotEmpty, a_slotZeros, a_slotOnes, a_slotFollow, la, s0, s1, s2, k0, k1, ht, wy, a_group)) : wpX_wordBits post (nI L, f_height, f_places, f_table, f_fresh, f_nodes, a_low, a_first, a_last, a_empty, a_kind, a_follow, a_turned, a_slotFirst, a_slotLast, a_slotEmpty, a_slotZeros, a_slotOnes, a_slotFollow, a_layer, a_set0, a_set1, a_set2, a_kid0, a_kid1, a_hit, a_ways, a_group) (nI k) := by
  unfold wpX_wordBits
  refine xq_wl hk hL hS hF (fun d ff nn la s0 s1 s2 k0 k1 ht wy hd h1 h2 hF' => ?_) (fun h ff nn la s0 s1 s2 k0 k1 ht wy hF' => ?_)
  · refine br_t (nI_pos' (by omega)) ?_
    refine xq_sh hL (by omega) hS hF' (fun ff nn la s0 s1 s2 k0 k1 ht wy hF' => ?_)
    refine nm_r (pk_sub h1) ?_
    refine xq_fill hL hd hS hF' (fun ly nd ff nn la s0 s1 s2 k0 k1 ht wy hff G W => ?_)
    have h := xq_wb34 (post := post) (f_height := f_height) (f_places := f_places) (f_table := f_table) (f_fresh := ff) (f_nodes := nn) (a_low := a_low) (a_first := a_first) (a_last := a_last) (a_empty := a_empty) (a_kind := a_kind) (a_follow := a_follow) (a_turned := a_turned) (a_slotFirst := a_slotFirst) (a_slotLast := a_slotLast) (a_slotEmpty := a_slotEmpty) (a_slotZeros := a_slotZeros) (a_slotOnes := a_slotOnes) (a_slotFollow := a_slotFollow) (a_set0 := s0) (a_set1 := s1) (a_set2 := s2) (a_group := a_group) hk hL hd G W (fun w q1 q2 q3 => K1 d w ff nn la s0 s1 s2 k0 k1 ht wy hd q1 q2 q3 (Or.inr ⟨hff, ly, nd, G⟩)) (d + 1) 0 0 (k - rx_P (rx_ch f_table SL) (2 ^ d - 1)) (Nat.zero_le _) (by omega) rx_lv_0
      (by rw [Nat.sub_zero, Nat.zero_add, Nat.one_mul]; omega) (by rw [Nat.sub_zero, Nat.zero_add]; rw [Nat.pow_succ, Nat.mul_comm] at h2; exact h2)
    rw [G.2.2.2.2.1] at h
    exact Exists.intro (d + 1) h
  · exact br_f (by decide) (K2 h ff nn la s0 s1 s2 k0 k1 ht wy hF')
theorem xq_cf24 {post : Int32 → SX → Prop} {ch : Nat → Prop} {ly nd : Nat → Nat} {len st : Nat} (hL : L ≤ 7) (hl : len ≤ L) (hst : rx_lv len st) (hff : f_fresh ≠ 0) (G : rx_G L ch ly nd a_layer a_kid0 a_kid1 a_hit)
    (K : ∀ wy, post (nI (rx_P (rx_cf ch len st) (2 ^ (L + 1) - 1))) (nI L, f_height, f_places, f_table, f_fresh, f_nodes, a_low, a_first, a_last, a_empty, a_kind, a_follow, a_turned, a_slotFirst, a_slotLast, a_slotEmpty, a_slotZeros, a_slotOnes, a_slotFollow, a_layer, a_set0, a_set1, a_set2, a_kid0, a_kid1, a_hit, wy, a_group)) :
    ∀ n l wy, len ≤ l → l ≤ L + 1 → L + 1 < n + l → wX_countFrom_24 post (nI (nd st)) n (nI (rx_P (rx_cf ch len st) (2 ^ l - 1))) (nI l) (nI L) f_height f_places f_table f_fresh f_nodes a_low a_first a_last a_empty a_kind a_follow a_turned a_slotFirst a_slotLast a_slotEmpty a_slotZeros a_slotOnes a_slotFollow a_layer a_set0 a_set1 a_set2 a_kid0 a_kid1 a_hit wy a_group := by
  have q := rx_G_255 G hl hst
  have cl : (nI (nd st)).toNatClampNeg = nd st := nI_clamp (by omega)
  intro n
  induction n with
  | zero => intro l wy h1 h2; omega
  | succ n ih =>
    intro l wy h0 h1 h2
    refine pk_lt L l (fun h => ?_) (fun h => ?_)
    · have e : l = L + 1 := by omega
      subst e
      exact K wy
    · refine xq_fillF hL h hff G (fun wy' W => ?_)
      refine And.intro (vp_in_nI (by omega) (by decide)) (nm_r (e' := nI (rx_P (rx_cf ch len st) (2 ^ (l + 1) - 1))) ?_ (nm_r (nI_1 l) (ih (l + 1) wy' (by omega) (by omega) (by omega))))
      rw [cl, W len st h0 hst, nI_add, rx_cf_s hst h0]
theorem xq_cf {post : Int32 → SX → Prop} {a b : Nat} (hL : L ≤ 7) (ha : a ≤ L) (hb : b < 2 ^ a) (hS : rx_SS a_slotFirst a_slotLast a_slotEmpty a_slotZeros a_slotOnes a_slotFollow SL) (hF : rx_Fr L (rx_ch f_table SL) f_fresh a_layer a_kid0 a_kid1 a_hit)
    (K : ∀ (ff nn : Int32) (la s0 s1 s2 k0 k1 ht wy : Nat → Int32), rx_Fr L (rx_ch f_table SL) ff la k0 k1 ht → post (nI (rx_P (rx_cf (rx_ch f_table SL) a (2 ^ a - 1 + b)) (2 ^ (L + 1) - 1))) (nI L, f_height, f_places, f_table, ff, nn, a_low, a_first, a_last, a_empty, a_kind, a_follow, a_turned, a_slotFirst, a_slotLast, a_slotEmpty, a_slotZeros, a_slotOnes, a_slotFollow, la, s0, s1, s2, k0, k1, ht, wy, a_group)) : wpX_countFrom post (nI L, f_height, f_places, f_table, f_fresh, f_nodes, a_low, a_first, a_last, a_empty, a_kind, a_follow, a_turned, a_slotFirst, a_slotLast, a_slotEmpty, a_slotZeros, a_slotOnes, a_slotFollow, a_layer, a_set0, a_set1, a_set2, a_kid0, a_kid1, a_hit, a_ways, a_group) (nI a) (nI b) := by
  unfold wpX_countFrom
  refine xq_vok hL ha hb ?_
  refine br_f (by decide) ?_
  refine xq_walk hL ha hb hS hF (fun ly nd ff nn la s0 s1 s2 k0 k1 ht hff G => ?_)
  have h := xq_cf24 (post := post) (f_height := f_height) (f_places := f_places) (f_table := f_table) (f_fresh := ff) (f_nodes := nn) (a_low := a_low) (a_first := a_first) (a_last := a_last) (a_empty := a_empty) (a_kind := a_kind) (a_follow := a_follow) (a_turned := a_turned) (a_slotFirst := a_slotFirst) (a_slotLast := a_slotLast) (a_slotEmpty := a_slotEmpty) (a_slotZeros := a_slotZeros) (a_slotOnes := a_slotOnes) (a_slotFollow := a_slotFollow) (a_set0 := s0) (a_set1 := s1) (a_set2 := s2) (a_group := a_group) hL ha (rx_lv_mk hb) hff G (fun wy => K ff nn la s0 s1 s2 k0 k1 ht wy (Or.inr ⟨hff, ly, nd, G⟩)) (L + 2) a a_ways (Nat.le_refl _) (by omega) (by omega)
  rw [rx_cf_0] at h
  exact Exists.intro (L + 2) h
end
end
section
/-! groups: words alike; the reference -/
theorem rx_b_i {p q : Prop} : rx_b p = rx_b q ↔ (p ↔ q) := by
  constructor
  · intro h
    constructor
    · intro a; exact rx_b_1.mp (h.symm.trans (rx_b_t a))
    · intro a; exact rx_b_1.mp (h.trans (rx_b_t a))
  · exact rx_b_e
def rx_ds (U d z : Nat) : Nat := (U + 1) * 2 ^ d + (z + 1 - 2 ^ d) - 1
def rx_AL (ch : Nat → Prop) (k U V : Nat) : Prop := ∀ d z, d ≤ k → rx_lv d z → (ch (rx_ds U d z) ↔ ch (rx_ds V d z))
theorem rx_ds_0 (U : Nat) : rx_ds U 0 0 = U := by
  show (U + 1) * 1 + (0 + 1 - 1) - 1 = U
  omega
theorem rx_ds_lv {a U d z : Nat} (hU : rx_lv a U) (hz : rx_lv d z) : rx_lv (a + d) (rx_ds U d z) := by
  have e1 : 2 ^ (a + d) = 2 ^ a * 2 ^ d := Nat.pow_add 2 a d
  have e2 : 2 ^ (a + d + 1) = 2 ^ (a + 1) * 2 ^ d := by rw [← Nat.pow_add]; exact congrArg _ (by omega)
  have b1 : 2 ^ a * 2 ^ d ≤ (U + 1) * 2 ^ d := Nat.mul_le_mul_right _ hU.1
  have b2 : (U + 1 + 1) * 2 ^ d ≤ 2 ^ (a + 1) * 2 ^ d := Nat.mul_le_mul_right _ hU.2
  have b3 : (U + 1 + 1) * 2 ^ d = (U + 1) * 2 ^ d + 2 ^ d := Nat.succ_mul _ _
  have p := Nat.two_pow_pos d
  have z1 := hz.1
  have z2 := hz.2
  have pa := Nat.two_pow_pos (a + d)
  rw [Nat.pow_succ] at z2
  unfold rx_lv rx_ds
  omega
theorem rx_ds_l (U d z : Nat) (hz : rx_lv d z) : rx_lv (d + 1) (z + 2 ^ d) ∧ rx_ds U (d + 1) (z + 2 ^ d) = rx_ds (2 * U + 1) d z := by
  have e1 : (U + 1) * 2 ^ (d + 1) = (2 * U + 1 + 1) * 2 ^ d := by
    rw [Nat.pow_succ, Nat.mul_comm (2 ^ d) 2, ← Nat.mul_assoc]
    exact congrArg (· * 2 ^ d) (by omega)
  have p := Nat.two_pow_pos d
  have z1 := hz.1
  have z2 := hz.2
  rw [Nat.pow_succ] at z2
  unfold rx_lv rx_ds
  rw [e1, Nat.pow_succ, Nat.pow_succ]
  omega
theorem rx_ds_r (U d z : Nat) (hz : rx_lv d z) : rx_lv (d + 1) (z + 2 ^ (d + 1)) ∧ rx_ds U (d + 1) (z + 2 ^ (d + 1)) = rx_ds (2 * U + 2) d z := by
  have e1 : (U + 1) * 2 ^ (d + 1) = (2 * U + 1 + 1) * 2 ^ d := by
    rw [Nat.pow_succ, Nat.mul_comm (2 ^ d) 2, ← Nat.mul_assoc]
    exact congrArg (· * 2 ^ d) (by omega)
  have e2 : (2 * U + 2 + 1) * 2 ^ d = (2 * U + 1 + 1) * 2 ^ d + 2 ^ d := Nat.succ_mul _ _
  have p := Nat.two_pow_pos d
  have z1 := hz.1
  have z2 := hz.2
  rw [Nat.pow_succ] at z2
  unfold rx_lv rx_ds
  rw [e1, e2, Nat.pow_succ, Nat.pow_succ]
  omega
theorem rx_ds_up {d y : Nat} (hy : rx_lv (d + 1) y) : (∃ z, rx_lv d z ∧ y = z + 2 ^ d) ∨ (∃ z, rx_lv d z ∧ y = z + 2 ^ (d + 1)) := by
  have p := Nat.two_pow_pos d
  have z1 := hy.1
  have z2 := hy.2
  rw [Nat.pow_succ] at z1
  rw [Nat.pow_succ, Nat.pow_succ] at z2
  by_cases h : y + 1 < 2 ^ d * 2 + 2 ^ d
  · left
    refine ⟨y - 2 ^ d, ?_, by omega⟩
    unfold rx_lv
    rw [Nat.pow_succ]
    omega
  · right
    refine ⟨y - 2 ^ (d + 1), ?_, ?_⟩
    · unfold rx_lv
      rw [Nat.pow_succ]
      omega
    · rw [Nat.pow_succ]
      omega
section
variable {ch : Nat → Prop}
theorem rx_AL_0 (U V : Nat) : rx_AL ch 0 U V ↔ (ch U ↔ ch V) := by
  constructor
  · intro h
    have := h 0 0 (Nat.le_refl _) rx_lv_0
    rw [rx_ds_0, rx_ds_0] at this
    exact this
  · intro h d z hd hz
    have e : d = 0 := by omega
    subst e
    have e := rx_lv_00 hz
    subst e
    rw [rx_ds_0, rx_ds_0]
    exact h
theorem rx_AL_s (k U V : Nat) : rx_AL ch (k + 1) U V ↔ (ch U ↔ ch V) ∧ rx_AL ch k (2 * U + 1) (2 * V + 1) ∧ rx_AL ch k (2 * U + 2) (2 * V + 2) := by
  constructor
  · intro h
    refine ⟨?_, fun d z hd hz => ?_, fun d z hd hz => ?_⟩
    · have := h 0 0 (Nat.zero_le _) rx_lv_0
      rw [rx_ds_0, rx_ds_0] at this
      exact this
    · rw [← (rx_ds_l U d z hz).2, ← (rx_ds_l V d z hz).2]
      exact h (d + 1) _ (by omega) (rx_ds_l U d z hz).1
    · rw [← (rx_ds_r U d z hz).2, ← (rx_ds_r V d z hz).2]
      exact h (d + 1) _ (by omega) (rx_ds_r U d z hz).1
  · intro ⟨h0, hl, hr⟩ d z hd hz
    cases d with
    | zero =>
      have e := rx_lv_00 hz
      subst e
      rw [rx_ds_0, rx_ds_0]
      exact h0
    | succ d =>
      rcases rx_ds_up hz with ⟨y, hy, e⟩ | ⟨y, hy, e⟩
      · rw [e, (rx_ds_l U d y hy).2, (rx_ds_l V d y hy).2]
        exact hl d y (by omega) hy
      · rw [e, (rx_ds_r U d y hy).2, (rx_ds_r V d y hy).2]
        exact hr d y (by omega) hy
end
section
variable {g_depth g_table g_n : Int32} {b_stack b_lc b_slots b_fresh : Nat → Int32} {SL : Nat → List Bool → Prop} {L : Nat}
theorem yg_al3 {post : Int32 → Prop} {len u v : Nat} (hL : L ≤ 7) (hl : len ≤ L) (hu : u < 2 ^ len) (hv : v < 2 ^ len) (hsl : ∀ s l, s < 3 → l.length ≤ 7 → b_slots (s * 255 + rx_n l) = rx_b (SL s l))
    (k : post (rx_b (rx_AL (rx_ch g_table SL) (L - len) (2 ^ len - 1 + u) (2 ^ len - 1 + v)))) :
    ∀ n z, z ≤ 2 ^ (L - len + 1) - 1 → 2 ^ (L - len + 1) - 1 < n + z → (∀ d y, y < z → rx_lv d y → (rx_ch g_table SL (rx_ds (2 ^ len - 1 + u) d y) ↔ rx_ch g_table SL (rx_ds (2 ^ len - 1 + v) d y))) →
      wY_alike_3 post (nI len) (nI u) (nI v) g_depth g_table (nI L) b_stack b_lc b_slots b_fresh n (nI z) := by
  have h2 := rx_2p (show L - len ≤ 7 by omega)
  have eM : ((1 : Int32) <<< (((nI L - nI len) + 1) &&& 31)) - 1 = nI (2 ^ (L - len + 1) - 1) := by rw [pk_sub hl, nI_1]; exact rx_sm (by omega)
  have pl := Nat.two_pow_pos len
  intro n
  induction n with
  | zero => intro z h1 h2; omega
  | succ n ih =>
    intro z h1 h2 h3
    refine pk_le (2 ^ (L - len + 1) - 1) z (fun h => ?_) (fun h => ?_) eM
    · rw [rx_b_t] at k
      · exact k
      · intro d y hd hy
        have := hy.2
        have := Nat.pow_le_pow_right (n := 2) (by decide) (show d + 1 ≤ L - len + 1 by omega)
        exact h3 d y (by omega) hy
    · obtain ⟨d, hd⟩ := rx_lv_ex z
      have hd7 : d ≤ 7 := rx_lv_7 hd (by omega)
      have hdk : d ≤ L - len := by
        rcases Nat.lt_or_ge (L - len) d with w | w
        · have := Nat.pow_le_pow_right (n := 2) (by decide) (show L - len + 1 ≤ d from w)
          have := hd.1
          omega
        · exact w
      have b := rx_p7 hd7
      have b2 := rx_p7 (show len + d ≤ 7 by omega)
      have hz1 := hd.1
      have e6 : nI z - (((1 : Int32) <<< (nI d &&& 31)) - 1) = nI (z + 1 - 2 ^ d) := by
        rw [rx_sm (by omega), pk_sub (by omega)]
        exact congrArg nI (by omega)
      have e7 : (((1 : Int32) <<< ((nI len + nI d) &&& 31)) - 1) + nI (z + 1 - 2 ^ d) = nI (2 ^ (len + d) - 1 + (z + 1 - 2 ^ d)) := by
        rw [nI_add, rx_sm (by omega), nI_add]
      have ex : ∀ x, x < 2 ^ len → nI (2 ^ (len + d) - 1 + (z + 1 - 2 ^ d)) + (nI x <<< (nI d &&& 31)) = nI (rx_ds (2 ^ len - 1 + x) d z) ∧ rx_ds (2 ^ len - 1 + x) d z < 255 := by
        intro x hx
        have l5 := rx_lv_255 (rx_ds_lv (rx_lv_mk hx) hd) (show len + d ≤ 7 by omega)
        refine ⟨?_, l5⟩
        have m1 : (2 ^ len - 1 + x + 1) * 2 ^ d = 2 ^ (len + d) + x * 2 ^ d := by
          rw [show 2 ^ len - 1 + x + 1 = 2 ^ len + x by omega, Nat.add_mul, Nat.pow_add]
        unfold rx_ds at l5 ⊢
        rw [m1] at l5 ⊢
        rw [pk_shlN _ d (s_l d (by omega)) (by omega), nI_add]
        exact congrArg nI (by omega)
      refine yl_len hd7 hd (nm_r e6 (nm_r e7 ?_))
      rw [(ex u hu).1, (ex v hv).1]
      refine yq_cho hsl (ex u hu).2 (yq_cho hsl (ex v hv).2 ?_)
      refine ek_if rx_b_i (fun g => ?_) (fun g => ?_)
      · refine nm_r (nI_1 z) (ih (z + 1) (by omega) (by omega) (fun d' y hy hy' => ?_))
        by_cases w : y = z
        · subst w
          have := rx_lv_uni hy' hd
          subst this
          exact g
        · exact h3 d' y (by omega) hy'
      · rw [rx_b_f] at k
        · exact k
        · intro w; exact g (w d z hdk hd)
theorem yg_al {post : Int32 → Prop} {len u v : Nat} (hL : L ≤ 7) (hl : len ≤ L) (hu : u < 2 ^ len) (hv : v < 2 ^ len) (hsl : ∀ s l, s < 3 → l.length ≤ 7 → b_slots (s * 255 + rx_n l) = rx_b (SL s l))
    (k : post (rx_b (rx_AL (rx_ch g_table SL) (L - len) (2 ^ len - 1 + u) (2 ^ len - 1 + v)))) : wpY_alike post (g_depth, g_table, nI L, b_stack, b_lc, b_slots, b_fresh) (nI len) (nI u) (nI v) :=
  Exists.intro (2 ^ (L - len + 1)) (yg_al3 hL hl hu hv hsl k (2 ^ (L - len + 1)) 0 (by omega) (by have := Nat.two_pow_pos (L - len + 1); omega) (fun d y hy => by omega))
theorem yg_ls2 {post : Int32 → Prop} {len u : Nat} (hL : L ≤ 7) (hl : len ≤ L) (hu : u < 2 ^ len) (hsl : ∀ s l, s < 3 → l.length ≤ 7 → b_slots (s * 255 + rx_n l) = rx_b (SL s l))
    (k : post (rx_b (∃ v, v < u ∧ rx_AL (rx_ch g_table SL) (L - len) (2 ^ len - 1 + u) (2 ^ len - 1 + v)))) :
    ∀ n v, v ≤ u → u < n + v → (∀ x, x < v → ¬ rx_AL (rx_ch g_table SL) (L - len) (2 ^ len - 1 + u) (2 ^ len - 1 + x)) → wY_likeSmaller_2 post (nI len) (nI u) g_depth g_table (nI L) b_stack b_lc b_slots b_fresh n (nI v) := by
  have p7 := rx_p7 (show len ≤ 7 by omega)
  intro n
  induction n with
  | zero => intro v h1 h2; omega
  | succ n ih =>
    intro v h1 h2 h3
    refine pk_le u v (fun h => ?_) (fun h => ?_)
    · rw [rx_b_f] at k
      · exact k
      · intro ⟨x, hx, a⟩; exact h3 x (by omega) a
    · refine yg_al hL hl hu (by omega) hsl (rx_br (fun a => ?_) (fun a => ?_))
      · refine nm_r (nI_1 v) (ih (v + 1) (by omega) (by omega) (fun x hx => ?_))
        by_cases w : x = v
        · rw [w]; exact a
        · exact h3 x (by omega)
      · rw [rx_b_t ⟨v, h, a⟩] at k
        exact k
theorem yg_ls {post : Int32 → Prop} {len u : Nat} (hL : L ≤ 7) (hl : len ≤ L) (hu : u < 2 ^ len) (hsl : ∀ s l, s < 3 → l.length ≤ 7 → b_slots (s * 255 + rx_n l) = rx_b (SL s l))
    (k : post (rx_b (∃ v, v < u ∧ rx_AL (rx_ch g_table SL) (L - len) (2 ^ len - 1 + u) (2 ^ len - 1 + v)))) : wpY_likeSmaller post (g_depth, g_table, nI L, b_stack, b_lc, b_slots, b_fresh) (nI len) (nI u) :=
  Exists.intro (u + 1) (yg_ls2 hL hl hu hsl k (u + 1) 0 (by omega) (by omega) (fun d hy => by omega))
theorem yg_18 {post : Int32 → Prop} {len : Nat} (hL : L ≤ 7) (hl : len ≤ L) (hsl : ∀ s l, s < 3 → l.length ≤ 7 → b_slots (s * 255 + rx_n l) = rx_b (SL s l))
    (k : post (nI (rx_P (fun u => ¬ ∃ v, v < u ∧ rx_AL (rx_ch g_table SL) (L - len) (2 ^ len - 1 + u) (2 ^ len - 1 + v)) (2 ^ len)))) :
    ∀ n u, u ≤ 2 ^ len → 2 ^ len < n + u → wY_groups_18 post (nI len) g_depth g_table (nI L) b_stack b_lc b_slots b_fresh n (nI (rx_P (fun u => ¬ ∃ v, v < u ∧ rx_AL (rx_ch g_table SL) (L - len) (2 ^ len - 1 + u) (2 ^ len - 1 + v)) u)) (nI u) := by
  have p7 := rx_p7 (show len ≤ 7 by omega)
  intro n
  induction n with
  | zero => intro u h1 h2; omega
  | succ n ih =>
    intro u h1 h2
    refine pk_le (2 ^ len) u (fun h => ?_) (fun h => ?_) (rx_sh len (by omega))
    · have e : u = 2 ^ len := by omega
      rw [e]
      exact k
    · refine yg_ls hL hl h hsl (rx_br (fun a => ?_) (fun a => ?_))
      · refine nm_r (e' := nI (rx_P (fun u => ¬ ∃ v, v < u ∧ rx_AL (rx_ch g_table SL) (L - len) (2 ^ len - 1 + u) (2 ^ len - 1 + v)) (u + 1))) ?_ (nm_r (nI_1 u) (ih (u + 1) (by omega) (by omega)))
        rw [nI_1, rx_P1, rx_t_t a]
      · refine nm_r (nI_1 u) ?_
        have e : rx_P (fun u => ¬ ∃ v, v < u ∧ rx_AL (rx_ch g_table SL) (L - len) (2 ^ len - 1 + u) (2 ^ len - 1 + v)) (u + 1) = rx_P (fun u => ¬ ∃ v, v < u ∧ rx_AL (rx_ch g_table SL) (L - len) (2 ^ len - 1 + u) (2 ^ len - 1 + v)) u := by
          rw [rx_P1, rx_t_f (fun z => z a)]; rfl
        rw [← e]
        exact ih (u + 1) (by omega) (by omega)
theorem yg_groups {post : Int32 → Prop} {len : Nat} (hL : L ≤ 7) (hl : len ≤ L) (hsl : ∀ s l, s < 3 → l.length ≤ 7 → b_slots (s * 255 + rx_n l) = rx_b (SL s l))
    (k : post (nI (rx_P (fun u => ¬ ∃ v, v < u ∧ rx_AL (rx_ch g_table SL) (L - len) (2 ^ len - 1 + u) (2 ^ len - 1 + v)) (2 ^ len)))) : wpY_groups post (g_depth, g_table, nI L, b_stack, b_lc, b_slots, b_fresh) (nI len) :=
  br_f (nI_pos (by omega)) (br_t (nI_le hl (by omega)) (Exists.intro (2 ^ len + 1) (yg_18 hL hl hsl k (2 ^ len + 1) 0 (Nat.zero_le _) (by omega))))
end
/-! first occurrences -/
theorem rx_P_e {p q : Nat → Prop} (h : ∀ w, p w ↔ q w) (n : Nat) : rx_P p n = rx_P q n := by
  have : p = q := funext fun w => propext (h w)
  rw [this]
theorem rx_P_add {p : Nat → Prop} {a : Nat} (ha : ¬ p a) : ∀ n, a < n → rx_P (fun x => p x ∨ x = a) n = rx_P p n + 1 := by
  intro n
  induction n with
  | zero => intro h; omega
  | succ n ih =>
    intro h
    rw [rx_P1, rx_P1]
    by_cases z : a = n
    · subst z
      have e := rx_P_x (ch := p) (ch' := fun x => p x ∨ x = a) (a := 0) a (Nat.zero_le _) (fun w _ hw => ⟨fun y => y.elim id (fun y => by omega), Or.inl⟩)
      have e0 : rx_P p 0 = 0 := rfl
      have e1 : rx_P (fun x => p x ∨ x = a) 0 = 0 := rfl
      rw [rx_t_t (Or.inr rfl), rx_t_f ha]
      omega
    · rw [ih (by omega)]
      have e : (p n ∨ n = a) = p n := propext ⟨fun y => y.elim id (fun y => absurd y.symm z), Or.inl⟩
      rw [e]
      omega
theorem rx_focc {c : Nat → Nat} {N : Nat} : ∀ n, (∀ u, u < n → c u < N) → rx_P (fun u => ¬ ∃ v, v < u ∧ c u = c v) n = rx_P (fun x => ∃ u, u < n ∧ c u = x) N := by
  intro n
  induction n with
  | zero =>
    intro _
    have e := rx_P_z (ch := fun x => ∃ u, u < 0 ∧ c u = x) (a := 0) N (Nat.zero_le _) (fun w _ _ ⟨u, hu, _⟩ => by omega)
    rw [e]
    rfl
  | succ n ih =>
    intro h
    rw [rx_P1, ih (fun u hu => h u (by omega))]
    by_cases z : ∃ v, v < n ∧ c n = c v
    · rw [rx_t_f (fun y => y z), Nat.add_zero]
      refine rx_P_e (fun x => ⟨fun ⟨u, hu, e⟩ => ⟨u, by omega, e⟩, fun ⟨u, hu, e⟩ => ?_⟩) N
      by_cases w : u = n
      · obtain ⟨v, hv, e'⟩ := z
        exact ⟨v, hv, by rw [← e', ← w]; exact e⟩
      · exact ⟨u, by omega, e⟩
    · rw [rx_t_t z]
      have ad := rx_P_add (p := fun x => ∃ u, u < n ∧ c u = x) (a := c n) (fun ⟨u, hu, e⟩ => z ⟨u, hu, e.symm⟩) N (h n (by omega))
      rw [← ad]
      refine rx_P_e (fun x => ⟨?_, fun ⟨u, hu, e⟩ => ?_⟩) N
      · rintro (⟨u, hu, e⟩ | e)
        · exact ⟨u, by omega, e⟩
        · exact ⟨n, by omega, e.symm⟩
      · by_cases w : u = n
        · right; rw [← w]; exact e.symm
        · left; exact ⟨u, by omega, e⟩
end
section
/-! groups: the component -/
theorem rx_m3 {a b : Nat} (ha : a < 2 ^ 30) (hb : b < 2 ^ 30) : nI a - 1 < nI b ↔ a ≤ b := by
  rw [Int32.lt_iff_toInt_lt, show (nI a - 1).toInt = (a : Int) - (1 : Nat) from pk_sub_toInt ha (by decide), nI_toInt (by omega)]
  omega
/-- g is the least place from lo on with the label of i -/
def rx_rp (T : Nat → Int32 × Int32 × Int32) (lo i g : Nat) : Prop := lo ≤ g ∧ g ≤ i ∧ T g = T i ∧ ∀ j, lo ≤ j → j < g → T j ≠ T i
theorem rp_uni (T : Nat → Int32 × Int32 × Int32) {lo i j g g' : Nat} (h : rx_rp T lo i g) (h' : rx_rp T lo j g') : g = g' ↔ T i = T j := by
  obtain ⟨a1, a2, a3, a4⟩ := h
  obtain ⟨b1, b2, b3, b4⟩ := h'
  constructor
  · intro e; subst e; exact a3.symm.trans b3
  · intro e
    rcases Nat.lt_trichotomy g g' with z | z | z
    · exact absurd (a3.trans e) (b4 g a1 z)
    · exact z
    · exact absurd (b3.trans e.symm) (a4 g' b1 z)
/-- the labels of a layer: hits, and the groups of both kids -/
def rx_T (hit k0 k1 gr : Nat → Int32) (bot : Int32) (i : Nat) : Int32 × Int32 × Int32 :=
  if bot = 0 then (hit i, gr (k0 i).toNatClampNeg, gr (k1 i).toNatClampNeg) else (hit i, 0, 0)
section
variable {f_longest f_height f_places f_table f_fresh f_nodes : Int32} {a_low a_first a_last a_empty a_kind a_follow a_turned a_slotFirst a_slotLast a_slotEmpty a_slotZeros a_slotOnes a_slotFollow a_layer a_set0 a_set1 a_set2 a_kid0 a_kid1 a_hit a_ways a_group : Nat → Int32} {SL : Nat → List Bool → Prop} {L : Nat}
theorem xp_al {post : Int32 → Prop} {i j : Nat} {bot : Int32} {gr : Nat → Int32} (hi : i < 255) (hj : j < 255)
    (hk : bot = 0 → ∀ x, x = i ∨ x = j → ∃ p q, a_kid0 x = nI p ∧ a_kid1 x = nI q ∧ p < 255 ∧ q < 255 ∧ a_group p = gr p ∧ a_group q = gr q)
    (k : post (rx_b (rx_T a_hit a_kid0 a_kid1 gr bot i = rx_T a_hit a_kid0 a_kid1 gr bot j))) : wpX_alike post (f_longest, f_height, f_places, f_table, f_fresh, f_nodes, a_low, a_first, a_last, a_empty, a_kind, a_follow, a_turned, a_slotFirst, a_slotLast, a_slotEmpty, a_slotZeros, a_slotOnes, a_slotFollow, a_layer, a_set0, a_set1, a_set2, a_kid0, a_kid1, a_hit, a_ways, a_group) (nI i) (nI j) bot := by
  have ci : (nI i).toNatClampNeg = i := nI_clamp (by omega)
  have cj : (nI j).toNatClampNeg = j := nI_clamp (by omega)
  have ii : vp_in (nI i) 256 := pk_in i 256 (by omega)
  have ij : vp_in (nI j) 256 := pk_in j 256 (by omega)
  refine And.intro ii (And.intro ij ?_)
  rw [ci, cj]
  unfold rx_T at k
  refine br_c (fun g => br_c (fun b => ?_) (fun b => ?_)) (fun g => ?_)
  · rw [if_pos b, if_pos b] at k
    obtain ⟨p, q, a1, a2, a3, a4, a5, a6⟩ := hk b i (Or.inl rfl)
    obtain ⟨p', q', b1, b2, b3, b4, b5, b6⟩ := hk b j (Or.inr rfl)
    have cp : (nI p).toNatClampNeg = p := nI_clamp (by omega)
    have cq : (nI q).toNatClampNeg = q := nI_clamp (by omega)
    have cp' : (nI p').toNatClampNeg = p' := nI_clamp (by omega)
    have cq' : (nI q').toNatClampNeg = q' := nI_clamp (by omega)
    rw [a1, a2, b1, b2, cp, cq, cp', cq', ← a5, ← a6, ← b5, ← b6] at k
    rw [a1, a2, b1, b2, cp, cq, cp', cq']
    refine ⟨ii, vp_in_nI (by omega) (by decide), ij, vp_in_nI (by omega) (by decide), br_c (fun c => ⟨ii, vp_in_nI (by omega) (by decide), ij, vp_in_nI (by omega) (by decide), br_c (fun d => ?_) (fun d => ?_)⟩) (fun c => ?_)⟩
    · rw [rx_b_t (by rw [g, c, d])] at k; exact k
    · rw [rx_b_f (fun z => d (congrArg (fun t => t.2.2) z))] at k; exact k
    · rw [rx_b_f (fun z => c (congrArg (fun t => t.2.1) z))] at k; exact k
  · rw [if_neg b, if_neg b, rx_b_t (by rw [g])] at k
    exact k
  · by_cases b : bot = 0
    · rw [if_pos b, if_pos b, rx_b_f (fun z => g (congrArg (fun t => t.1) z))] at k
      exact k
    · rw [if_neg b, if_neg b, rx_b_f (fun z => g (congrArg (fun t => t.1) z))] at k
      exact k
theorem xp_52 {post : SX → Prop} {J : Int32 → (Nat → Int32) → (Nat → Int32) → (Nat → Int32) → (Nat → Int32) → (Nat → Int32) → (Nat → Int32) → (Nat → Int32) → (Nat → Int32) → (Nat → Int32) → (Nat → Int32) → (Nat → Int32) → (Nat → Int32) → (Nat → Int32) → (Nat → Int32) → (Nat → Int32) → (Nat → Int32) → (Nat → Int32) → (Nat → Int32) → (Nat → Int32) → (Nat → Int32) → (Nat → Int32) → (Nat → Int32) → Prop}
    {lo hi i : Nat} {x1 bot : Int32} {g0 : Nat → Int32} (hlo : lo ≤ i) (hi1 : i < hi) (hi2 : hi ≤ 255)
    (hk : bot = 0 → ∀ x, lo ≤ x → x < hi → ∃ p q, a_kid0 x = nI p ∧ a_kid1 x = nI q ∧ hi ≤ p ∧ hi ≤ q ∧ p < 255 ∧ q < 255)
    (K : ∀ gr : Nat → Int32, (∀ j, lo ≤ j → j < i + 1 → ∃ g, gr j = nI g ∧ rx_rp (rx_T a_hit a_kid0 a_kid1 g0 bot) lo j g) → (∀ j, j < lo ∨ hi ≤ j → gr j = g0 j) → J (nI (i + 1)) a_low a_first a_last a_empty a_kind a_follow a_turned a_slotFirst a_slotLast a_slotEmpty a_slotZeros a_slotOnes a_slotFollow a_layer a_set0 a_set1 a_set2 a_kid0 a_kid1 a_hit a_ways gr) :
    ∀ (n a : Nat) (gr : Nat → Int32), lo ≤ a → a ≤ i → a < n + lo → (∀ j, lo ≤ j → j < i → ∃ g, gr j = nI g ∧ rx_rp (rx_T a_hit a_kid0 a_kid1 g0 bot) lo j g) →
      (∃ g, gr i = nI g ∧ ((g = i ∧ ∀ j, a ≤ j → j < i → rx_T a_hit a_kid0 a_kid1 g0 bot j ≠ rx_T a_hit a_kid0 a_kid1 g0 bot i) ∨ rx_rp (rx_T a_hit a_kid0 a_kid1 g0 bot) lo i g)) → (∀ j, j < lo ∨ hi ≤ j → gr j = g0 j) →
      wX_partLayer_52 post J x1 (nI lo) bot (nI i) f_longest f_height f_places f_table f_fresh f_nodes n (nI a - 1) a_low a_first a_last a_empty a_kind a_follow a_turned a_slotFirst a_slotLast a_slotEmpty a_slotZeros a_slotOnes a_slotFollow a_layer a_set0 a_set1 a_set2 a_kid0 a_kid1 a_hit a_ways gr := by
  intro n
  induction n with
  | zero => intro a gr h0 h1 h2; omega
  | succ n ih =>
    intro a gr h0 h1 h2 h3 h4 h5
    refine ek_if (rx_m3 (by omega) (by omega)) (fun z => ?_) (fun z => ?_)
    · refine nm_r (nI_1 i) (K gr (fun j hj hj' => ?_) h5)
      by_cases w : j = i
      · subst w
        obtain ⟨g, e, h4⟩ := h4
        refine ⟨g, e, ?_⟩
        rcases h4 with ⟨c1, c2⟩ | c
        · subst c1
          exact ⟨hj, Nat.le_refl _, rfl, fun y y1 y2 => c2 y (by omega) y2⟩
        · exact c
      · exact h3 j hj (by omega)
    · obtain ⟨j, rfl⟩ : ∃ j, a = j + 1 := ⟨a - 1, by omega⟩
      have ej : nI (j + 1) - 1 = nI j := nI_pred j
      have cj : (nI j).toNatClampNeg = j := nI_clamp (by omega)
      have ci : (nI i).toNatClampNeg = i := nI_clamp (by omega)
      have em : nI j + (-1) = nI j - 1 := by rw [Int32.sub_eq_add_neg]
      rw [ej]
      refine xp_al (gr := g0) (by omega) (by omega) (fun b x hx => ?_) (rx_br (fun g => ?_) (fun g => ?_))
      · obtain ⟨p, q, c1, c2, c3, c4, c5, c6⟩ := hk b x (by omega) (by omega)
        exact ⟨p, q, c1, c2, c5, c6, h5 p (Or.inr c3), h5 q (Or.inr c4)⟩
      · refine nm_r em (ih j gr (by omega) (by omega) (by omega) h3 ?_ h5)
        obtain ⟨x, e, h4⟩ := h4
        refine ⟨x, e, ?_⟩
        rcases h4 with ⟨c1, c2⟩ | c
        · refine Or.inl ⟨c1, fun y y1 y2 => ?_⟩
          by_cases w : y = j
          · rw [w]; exact fun q => g q.symm
          · exact c2 y (by omega) y2
        · exact Or.inr c
      · obtain ⟨x, e, hx⟩ := h3 j (by omega) (by omega)
        refine ⟨pk_in j 256 (by omega), pk_in i 256 (by omega), nm_r (e' := upd gr i (nI x)) (by rw [ci, cj, e]) (nm_r em ?_)⟩
        refine ih j _ (by omega) (by omega) (by omega) (fun y y1 y2 => ?_) ⟨x, pk_us, Or.inr ?_⟩ (fun y hy => ?_)
        · rw [pk_un (by omega)]; exact h3 y y1 y2
        · obtain ⟨c1, c2, c3, c4⟩ := hx
          exact ⟨c1, by omega, c3.trans g.symm, fun y y1 y2 q => c4 y y1 y2 (q.trans g)⟩
        · rw [pk_un (by omega)]; exact h5 y hy
theorem xp_24 {post : SX → Prop} {lo hi d : Nat} {bot : Int32} {g0 : Nat → Int32} (hd : d ≤ 7) (hlh : lo ≤ hi) (hi2 : hi ≤ 255) (hla : a_layer (d + 1) = nI hi)
    (hk : bot = 0 → ∀ x, lo ≤ x → x < hi → ∃ p q, a_kid0 x = nI p ∧ a_kid1 x = nI q ∧ hi ≤ p ∧ hi ≤ q ∧ p < 255 ∧ q < 255)
    (K : ∀ gr : Nat → Int32, (∀ j, lo ≤ j → j < hi → ∃ g, gr j = nI g ∧ rx_rp (rx_T a_hit a_kid0 a_kid1 g0 bot) lo j g) → post (f_longest, f_height, f_places, f_table, f_fresh, f_nodes, a_low, a_first, a_last, a_empty, a_kind, a_follow, a_turned, a_slotFirst, a_slotLast, a_slotEmpty, a_slotZeros, a_slotOnes, a_slotFollow, a_layer, a_set0, a_set1, a_set2, a_kid0, a_kid1, a_hit, a_ways, gr)) :
    ∀ (n i : Nat) (gr : Nat → Int32), lo ≤ i → i ≤ hi → hi < n + i → (∀ j, lo ≤ j → j < i → ∃ g, gr j = nI g ∧ rx_rp (rx_T a_hit a_kid0 a_kid1 g0 bot) lo j g) → (∀ j, j < lo ∨ hi ≤ j → gr j = g0 j) →
      wX_partLayer_24 post (nI d) (nI lo) bot f_longest f_height f_places f_table f_fresh f_nodes n (nI i) a_low a_first a_last a_empty a_kind a_follow a_turned a_slotFirst a_slotLast a_slotEmpty a_slotZeros a_slotOnes a_slotFollow a_layer a_set0 a_set1 a_set2 a_kid0 a_kid1 a_hit a_ways gr := by
  have c1 : (nI d + 1).toNatClampNeg = d + 1 := by rw [nI_1]; exact nI_clamp (by omega)
  intro n
  induction n with
  | zero => intro i gr h0 h1 h2; omega
  | succ n ih =>
    intro i gr h0 h1 h2 h3 h4
    refine ⟨pk_in (d + 1) 10 (by omega) (nI_1 d), ?_⟩
    refine pk_le hi i (fun h => ?_) (fun h => ?_) (by rw [c1]; exact hla)
    · exact K gr (fun j a b => h3 j a (by omega))
    · have ci : (nI i).toNatClampNeg = i := nI_clamp (by omega)
      refine ⟨pk_in i 256 (by omega), nm_r (yl_up ci rfl) (nm_e ?_)⟩
      refine Exists.intro (i + 1) (xp_52 (g0 := g0) h0 h hi2 hk (fun gr' a b => ?_) (i + 1) i _ h0 (Nat.le_refl _) (by omega) (fun j a b => ?_) ⟨i, pk_us, Or.inl ⟨rfl, fun j a b => by omega⟩⟩ (fun j hj => ?_))
      · exact ih (i + 1) gr' (by omega) (by omega) (by omega) a b
      · rw [pk_un (by omega)]; exact h3 j a b
      · rw [pk_un (by omega)]; exact h4 j hj
/-- layer e is grouped -/
def rx_GP (ch : Nat → Prop) (L e : Nat) (ly nd : Nat → Nat) (gr : Nat → Int32) : Prop :=
  ∃ T : Nat → Int32 × Int32 × Int32, (∀ j, ly e ≤ j → j < ly (e + 1) → ∃ g, gr j = nI g ∧ rx_rp T (ly e) j g) ∧ (∀ U V, rx_lv e U → rx_lv e V → (T (nd U) = T (nd V) ↔ rx_AL ch (L - e) U V))
theorem gp_eq {ch : Nat → Prop} {ly nd : Nat → Nat} {la k0 k1 ht gr : Nat → Int32} {e U V : Nat} (G : rx_G L ch ly nd la k0 k1 ht) (he : e ≤ L) (P : rx_GP ch L e ly nd gr) (hU : rx_lv e U) (hV : rx_lv e V) : gr (nd U) = gr (nd V) ↔ rx_AL ch (L - e) U V := by
  obtain ⟨T, p1, p2⟩ := P
  have a := G.2.2.2.2.2.1 e U he hU
  have b := G.2.2.2.2.2.1 e V he hV
  have aU := rx_G_255 G he hU
  have aV := rx_G_255 G he hV
  obtain ⟨g, e1, r1⟩ := p1 _ a.1 a.2.1
  obtain ⟨g', e2, r2⟩ := p1 _ b.1 b.2.1
  rw [e1, e2, nI_eq (by have := r1.2.1; omega) (by have := r2.2.1; omega), rp_uni T r1 r2]
  exact p2 U V hU hV
theorem xp_part {post : SX → Prop} {ch : Nat → Prop} {ly nd : Nat → Nat} {d : Nat} (hL : L ≤ 7) (hd : d ≤ L) (G : rx_G L ch ly nd a_layer a_kid0 a_kid1 a_hit) (hP : d < L → rx_GP ch L (d + 1) ly nd a_group)
    (K : ∀ gr : Nat → Int32, rx_GP ch L d ly nd gr → post (nI L, f_height, f_places, f_table, f_fresh, f_nodes, a_low, a_first, a_last, a_empty, a_kind, a_follow, a_turned, a_slotFirst, a_slotLast, a_slotEmpty, a_slotZeros, a_slotOnes, a_slotFollow, a_layer, a_set0, a_set1, a_set2, a_kid0, a_kid1, a_hit, a_ways, gr)) : wpX_partLayer post (nI L, f_height, f_places, f_table, f_fresh, f_nodes, a_low, a_first, a_last, a_empty, a_kind, a_follow, a_turned, a_slotFirst, a_slotLast, a_slotEmpty, a_slotZeros, a_slotOnes, a_slotFollow, a_layer, a_set0, a_set1, a_set2, a_kid0, a_kid1, a_hit, a_ways, a_group) (nI d) := by
  have c0 : (nI d).toNatClampNeg = d := nI_clamp (by omega)
  have mono := rx_G_mono G
  have m0 := mono (d + 1) d (by omega) (by omega)
  have m1 := mono (L + 1) (d + 1) (by omega) (by omega)
  have h255 := G.2.2.2.1
  have hits : ∀ U V, rx_lv d U → rx_lv d V → (a_hit (nd U) = a_hit (nd V) ↔ (ch U ↔ ch V)) := by
    intro U V hU hV
    rw [(G.2.2.2.2.2.1 d U hd hU).2.2, (G.2.2.2.2.2.1 d V hd hV).2.2]
    exact rx_b_i
  refine And.intro (pk_in d 10 (by omega)) (nm_r (e' := nI (ly d)) (by rw [c0]; exact G.1 d (by omega)) ?_)
  refine pk_eq d L (fun e => ?_) (fun e => ?_)
  · refine Exists.intro (ly (d + 1) + 1) (xp_24 (bot := 1) (g0 := a_group) (by omega) m0 (by omega) (G.1 (d + 1) (by omega)) (fun b => absurd b (by decide)) (fun gr a => ?_) (ly (d + 1) + 1) (ly d) a_group (Nat.le_refl _) m0 (by omega) (fun j a b => by omega) (fun j _ => rfl))
    refine K gr ⟨_, a, fun U V hU hV => ?_⟩
    rw [e, Nat.sub_self, rx_AL_0, ← hits U V hU hV]
    unfold rx_T
    rw [if_neg (by decide), if_neg (by decide)]
    exact ⟨fun z => congrArg (fun t => t.1) z, fun z => by rw [z]⟩
  · have hlt : d < L := by omega
    have m2 := mono (L + 1) (d + 2) (by omega) (by omega)
    refine Exists.intro (ly (d + 1) + 1) (xp_24 (bot := 0) (g0 := a_group) (by omega) m0 (by omega) (G.1 (d + 1) (by omega)) (fun _ x x1 x2 => ?_) (fun gr a => ?_) (ly (d + 1) + 1) (ly d) a_group (Nat.le_refl _) m0 (by omega) (fun j a b => by omega) (fun j _ => rfl))
    · obtain ⟨w, hw, ew⟩ := G.2.2.2.2.2.2.2 d x hd x1 x2
      have kk := G.2.2.2.2.2.2.1 d w hlt hw
      rw [ew] at kk
      have l1 := G.2.2.2.2.2.1 (d + 1) _ (by omega) (rx_lv_l hw)
      have l2 := G.2.2.2.2.2.1 (d + 1) _ (by omega) (rx_lv_r hw)
      exact ⟨_, _, kk.1, kk.2, l1.1, l2.1, rx_G_255 G (by omega) (rx_lv_l hw), rx_G_255 G (by omega) (rx_lv_r hw)⟩
    · refine K gr ⟨_, a, fun U V hU hV => ?_⟩
      have kU := G.2.2.2.2.2.2.1 d U hlt hU
      have kV := G.2.2.2.2.2.2.1 d V hlt hV
      have q1 := rx_G_255 G (show d + 1 ≤ L by omega) (rx_lv_l hU)
      have q2 := rx_G_255 G (show d + 1 ≤ L by omega) (rx_lv_r hU)
      have q3 := rx_G_255 G (show d + 1 ≤ L by omega) (rx_lv_l hV)
      have q4 := rx_G_255 G (show d + 1 ≤ L by omega) (rx_lv_r hV)
      have g1 := gp_eq G (by omega) (hP hlt) (rx_lv_l hU) (rx_lv_l hV)
      have g2 := gp_eq G (by omega) (hP hlt) (rx_lv_r hU) (rx_lv_r hV)
      rw [show L - d = (L - (d + 1)) + 1 by omega, rx_AL_s, ← hits U V hU hV, ← g1, ← g2]
      unfold rx_T
      rw [if_pos rfl, if_pos rfl, kU.1, kU.2, kV.1, kV.2, nI_clamp (by omega), nI_clamp (by omega), nI_clamp (by omega), nI_clamp (by omega)]
      exact ⟨fun z => ⟨congrArg (fun t => t.1) z, congrArg (fun t => t.2.1) z, congrArg (fun t => t.2.2) z⟩, fun ⟨z1, z2, z3⟩ => by rw [z1, z2, z3]⟩
theorem xp_48 {post : Int32 → SX → Prop} {lo hi len : Nat} (hl : len ≤ 7) (hlh : lo ≤ hi) (hi2 : hi ≤ 255) (hla : a_layer (len + 1) = nI hi)
    (K : ∀ c, c + rx_P (fun j => a_group j = nI j) lo = rx_P (fun j => a_group j = nI j) hi → post (nI c) (f_longest, f_height, f_places, f_table, f_fresh, f_nodes, a_low, a_first, a_last, a_empty, a_kind, a_follow, a_turned, a_slotFirst, a_slotLast, a_slotEmpty, a_slotZeros, a_slotOnes, a_slotFollow, a_layer, a_set0, a_set1, a_set2, a_kid0, a_kid1, a_hit, a_ways, a_group)) :
    ∀ (n i c : Nat), lo ≤ i → i ≤ hi → hi < n + i → c + rx_P (fun j => a_group j = nI j) lo = rx_P (fun j => a_group j = nI j) i → wX_groups_48 post (nI len) f_longest f_height f_places f_table f_fresh f_nodes a_low a_first a_last a_empty a_kind a_follow a_turned a_slotFirst a_slotLast a_slotEmpty a_slotZeros a_slotOnes a_slotFollow a_layer a_set0 a_set1 a_set2 a_kid0 a_kid1 a_hit a_ways a_group n (nI c) (nI i) := by
  have c1 : (nI len + 1).toNatClampNeg = len + 1 := by rw [nI_1]; exact nI_clamp (by omega)
  intro n
  induction n with
  | zero => intro i c h0 h1 h2; omega
  | succ n ih =>
    intro i c h0 h1 h2 h3
    refine ⟨pk_in (len + 1) 10 (by omega) (nI_1 len), ?_⟩
    refine pk_le hi i (fun h => ?_) (fun h => ?_) (by rw [c1]; exact hla)
    · have e : i = hi := by omega
      subst e
      exact K c h3
    · have ci : (nI i).toNatClampNeg = i := nI_clamp (by omega)
      refine ⟨pk_in i 256 (by omega), ?_⟩
      rw [ci]
      refine br_c (fun g => ?_) (fun g => ?_)
      · refine nm_r (nI_1 c) (nm_r (nI_1 i) (ih (i + 1) (c + 1) (by omega) (by omega) (by omega) ?_))
        rw [rx_P1, rx_t_t g]
        omega
      · refine nm_r (nI_1 i) (ih (i + 1) c (by omega) (by omega) (by omega) ?_)
        rw [rx_P1, rx_t_f g]
        exact h3
theorem gp_count {ch : Nat → Prop} {ly nd : Nat → Nat} {la k0 k1 ht gr : Nat → Int32} {len c : Nat} (G : rx_G L ch ly nd la k0 k1 ht) (hl : len ≤ L) (P : rx_GP ch L len ly nd gr)
    (hc : c + rx_P (fun j => gr j = nI j) (ly len) = rx_P (fun j => gr j = nI j) (ly (len + 1))) :
    c = rx_P (fun u => ¬ ∃ v, v < u ∧ rx_AL ch (L - len) (2 ^ len - 1 + u) (2 ^ len - 1 + v)) (2 ^ len) := by
  have m0 := rx_G_mono G (len + 1) len (by omega) (by omega)
  have m1 := rx_G_mono G (L + 1) (len + 1) (by omega) (by omega)
  have h255 := G.2.2.2.1
  have eqv := fun U V hU hV => gp_eq (U := U) (V := V) G hl P hU hV
  obtain ⟨T, p1, p2⟩ := P
  have cl : ∀ u, u < 2 ^ len → ∃ g, gr (nd (2 ^ len - 1 + u)) = nI g ∧ rx_rp T (ly len) (nd (2 ^ len - 1 + u)) g ∧ (gr (nd (2 ^ len - 1 + u))).toNatClampNeg = g ∧ g < ly (len + 1) := by
    intro u hu
    have r := G.2.2.2.2.2.1 len _ hl (rx_lv_mk hu)
    obtain ⟨g, e, rp⟩ := p1 _ r.1 r.2.1
    have := rp.2.1
    exact ⟨g, e, rp, by rw [e]; exact nI_clamp (by omega), by omega⟩
  have e1 : rx_P (fun u => ¬ ∃ v, v < u ∧ rx_AL ch (L - len) (2 ^ len - 1 + u) (2 ^ len - 1 + v)) (2 ^ len) = rx_P (fun u => ¬ ∃ v, v < u ∧ (gr (nd (2 ^ len - 1 + u))).toNatClampNeg = (gr (nd (2 ^ len - 1 + v))).toNatClampNeg) (2 ^ len) := by
    have x := rx_P_x (ch := fun u => ¬ ∃ v, v < u ∧ (gr (nd (2 ^ len - 1 + u))).toNatClampNeg = (gr (nd (2 ^ len - 1 + v))).toNatClampNeg) (ch' := fun u => ¬ ∃ v, v < u ∧ rx_AL ch (L - len) (2 ^ len - 1 + u) (2 ^ len - 1 + v)) (a := 0) (2 ^ len) (Nat.zero_le _) (fun u _ hu => by
      have key : ∀ v, v < u → (rx_AL ch (L - len) (2 ^ len - 1 + u) (2 ^ len - 1 + v) ↔ (gr (nd (2 ^ len - 1 + u))).toNatClampNeg = (gr (nd (2 ^ len - 1 + v))).toNatClampNeg) := by
        intro v hv
        rw [← eqv _ _ (rx_lv_mk hu) (rx_lv_mk (show v < 2 ^ len by omega))]
        obtain ⟨g, a1, a2, a3, a4⟩ := cl u hu
        obtain ⟨g', b1, b2, b3, b4⟩ := cl v (by omega)
        rw [a3, b3, a1, b1, nI_eq (by omega) (by omega)]
      constructor
      · intro h ⟨v, hv, e⟩; exact h ⟨v, hv, (key v hv).mpr e⟩
      · intro h ⟨v, hv, e⟩; exact h ⟨v, hv, (key v hv).mp e⟩)
    exact x
  have e2 := rx_focc (c := fun u => (gr (nd (2 ^ len - 1 + u))).toNatClampNeg) (N := 255) (2 ^ len) (fun u hu => by
    obtain ⟨g, a1, a2, a3, a4⟩ := cl u hu
    show (gr (nd (2 ^ len - 1 + u))).toNatClampNeg < 255
    rw [a3]; omega)
  have z1 := rx_P_z (ch := fun x => ∃ u, u < 2 ^ len ∧ (gr (nd (2 ^ len - 1 + u))).toNatClampNeg = x) (a := 0) (ly len) (Nat.zero_le _) (fun w _ hw ⟨u, hu, e⟩ => by
    obtain ⟨g, a1, a2, a3, a4⟩ := cl u hu
    have := a2.1
    omega)
  have z2 := rx_P_z (ch := fun x => ∃ u, u < 2 ^ len ∧ (gr (nd (2 ^ len - 1 + u))).toNatClampNeg = x) (a := ly (len + 1)) 255 (by omega) (fun w hw _ ⟨u, hu, e⟩ => by
    obtain ⟨g, a1, a2, a3, a4⟩ := cl u hu
    omega)
  have x := rx_P_x (ch := fun j => gr j = nI j) (ch' := fun x => ∃ u, u < 2 ^ len ∧ (gr (nd (2 ^ len - 1 + u))).toNatClampNeg = x) (a := ly len) (ly (len + 1)) m0 (fun w h1 h2 => by
    constructor
    · intro ⟨u, hu, e⟩
      obtain ⟨g, a1, a2, a3, a4⟩ := cl u hu
      have eg : g = w := by rw [← a3]; exact e
      subst eg
      obtain ⟨g', b1, b2⟩ := p1 g h1 h2
      show gr g = nI g
      rw [b1]
      refine congrArg nI ?_
      exact (rp_uni T b2 a2).mpr a2.2.2.1
    · intro e
      have e' : gr w = nI w := e
      obtain ⟨W, hW, eW⟩ := G.2.2.2.2.2.2.2 len w hl h1 h2
      have b1 := hW.1
      have b2 := hW.2
      rw [Nat.pow_succ] at b2
      refine ⟨W + 1 - 2 ^ len, by omega, ?_⟩
      rw [show 2 ^ len - 1 + (W + 1 - 2 ^ len) = W by have := Nat.two_pow_pos len; omega, eW, e']
      exact nI_clamp (by omega))
  have e0 : rx_P (fun x => ∃ u, u < 2 ^ len ∧ (gr (nd (2 ^ len - 1 + u))).toNatClampNeg = x) 0 = 0 := rfl
  rw [e1, e2]
  omega
theorem xp_23 {post : Int32 → SX → Prop} {ch : Nat → Prop} {ly nd : Nat → Nat} {len : Nat} (hL : L ≤ 7) (hl : len ≤ L) (G : rx_G L ch ly nd a_layer a_kid0 a_kid1 a_hit)
    (K : ∀ gr : Nat → Int32, post (nI (rx_P (fun u => ¬ ∃ v, v < u ∧ rx_AL ch (L - len) (2 ^ len - 1 + u) (2 ^ len - 1 + v)) (2 ^ len))) (nI L, f_height, f_places, f_table, f_fresh, f_nodes, a_low, a_first, a_last, a_empty, a_kind, a_follow, a_turned, a_slotFirst, a_slotLast, a_slotEmpty, a_slotZeros, a_slotOnes, a_slotFollow, a_layer, a_set0, a_set1, a_set2, a_kid0, a_kid1, a_hit, a_ways, gr)) :
    ∀ (n d : Nat) (gr : Nat → Int32), len ≤ d → d ≤ L + 1 → d < n + len → (d ≤ L → rx_GP ch L d ly nd gr) → wX_groups_23 post (nI len) n (nI d - 1) (nI L) f_height f_places f_table f_fresh f_nodes a_low a_first a_last a_empty a_kind a_follow a_turned a_slotFirst a_slotLast a_slotEmpty a_slotZeros a_slotOnes a_slotFollow a_layer a_set0 a_set1 a_set2 a_kid0 a_kid1 a_hit a_ways gr := by
  have c0 : (nI len).toNatClampNeg = len := nI_clamp (by omega)
  have mono := rx_G_mono G
  have m0 := mono (len + 1) len (by omega) (by omega)
  have m1 := mono (L + 1) (len + 1) (by omega) (by omega)
  have h255 := G.2.2.2.1
  intro n
  induction n with
  | zero => intro d gr h0 h1 h2; omega
  | succ n ih =>
    intro d gr h0 h1 h2 h3
    refine ek_if (rx_m3 (by omega) (by omega)) (fun z => ?_) (fun z => ?_)
    · have e : d = len := by omega
      subst e
      refine ⟨pk_in d 10 (by omega), nm_r (e' := nI (ly d)) (by rw [c0]; exact G.1 d (by omega)) ?_⟩
      refine Exists.intro (ly (d + 1) + 1) (xp_48 (lo := ly d) (by omega) m0 (by omega) (G.1 (d + 1) (by omega)) (fun c hc => ?_) (ly (d + 1) + 1) (ly d) 0 (Nat.le_refl _) m0 (by omega) (Nat.zero_add _))
      rw [gp_count G hl (h3 hl) hc]
      exact K gr
    · obtain ⟨e, rfl⟩ : ∃ e, d = e + 1 := ⟨d - 1, by omega⟩
      have em : nI e + (-1) = nI e - 1 := by rw [Int32.sub_eq_add_neg]
      rw [nI_pred]
      refine xp_part hL (by omega) G (fun h => h3 (by omega)) (fun gr' hg => ?_)
      exact nm_r em (ih e gr' (by omega) (by omega) (by omega) (fun _ => hg))
theorem xp_groups {post : Int32 → SX → Prop} {len : Nat} (hL : L ≤ 7) (hl : len ≤ L) (hS : rx_SS a_slotFirst a_slotLast a_slotEmpty a_slotZeros a_slotOnes a_slotFollow SL) (hF : rx_Fr L (rx_ch f_table SL) f_fresh a_layer a_kid0 a_kid1 a_hit)
    (K : ∀ (ff nn : Int32) (la s0 s1 s2 k0 k1 ht : Nat → Int32) (gr : Nat → Int32), rx_Fr L (rx_ch f_table SL) ff la k0 k1 ht → post (nI (rx_P (fun u => ¬ ∃ v, v < u ∧ rx_AL (rx_ch f_table SL) (L - len) (2 ^ len - 1 + u) (2 ^ len - 1 + v)) (2 ^ len))) (nI L, f_height, f_places, f_table, ff, nn, a_low, a_first, a_last, a_empty, a_kind, a_follow, a_turned, a_slotFirst, a_slotLast, a_slotEmpty, a_slotZeros, a_slotOnes, a_slotFollow, la, s0, s1, s2, k0, k1, ht, a_ways, gr)) : wpX_groups post (nI L, f_height, f_places, f_table, f_fresh, f_nodes, a_low, a_first, a_last, a_empty, a_kind, a_follow, a_turned, a_slotFirst, a_slotLast, a_slotEmpty, a_slotZeros, a_slotOnes, a_slotFollow, a_layer, a_set0, a_set1, a_set2, a_kid0, a_kid1, a_hit, a_ways, a_group) (nI len) := by
  refine br_f (nI_pos (by omega)) (br_t (nI_le hl (by omega)) ?_)
  refine xq_build hL hS hF (fun ly nd ff nn la s0 s1 s2 k0 k1 ht hff G => ?_)
  have h := xp_23 (post := post) (f_height := f_height) (f_places := f_places) (f_table := f_table) (f_fresh := ff) (f_nodes := nn) (a_low := a_low) (a_first := a_first) (a_last := a_last) (a_empty := a_empty) (a_kind := a_kind) (a_follow := a_follow) (a_turned := a_turned) (a_slotFirst := a_slotFirst) (a_slotLast := a_slotLast) (a_slotEmpty := a_slotEmpty) (a_slotZeros := a_slotZeros) (a_slotOnes := a_slotOnes) (a_slotFollow := a_slotFollow) (a_set0 := s0) (a_set1 := s1) (a_set2 := s2) (a_ways := a_ways) hL hl G (fun gr => K ff nn la s0 s1 s2 k0 k1 ht gr (Or.inr ⟨hff, ly, nd, G⟩)) (L + 2) (L + 1) a_group (by omega) (Nat.le_refl _) (by omega) (fun h => by omega)
  rw [nI_pred] at h
  exact Exists.intro (L + 2) h
end
end
section
/-! the relation -/
def rx_St (h pl : Nat) (lo : Nat → Nat) (Lg : Nat → List Bool → Prop) (low first last empty kind follow stack lc : Nat → Int32) : Prop :=
  lo 0 = 0 ∧ lo h = pl ∧ (∀ i, i < h → lo i ≤ lo (i + 1) ∧ lc i = nI (lo (i + 1) - lo i)) ∧ (∀ i, i < h → low i = nI (lo i)) ∧
  (∀ i, i < h → rx_En (lo i) (lo (i + 1)) (first i) (last i) (empty i) follow kind (Lg i)) ∧ (∀ i l, i < h → l.length ≤ 7 → stack (i * 255 + rx_n l) = rx_b (Lg i l))
theorem st_mono {h : Nat} {lo : Nat → Nat} (H : ∀ i, i < h → lo i ≤ lo (i + 1)) : ∀ b a, a ≤ b → b ≤ h → lo a ≤ lo b := by
  intro b
  induction b with
  | zero => intro a ha _; have : a = 0 := by omega
            rw [this]; exact Nat.le_refl _
  | succ b ih =>
    intro a ha hb
    by_cases z : a = b + 1
    · rw [z]; exact Nat.le_refl _
    · exact Nat.le_trans (ih a (by omega) (by omega)) (H b (by omega))
section
variable {h pl h0 pl' : Nat} {lo : Nat → Nat} {Lg : Nat → List Bool → Prop} {A : List Bool → Prop} {low first last empty kind follow stack lc low' first' last' empty' kind' follow' stack' lc' : Nat → Int32}
theorem st_gen (S : rx_St h pl lo Lg low first last empty kind follow stack lc) (hh : h0 ≤ h) (hp : lo h0 ≤ pl')
    (ho : ∀ i, i < h0 → low' i = low i ∧ first' i = first i ∧ last' i = last i ∧ empty' i = empty i ∧ lc' i = lc i) (hl : low' h0 = nI (lo h0)) (hc : lc' h0 = nI (pl' - lo h0))
    (he : rx_En (lo h0) pl' (first' h0) (last' h0) (empty' h0) follow' kind' A) (hf : ∀ p q, p < lo h0 → (rx_on (follow' p) q ↔ rx_on (follow p) q)) (hk : ∀ p, p < lo h0 → kind' p = kind p)
    (hs : ∀ l, l.length ≤ 7 → stack' (h0 * 255 + rx_n l) = rx_b (A l)) (hj : ∀ j, j < h0 * 255 → stack' j = stack j) :
    ∃ lo' Lg', rx_St (h0 + 1) pl' lo' Lg' low' first' last' empty' kind' follow' stack' lc' := by
  obtain ⟨a0, a1, a2, a3, a4, a5⟩ := S
  have mono := st_mono (fun i hi => (a2 i hi).1)
  have l1 : ∀ e, e ≤ h0 → (fun e => if e = h0 + 1 then pl' else lo e) e = lo e := fun e he => if_neg (by omega)
  have l2 : (fun e => if e = h0 + 1 then pl' else lo e) (h0 + 1) = pl' := if_pos rfl
  refine ⟨fun e => if e = h0 + 1 then pl' else lo e, fun i l => if i = h0 then A l else Lg i l, ?_⟩
  generalize (fun e => if e = h0 + 1 then pl' else lo e) = lz at l1 l2
  have g1 : ∀ i, i < h0 → (fun i l => if i = h0 then A l else Lg i l) i = Lg i := fun i hi => funext fun l => if_neg (by omega)
  have g2 : (fun i l => if i = h0 then A l else Lg i l) h0 = A := funext fun l => if_pos rfl
  generalize (fun i l => if i = h0 then A l else Lg i l) = Lz at g1 g2
  refine ⟨by rw [l1 0 (Nat.zero_le _)]; exact a0, l2, fun i hi => ?_, fun i hi => ?_, fun i hi => ?_, fun i l hi hl7 => ?_⟩
  · by_cases z : i = h0
    · rw [z, l1 h0 (Nat.le_refl _), l2]; exact ⟨hp, hc⟩
    · rw [l1 i (by omega), l1 (i + 1) (by omega), (ho i (by omega)).2.2.2.2]; exact a2 i (by omega)
  · by_cases z : i = h0
    · rw [z, l1 h0 (Nat.le_refl _)]; exact hl
    · rw [l1 i (by omega), (ho i (by omega)).1]; exact a3 i (by omega)
  · by_cases z : i = h0
    · rw [z, l1 h0 (Nat.le_refl _), l2, g2]; exact he
    · have o := ho i (by omega)
      have m := mono h0 (i + 1) (by omega) hh
      rw [l1 i (by omega), l1 (i + 1) (by omega), g1 i (by omega), o.2.1, o.2.2.1, o.2.2.2.1]
      exact en_ext (a4 i (by omega)) (fun p q _ hq => hf p q (by omega)) (fun p _ hq => hk p (by omega))
  · by_cases z : i = h0
    · rw [z, g2]; exact hs l hl7
    · have n := rx_n_255 hl7
      rw [g1 i (by omega), hj _ (by omega)]; exact a5 i l (by omega) hl7
theorem st_cut (S : rx_St h pl lo Lg low first last empty kind follow stack lc) (hh : h0 ≤ h) : rx_St h0 (lo h0) lo Lg low first last empty kind follow stack lc := by
  obtain ⟨a0, a1, a2, a3, a4, a5⟩ := S
  exact ⟨a0, rfl, fun i hi => a2 i (by omega), fun i hi => a3 i (by omega), fun i hi => a4 i (by omega), fun i l hi => a5 i l (by omega)⟩
end
theorem sl_ext {F L E Z O : Int32} {sfo sfo' : Nat → Int32} {A : List Bool → Prop} (h : rx_Sl F L E Z O sfo A) (hs : ∀ p, p < 12 → sfo' p = sfo p) : rx_Sl F L E Z O sfo' A := by
  obtain ⟨x1, x2, x3, x4, x5⟩ := h
  have kr : ∀ q b, rx_kb Z O q b → q < 12 := by
    intro q b hb
    cases b
    · exact x2 q hb
    · exact x3 q hb
  have tl : ∀ l p, p < 12 → (rx_tl (rx_on L) (fun p => rx_on (sfo p)) (rx_kb Z O) l p ↔ rx_tl (rx_on L) (fun p => rx_on (sfo' p)) (rx_kb Z O) l p) := by
    intro l
    induction l with
    | nil => intro p _; exact Iff.rfl
    | cons b l ih =>
      intro p hp
      constructor
      · intro ⟨q, g1, g2, g3⟩
        have g1' : rx_on (sfo p) q := g1
        exact ⟨q, by show rx_on (sfo' p) q; rw [hs p hp]; exact g1', g2, (ih q (kr q b g2)).mp g3⟩
      · intro ⟨q, g1, g2, g3⟩
        have g1' : rx_on (sfo' p) q := g1
        rw [hs p hp] at g1'
        exact ⟨q, g1', g2, (ih q (kr q b g2)).mpr g3⟩
  refine ⟨x1, x2, x3, x4, fun l => ?_⟩
  rw [x5]
  cases l with
  | nil => exact Iff.rfl
  | cons b l =>
    constructor
    · intro ⟨q, g1, g2, g3⟩; exact ⟨q, g1, g2, (tl l q (kr q b g2)).mp g3⟩
    · intro ⟨q, g1, g2, g3⟩; exact ⟨q, g1, g2, (tl l q (kr q b g2)).mpr g3⟩
/-- what both objects hold: L the longest length, h the height, pl the places, lo the runs' starts, Lg the languages on the stack, SL the stored ones -/
def rx_R (L h pl : Nat) (lo : Nat → Nat) (Lg SL : Nat → List Bool → Prop) (u : SX) (v : SY) : Prop := match u, v with
  | (f_longest, f_height, f_places, f_table, f_fresh, f_nodes, a_low, a_first, a_last, a_empty, a_kind, a_follow, a_turned, a_slotFirst, a_slotLast, a_slotEmpty, a_slotZeros, a_slotOnes, a_slotFollow, a_layer, a_set0, a_set1, a_set2, a_kid0, a_kid1, a_hit, a_ways, a_group), (g_depth, g_table, g_n, b_stack, b_lc, b_slots, b_fresh) =>
    (L ≤ 7 ∧ h ≤ 8 ∧ pl ≤ 12) ∧ (f_longest = nI L ∧ f_height = nI h ∧ f_places = nI pl) ∧ (g_depth = nI h ∧ g_table = f_table ∧ g_n = nI L) ∧
    rx_St h pl lo Lg a_low a_first a_last a_empty a_kind a_follow b_stack b_lc ∧ rx_SS a_slotFirst a_slotLast a_slotEmpty a_slotZeros a_slotOnes a_slotFollow SL ∧ (∀ s l, s < 3 → l.length ≤ 7 → b_slots (s * 255 + rx_n l) = rx_b (SL s l)) ∧
    rx_Fr L (rx_ch f_table SL) f_fresh a_layer a_kid0 a_kid1 a_hit
def i_Rel (_ : Nat) (u : SX) (v : SY) : Prop := ∃ (L h pl : Nat) (lo : Nat → Nat) (Lg SL : Nat → List Bool → Prop), rx_R L h pl lo Lg SL u v
theorem zz_in {k L h pl : Nat} {lo : Nat → Nat} {Lg SL : Nat → List Bool → Prop} {f_table f_fresh f_nodes : Int32} {a_low a_first a_last a_empty a_kind a_follow a_turned a_slotFirst a_slotLast a_slotEmpty a_slotZeros a_slotOnes a_slotFollow a_layer a_set0 a_set1 a_set2 a_kid0 a_kid1 a_hit a_ways a_group : Nat → Int32} {b_stack b_lc b_slots b_fresh : Nat → Int32} (hL : L ≤ 7) (hh : h ≤ 8) (hp : pl ≤ 12)
    (St : rx_St h pl lo Lg a_low a_first a_last a_empty a_kind a_follow b_stack b_lc) (SS : rx_SS a_slotFirst a_slotLast a_slotEmpty a_slotZeros a_slotOnes a_slotFollow SL) (Sl : ∀ s l, s < 3 → l.length ≤ 7 → b_slots (s * 255 + rx_n l) = rx_b (SL s l))
    (Fr : rx_Fr L (rx_ch f_table SL) f_fresh a_layer a_kid0 a_kid1 a_hit) : i_Rel k (nI L, nI h, nI pl, f_table, f_fresh, f_nodes, a_low, a_first, a_last, a_empty, a_kind, a_follow, a_turned, a_slotFirst, a_slotLast, a_slotEmpty, a_slotZeros, a_slotOnes, a_slotFollow, a_layer, a_set0, a_set1, a_set2, a_kid0, a_kid1, a_hit, a_ways, a_group) (nI h, f_table, nI L, b_stack, b_lc, b_slots, b_fresh) :=
  ⟨L, h, pl, lo, Lg, SL, ⟨hL, hh, hp⟩, ⟨rfl, rfl, rfl⟩, ⟨rfl, rfl, rfl⟩, St, SS, Sl, Fr⟩
theorem zz_el {k : Nat} {u : SX} {v : SY} {P : SX → SY → Prop} (I : i_Rel k u v)
    (H : ∀ (L h pl : Nat) (lo : Nat → Nat) (Lg SL : Nat → List Bool → Prop) (f_table f_fresh f_nodes : Int32) (a_low a_first a_last a_empty a_kind a_follow a_turned a_slotFirst a_slotLast a_slotEmpty a_slotZeros a_slotOnes a_slotFollow a_layer a_set0 a_set1 a_set2 a_kid0 a_kid1 a_hit a_ways a_group b_stack b_lc b_slots b_fresh : Nat → Int32),
      L ≤ 7 → h ≤ 8 → pl ≤ 12 → rx_St h pl lo Lg a_low a_first a_last a_empty a_kind a_follow b_stack b_lc → rx_SS a_slotFirst a_slotLast a_slotEmpty a_slotZeros a_slotOnes a_slotFollow SL → (∀ s l, s < 3 → l.length ≤ 7 → b_slots (s * 255 + rx_n l) = rx_b (SL s l)) →
      rx_Fr L (rx_ch f_table SL) f_fresh a_layer a_kid0 a_kid1 a_hit → P (nI L, nI h, nI pl, f_table, f_fresh, f_nodes, a_low, a_first, a_last, a_empty, a_kind, a_follow, a_turned, a_slotFirst, a_slotLast, a_slotEmpty, a_slotZeros, a_slotOnes, a_slotFollow, a_layer, a_set0, a_set1, a_set2, a_kid0, a_kid1, a_hit, a_ways, a_group) (nI h, f_table, nI L, b_stack, b_lc, b_slots, b_fresh)) : P u v := by
  obtain ⟨f_longest, f_height, f_places, f_table, f_fresh, f_nodes, a_low, a_first, a_last, a_empty, a_kind, a_follow, a_turned, a_slotFirst, a_slotLast, a_slotEmpty, a_slotZeros, a_slotOnes, a_slotFollow, a_layer, a_set0, a_set1, a_set2, a_kid0, a_kid1, a_hit, a_ways, a_group⟩ := u
  obtain ⟨g_depth, g_table, g_n, b_stack, b_lc, b_slots, b_fresh⟩ := v
  obtain ⟨L, h, pl, lo, Lg, SL, ⟨hL, hh, hp⟩, ⟨e1, e2, e3⟩, ⟨e4, e5, e6⟩, St, SS, Sl, Fr⟩ := I
  subst e1 e2 e3 e4 e5 e6
  exact H L h pl lo Lg SL _ _ _ _ _ _ _ _ _ _ _ _ _ _ _ _ _ _ _ _ _ _ _ _ _ _ _ _ _ hL hh hp St SS Sl Fr
theorem i_up {k : Nat} {u : SX} {v : SY} (h : i_Rel k u v) : i_Rel (k + 3) u v := h
end
section
/-! what is owed: the stack -/
theorem i_vc0 (k0 : Int32) : wpX_init (fun u => wpY_init (fun v => i_Rel 1 u v) k0) k0 := by
  have St : rx_St 0 0 (fun _ => 0) (fun _ _ => False) (fun _ => 0) (fun _ => 0) (fun _ => 0) (fun _ => 0) (fun _ => 0) (fun _ => 0) (fun _ => 0) (fun _ => 0) :=
    ⟨rfl, rfl, fun i hi => by omega, fun i hi => by omega, fun i hi => by omega, fun i l hi => by omega⟩
  have SS : rx_SS (fun _ => 0) (fun _ => 0) (fun _ => 0) (fun _ => 0) (fun _ => 0) (fun _ => 0) (fun _ _ => False) := fun s _ => sl_none _
  have key : ∀ L : Nat, L ≤ 7 → i_Rel 1 (nI L, 0, 0, 170, 0, 0, (fun _ => 0), (fun _ => 0), (fun _ => 0), (fun _ => 0), (fun _ => 0), (fun _ => 0), (fun _ => 0), (fun _ => 0), (fun _ => 0), (fun _ => 0), (fun _ => 0), (fun _ => 0), (fun _ => 0), (fun _ => 0), (fun _ => 0), (fun _ => 0), (fun _ => 0), (fun _ => 0), (fun _ => 0), (fun _ => 0), (fun _ => 0), (fun _ => 0)) (0, 170, nI L, (fun _ => 0), (fun _ => 0), (fun _ => 0), (fun _ => 0)) := by
    intro L hL
    exact zz_in (h := 0) (pl := 0) (lo := fun _ => 0) (Lg := fun _ _ => False) (SL := fun _ _ => False) hL (by omega) (by omega) St SS (fun s l _ _ => (rx_b_f (fun z => z)).symm) (Or.inl rfl)
  by_cases h1 : (1 : Int32) ≤ k0
  · obtain ⟨j, hj, rfl⟩ := nI_of (x := k0) (by
      intro h0
      rw [Int32.le_iff_toInt_le, show (1 : Int32).toInt = 1 from by decide] at h1
      rw [Int32.lt_iff_toInt_lt, show (0 : Int32).toInt = 0 from by decide] at h0
      omega)
    refine br_t h1 ?_
    refine pk_le j 7 (fun h => ?_) (fun h => ?_)
    · exact br_t h1 (br_t (nI_le (b := 7) h (by decide)) (key j h))
    · exact br_t h1 (br_f (nI_ge (a := 7) h hj) (key 7 (by omega)))
  · refine br_f h1 ?_
    exact br_t (by decide) (br_f h1 (key 1 (by omega)))
theorem i_vc_letter {k : Nat} {u : SX} {v : SY} (I : i_Rel k u v) (hk : k + 3 ≤ 1537) (v1 : Int32) : wpX_letter (fun r u' => wpY_letter (fun r' v' => r' = r ∧ i_Rel (k + 3) u' v') v v1) u v1 := by
  refine zz_el (P := fun u v => wpX_letter (fun r u' => wpY_letter (fun r' v' => r' = r ∧ i_Rel (k + 3) u' v') v v1) u v1) I ?_
  intro L h pl lo Lg SL f_table f_fresh f_nodes a_low a_first a_last a_empty a_kind a_follow a_turned a_slotFirst a_slotLast a_slotEmpty a_slotZeros a_slotOnes a_slotFollow a_layer a_set0 a_set1 a_set2 a_kid0 a_kid1 a_hit a_ways a_group b_stack b_lc b_slots b_fresh hL hh hpl St SS Sl Fr
  have rel := zz_in (k := k + 3) (f_nodes := f_nodes) (a_turned := a_turned) (a_set0 := a_set0) (a_set1 := a_set1) (a_set2 := a_set2) (a_ways := a_ways) (a_group := a_group) (b_fresh := b_fresh) hL hh hpl St SS Sl Fr
  by_cases h0 : v1 < 0
  · exact br_t h0 (br_t h0 ⟨rfl, rel⟩)
  · by_cases h2 : v1 ≤ 2
    · obtain ⟨c, hc, rfl⟩ := nI_of2 (M := 2) (n := 2) (by decide) h0 h2
      by_cases e8 : h = 8
      · subst e8
        exact br_f h0 (br_t h2 (br_t rfl (br_f h0 (br_t h2 (br_t rfl ⟨rfl, rel⟩)))))
      · have n8 : ¬ nI h = 8 := fun z => e8 ((nI_eq (b := 8) (by omega) (by decide)).mp z)
        by_cases e12 : pl = 12
        · subst e12
          refine br_f h0 (br_t h2 (br_f n8 (br_t rfl ?_)))
          refine br_f h0 (br_t h2 (br_f n8 ?_))
          refine yl_let (lo := lo) hh St.1 St.2.2.1 ?_
          rw [St.2.1]
          exact br_t rfl ⟨rfl, rel⟩
        · refine xc_letter hc (by omega) (by omega) ?_
          refine yc_letter (lo := lo) hc (by omega) St.1 St.2.2.1 (by rw [St.2.1]; omega) (fun st fr s1 s2 => ?_)
          refine ⟨rfl, ?_⟩
          have en : rx_En pl (pl + 1) ((1 : Int32) <<< (nI pl &&& 31)) ((1 : Int32) <<< (nI pl &&& 31)) 0 (upd a_follow pl 0) (upd a_kind pl (nI c)) (fun l => ∃ b, l = [b] ∧ rx_lt c b) := by
            refine en_lang (en_letter (by omega) pk_us) (fun l => ?_)
            have kk : ∀ b, rx_kd (upd a_kind pl (nI c)) pl b ↔ rx_lt c b := by
              intro b
              cases b
              · show upd a_kind pl (nI c) pl ≠ 1 ↔ c ≠ 1
                rw [pk_us]
                exact not_congr (nI_eq (b := 1) (by omega) (by decide))
              · show upd a_kind pl (nI c) pl ≠ 0 ↔ c ≠ 0
                rw [pk_us]
                exact not_congr (nI_eq (b := 0) (by omega) (by decide))
            exact ⟨fun ⟨b, e, q⟩ => ⟨b, e, (kk b).mpr q⟩, fun ⟨b, e, q⟩ => ⟨b, e, (kk b).mp q⟩⟩
          have e := St.2.1
          obtain ⟨lo', Lg', St'⟩ := st_gen (h0 := h) (pl' := pl + 1) (low' := upd a_low h (nI pl)) (first' := upd a_first h ((1 : Int32) <<< (nI pl &&& 31))) (last' := upd a_last h ((1 : Int32) <<< (nI pl &&& 31))) (empty' := upd a_empty h 0) (lc' := upd b_lc h (nI 1)) (kind' := upd a_kind pl (nI c)) (follow' := upd a_follow pl 0) (stack' := st) St (Nat.le_refl _) (by omega)
            (fun i hi => ⟨pk_un (by omega), pk_un (by omega), pk_un (by omega), pk_un (by omega), pk_un (by omega)⟩) (by rw [pk_us, e]) (by rw [pk_us, e, show pl + 1 - pl = 1 by omega]) (by rw [pk_us, pk_us, pk_us, e]; exact en)
            (fun p q hp => by rw [pk_un (by omega)]) (fun p hp => pk_un (by omega)) s1 s2
          exact zz_in hL (by omega) (by omega) St' SS Sl Fr
    · exact br_f h0 (br_f h2 (br_f h0 (br_f h2 ⟨rfl, rel⟩)))
theorem i_vc_unit {k : Nat} {u : SX} {v : SY} (I : i_Rel k u v) (hk : k + 3 ≤ 1537) : wpX_unit (fun r u' => wpY_unit (fun r' v' => r' = r ∧ i_Rel (k + 3) u' v') v) u := by
  refine zz_el (P := fun u v => wpX_unit (fun r u' => wpY_unit (fun r' v' => r' = r ∧ i_Rel (k + 3) u' v') v) u) I ?_
  intro L h pl lo Lg SL f_table f_fresh f_nodes a_low a_first a_last a_empty a_kind a_follow a_turned a_slotFirst a_slotLast a_slotEmpty a_slotZeros a_slotOnes a_slotFollow a_layer a_set0 a_set1 a_set2 a_kid0 a_kid1 a_hit a_ways a_group b_stack b_lc b_slots b_fresh hL hh hpl St SS Sl Fr
  by_cases e8 : h = 8
  · subst e8
    exact br_t rfl (br_t rfl ⟨rfl, zz_in hL hh hpl St SS Sl Fr⟩)
  · refine xc_unit (by omega) ?_
    refine yc_unit (by omega) (fun st fr s1 s2 => ⟨rfl, ?_⟩)
    have e := St.2.1
    obtain ⟨lo', Lg', St'⟩ := st_gen (h0 := h) (pl' := pl) (low' := upd a_low h (nI pl)) (first' := upd a_first h 0) (last' := upd a_last h 0) (empty' := upd a_empty h 1) (lc' := upd b_lc h (nI 0)) (kind' := a_kind) (follow' := a_follow) (stack' := st) St (Nat.le_refl _) (by omega)
      (fun i hi => ⟨pk_un (by omega), pk_un (by omega), pk_un (by omega), pk_un (by omega), pk_un (by omega)⟩) (by rw [pk_us, e]) (by rw [pk_us, e, Nat.sub_self]) (by rw [pk_us, pk_us, pk_us, e]; exact en_unit pl)
      (fun p q hp => Iff.rfl) (fun p hp => rfl) s1 s2
    exact zz_in hL (by omega) hpl St' SS Sl Fr
theorem i_vc_none {k : Nat} {u : SX} {v : SY} (I : i_Rel k u v) (hk : k + 3 ≤ 1537) : wpX_none (fun r u' => wpY_none (fun r' v' => r' = r ∧ i_Rel (k + 3) u' v') v) u := by
  refine zz_el (P := fun u v => wpX_none (fun r u' => wpY_none (fun r' v' => r' = r ∧ i_Rel (k + 3) u' v') v) u) I ?_
  intro L h pl lo Lg SL f_table f_fresh f_nodes a_low a_first a_last a_empty a_kind a_follow a_turned a_slotFirst a_slotLast a_slotEmpty a_slotZeros a_slotOnes a_slotFollow a_layer a_set0 a_set1 a_set2 a_kid0 a_kid1 a_hit a_ways a_group b_stack b_lc b_slots b_fresh hL hh hpl St SS Sl Fr
  by_cases e8 : h = 8
  · subst e8
    exact br_t rfl (br_t rfl ⟨rfl, zz_in hL hh hpl St SS Sl Fr⟩)
  · refine xc_none (by omega) ?_
    refine yc_none (by omega) (fun st fr s1 s2 => ⟨rfl, ?_⟩)
    have e := St.2.1
    obtain ⟨lo', Lg', St'⟩ := st_gen (A := fun _ => False) (h0 := h) (pl' := pl) (low' := upd a_low h (nI pl)) (first' := upd a_first h 0) (last' := upd a_last h 0) (empty' := upd a_empty h 0) (lc' := upd b_lc h (nI 0)) (kind' := a_kind) (follow' := a_follow) (stack' := st) St (Nat.le_refl _) (by omega)
      (fun i hi => ⟨pk_un (by omega), pk_un (by omega), pk_un (by omega), pk_un (by omega), pk_un (by omega)⟩) (by rw [pk_us, e]) (by rw [pk_us, e, Nat.sub_self]) (by rw [pk_us, pk_us, pk_us, e]; exact en_none pl)
      (fun p q hp => Iff.rfl) (fun p hp => rfl) s1 s2
    exact zz_in hL (by omega) hpl St' SS Sl Fr
/-! two entries -/
theorem st_two {h pl : Nat} {lo : Nat → Nat} {Lg : Nat → List Bool → Prop} {low first last empty kind follow stack lc : Nat → Int32} (S : rx_St h pl lo Lg low first last empty kind follow stack lc) (h2 : 2 ≤ h) :
    lo (h - 2) ≤ lo (h - 1) ∧ lo (h - 1) ≤ pl ∧ lc (h - 2) + lc (h - 1) = nI (pl - lo (h - 2)) ∧ low (h - 2) = nI (lo (h - 2)) ∧ rx_En (lo (h - 2)) (lo (h - 1)) (first (h - 2)) (last (h - 2)) (empty (h - 2)) follow kind (Lg (h - 2)) ∧ rx_En (lo (h - 1)) pl (first (h - 1)) (last (h - 1)) (empty (h - 1)) follow kind (Lg (h - 1)) := by
  obtain ⟨a0, a1, a2, a3, a4, a5⟩ := S
  have b1 := a2 (h - 2) (by omega)
  have b2 := a2 (h - 1) (by omega)
  have c1 := a4 (h - 2) (by omega)
  have c2 := a4 (h - 1) (by omega)
  rw [show h - 2 + 1 = h - 1 by omega] at b1 c1
  rw [show h - 1 + 1 = h by omega, a1] at b2 c2
  refine ⟨b1.1, b2.1, ?_, a3 _ (by omega), c1, c2⟩
  rw [b1.2, b2.2, nI_add]
  exact congrArg nI (by omega)
theorem st_one {h pl : Nat} {lo : Nat → Nat} {Lg : Nat → List Bool → Prop} {low first last empty kind follow stack lc : Nat → Int32} (S : rx_St h pl lo Lg low first last empty kind follow stack lc) (h1 : 1 ≤ h) :
    lo (h - 1) ≤ pl ∧ lc (h - 1) = nI (pl - lo (h - 1)) ∧ low (h - 1) = nI (lo (h - 1)) ∧ rx_En (lo (h - 1)) pl (first (h - 1)) (last (h - 1)) (empty (h - 1)) follow kind (Lg (h - 1)) := by
  obtain ⟨a0, a1, a2, a3, a4, a5⟩ := S
  have b2 := a2 (h - 1) (by omega)
  have c2 := a4 (h - 1) (by omega)
  rw [show h - 1 + 1 = h by omega, a1] at b2 c2
  exact ⟨b2.1, b2.2, a3 _ (by omega), c2⟩
theorem i_vc_cat {k : Nat} {u : SX} {v : SY} (I : i_Rel k u v) (hk : k + 3 ≤ 1537) : wpX_cat (fun r u' => wpY_cat (fun r' v' => r' = r ∧ i_Rel (k + 3) u' v') v) u := by
  refine zz_el (P := fun u v => wpX_cat (fun r u' => wpY_cat (fun r' v' => r' = r ∧ i_Rel (k + 3) u' v') v) u) I ?_
  intro L h pl lo Lg SL f_table f_fresh f_nodes a_low a_first a_last a_empty a_kind a_follow a_turned a_slotFirst a_slotLast a_slotEmpty a_slotZeros a_slotOnes a_slotFollow a_layer a_set0 a_set1 a_set2 a_kid0 a_kid1 a_hit a_ways a_group b_stack b_lc b_slots b_fresh hL hh hpl St SS Sl Fr
  by_cases h2 : 2 ≤ h
  · obtain ⟨t1, t2, t3, t4, t5, t6⟩ := st_two St h2
    refine xc_cat h2 hh t5.2.2.2.1 t6.2.2.2.1 (fun fol fi la e q1 q2 q3 q4 q5 => ?_)
    refine yc_cat (A := Lg (h - 2)) (B := Lg (h - 1)) h2 hh (fun l hl => St.2.2.2.2.2 _ l (by omega) hl) (fun l hl => St.2.2.2.2.2 _ l (by omega) hl) (fun st fr s1 s2 => ⟨rfl, ?_⟩)
    have en := en_cat t5 t6 t1 t2 (fun p q _ hp => q1 p q (by omega)) q2 q3 q4 q5
    obtain ⟨lo', Lg', St'⟩ := st_gen (h0 := h - 2) (pl' := pl) (low' := a_low) (first' := upd a_first (h - 2) fi) (last' := upd a_last (h - 2) la) (empty' := upd a_empty (h - 2) e) (lc' := upd b_lc (h - 2) (b_lc (h - 2) + b_lc (h - 1))) (kind' := a_kind) (follow' := fol) (stack' := st) St (by omega) (by omega)
      (fun i hi => ⟨rfl, pk_un (by omega), pk_un (by omega), pk_un (by omega), pk_un (by omega)⟩) t4 (by rw [pk_us]; exact t3) (by rw [pk_us, pk_us, pk_us]; exact en)
      (fun p q hp => by
        rw [q1 p q (by omega)]
        exact ⟨fun z => z.elim id (fun z => by have := t5.2.1 p z.1; omega), Or.inl⟩) (fun p hp => rfl) s1 s2
    rw [show h - 2 + 1 = h - 1 by omega] at St'
    exact zz_in hL (by omega) hpl St' SS Sl Fr
  · have n2 : ¬ (2 : Int32) ≤ nI h := nI_ge (b := 2) (by omega) (by decide)
    exact br_f n2 (br_f n2 ⟨rfl, zz_in hL hh hpl St SS Sl Fr⟩)
theorem i_vc_alt {k : Nat} {u : SX} {v : SY} (I : i_Rel k u v) (hk : k + 3 ≤ 1537) : wpX_alt (fun r u' => wpY_alt (fun r' v' => r' = r ∧ i_Rel (k + 3) u' v') v) u := by
  refine zz_el (P := fun u v => wpX_alt (fun r u' => wpY_alt (fun r' v' => r' = r ∧ i_Rel (k + 3) u' v') v) u) I ?_
  intro L h pl lo Lg SL f_table f_fresh f_nodes a_low a_first a_last a_empty a_kind a_follow a_turned a_slotFirst a_slotLast a_slotEmpty a_slotZeros a_slotOnes a_slotFollow a_layer a_set0 a_set1 a_set2 a_kid0 a_kid1 a_hit a_ways a_group b_stack b_lc b_slots b_fresh hL hh hpl St SS Sl Fr
  by_cases h2 : 2 ≤ h
  · obtain ⟨t1, t2, t3, t4, t5, t6⟩ := st_two St h2
    refine xc_alt h2 hh t5.2.2.2.1 t6.2.2.2.1 (fun e q4 q5 => ?_)
    refine yc_alt (A := Lg (h - 2)) (B := Lg (h - 1)) h2 hh (fun l hl => St.2.2.2.2.2 _ l (by omega) hl) (fun l hl => St.2.2.2.2.2 _ l (by omega) hl) (fun st fr s1 s2 => ⟨rfl, ?_⟩)
    have en := en_alt t5 t6 t1 t2 (fun q => rx_on_or _ _ q) (fun q => rx_on_or _ _ q) q4 q5
    obtain ⟨lo', Lg', St'⟩ := st_gen (h0 := h - 2) (pl' := pl) (low' := a_low) (first' := upd a_first (h - 2) (a_first (h - 2) ||| a_first (h - 1))) (last' := upd a_last (h - 2) (a_last (h - 2) ||| a_last (h - 1))) (empty' := upd a_empty (h - 2) e) (lc' := upd b_lc (h - 2) (b_lc (h - 2) + b_lc (h - 1))) (kind' := a_kind) (follow' := a_follow) (stack' := st) St (by omega) (by omega)
      (fun i hi => ⟨rfl, pk_un (by omega), pk_un (by omega), pk_un (by omega), pk_un (by omega)⟩) t4 (by rw [pk_us]; exact t3) (by rw [pk_us, pk_us, pk_us]; exact en)
      (fun p q hp => Iff.rfl) (fun p hp => rfl) s1 s2
    rw [show h - 2 + 1 = h - 1 by omega] at St'
    exact zz_in hL (by omega) hpl St' SS Sl Fr
  · have n2 : ¬ (2 : Int32) ≤ nI h := nI_ge (b := 2) (by omega) (by decide)
    exact br_f n2 (br_f n2 ⟨rfl, zz_in hL hh hpl St SS Sl Fr⟩)
/-! one entry -/
theorem i_vc_star {k : Nat} {u : SX} {v : SY} (I : i_Rel k u v) (hk : k + 3 ≤ 1537) : wpX_star (fun r u' => wpY_star (fun r' v' => r' = r ∧ i_Rel (k + 3) u' v') v) u := by
  refine zz_el (P := fun u v => wpX_star (fun r u' => wpY_star (fun r' v' => r' = r ∧ i_Rel (k + 3) u' v') v) u) I ?_
  intro L h pl lo Lg SL f_table f_fresh f_nodes a_low a_first a_last a_empty a_kind a_follow a_turned a_slotFirst a_slotLast a_slotEmpty a_slotZeros a_slotOnes a_slotFollow a_layer a_set0 a_set1 a_set2 a_kid0 a_kid1 a_hit a_ways a_group b_stack b_lc b_slots b_fresh hL hh hpl St SS Sl Fr
  by_cases h1 : 1 ≤ h
  · obtain ⟨t1, t2, t3, t4⟩ := st_one St h1
    refine xc_star h1 hh (fun fol q1 => ?_)
    obtain ⟨B, en, b0, bs⟩ := en_plus (E' := 1) (fol' := fol) t4 (Or.inr rfl) (fun p q _ hp => q1 p q (by omega))
    refine yc_star (A := Lg (h - 1)) (B := B) h1 hh (fun l hl => St.2.2.2.2.2 _ l (by omega) hl) bs (b0.mpr rfl) (fun st fr s1 s2 => ⟨rfl, ?_⟩)
    obtain ⟨lo', Lg', St'⟩ := st_gen (h0 := h - 1) (pl' := pl) (low' := a_low) (first' := a_first) (last' := a_last) (empty' := upd a_empty (h - 1) 1) (lc' := b_lc) (kind' := a_kind) (follow' := fol) (stack' := st) St (by omega) (by omega)
      (fun i hi => ⟨rfl, rfl, rfl, pk_un (by omega), rfl⟩) t3 t2 (by rw [pk_us]; exact en)
      (fun p q hp => by
        rw [q1 p q (by omega)]
        exact ⟨fun z => z.elim id (fun z => by have := t4.2.1 p z.1; omega), Or.inl⟩) (fun p hp => rfl) s1 s2
    rw [show h - 1 + 1 = h by omega] at St'
    exact zz_in hL hh hpl St' SS Sl Fr
  · have e0 : h = 0 := by omega
    subst e0
    exact br_f (by decide) (br_t rfl ⟨rfl, zz_in hL hh hpl St SS Sl Fr⟩)
theorem i_vc_plus {k : Nat} {u : SX} {v : SY} (I : i_Rel k u v) (hk : k + 3 ≤ 1537) : wpX_plus (fun r u' => wpY_plus (fun r' v' => r' = r ∧ i_Rel (k + 3) u' v') v) u := by
  refine zz_el (P := fun u v => wpX_plus (fun r u' => wpY_plus (fun r' v' => r' = r ∧ i_Rel (k + 3) u' v') v) u) I ?_
  intro L h pl lo Lg SL f_table f_fresh f_nodes a_low a_first a_last a_empty a_kind a_follow a_turned a_slotFirst a_slotLast a_slotEmpty a_slotZeros a_slotOnes a_slotFollow a_layer a_set0 a_set1 a_set2 a_kid0 a_kid1 a_hit a_ways a_group b_stack b_lc b_slots b_fresh hL hh hpl St SS Sl Fr
  by_cases h1 : 1 ≤ h
  · obtain ⟨t1, t2, t3, t4⟩ := st_one St h1
    refine xc_plus h1 hh (fun fol q1 => ?_)
    obtain ⟨B, en, b0, bs⟩ := en_plus (E' := a_empty (h - 1)) (fol' := fol) t4 t4.2.2.2.1 (fun p q _ hp => q1 p q (by omega))
    refine yc_plus (A := Lg (h - 1)) (B := B) h1 hh (fun l hl => St.2.2.2.2.2 _ l (by omega) hl) bs (b0.trans (t4.2.2.2.2 []).symm) (fun st fr s1 s2 => ⟨rfl, ?_⟩)
    obtain ⟨lo', Lg', St'⟩ := st_gen (h0 := h - 1) (pl' := pl) (low' := a_low) (first' := a_first) (last' := a_last) (empty' := a_empty) (lc' := b_lc) (kind' := a_kind) (follow' := fol) (stack' := st) St (by omega) (by omega)
      (fun i hi => ⟨rfl, rfl, rfl, rfl, rfl⟩) t3 t2 en
      (fun p q hp => by
        rw [q1 p q (by omega)]
        exact ⟨fun z => z.elim id (fun z => by have := t4.2.1 p z.1; omega), Or.inl⟩) (fun p hp => rfl) s1 s2
    rw [show h - 1 + 1 = h by omega] at St'
    exact zz_in hL hh hpl St' SS Sl Fr
  · have e0 : h = 0 := by omega
    subst e0
    exact br_f (by decide) (br_t rfl ⟨rfl, zz_in hL hh hpl St SS Sl Fr⟩)
theorem i_vc_opt {k : Nat} {u : SX} {v : SY} (I : i_Rel k u v) (hk : k + 3 ≤ 1537) : wpX_opt (fun r u' => wpY_opt (fun r' v' => r' = r ∧ i_Rel (k + 3) u' v') v) u := by
  refine zz_el (P := fun u v => wpX_opt (fun r u' => wpY_opt (fun r' v' => r' = r ∧ i_Rel (k + 3) u' v') v) u) I ?_
  intro L h pl lo Lg SL f_table f_fresh f_nodes a_low a_first a_last a_empty a_kind a_follow a_turned a_slotFirst a_slotLast a_slotEmpty a_slotZeros a_slotOnes a_slotFollow a_layer a_set0 a_set1 a_set2 a_kid0 a_kid1 a_hit a_ways a_group b_stack b_lc b_slots b_fresh hL hh hpl St SS Sl Fr
  by_cases h1 : 1 ≤ h
  · obtain ⟨t1, t2, t3, t4⟩ := st_one St h1
    refine xc_opt h1 hh ?_
    refine yc_opt (A := Lg (h - 1)) h1 hh (fun l hl => St.2.2.2.2.2 _ l (by omega) hl) (fun st s1 s2 => ⟨rfl, ?_⟩)
    obtain ⟨lo', Lg', St'⟩ := st_gen (h0 := h - 1) (pl' := pl) (low' := a_low) (first' := a_first) (last' := a_last) (empty' := upd a_empty (h - 1) 1) (lc' := b_lc) (kind' := a_kind) (follow' := a_follow) (stack' := st) St (by omega) (by omega)
      (fun i hi => ⟨rfl, rfl, rfl, pk_un (by omega), rfl⟩) t3 t2 (by rw [pk_us]; exact en_opt t4)
      (fun p q hp => Iff.rfl) (fun p hp => rfl) s1 s2
    rw [show h - 1 + 1 = h by omega] at St'
    exact zz_in hL hh hpl St' SS Sl Fr
  · have e0 : h = 0 := by omega
    subst e0
    exact br_f (by decide) (br_t rfl ⟨rfl, zz_in hL hh hpl St SS Sl Fr⟩)
theorem i_vc_reverse {k : Nat} {u : SX} {v : SY} (I : i_Rel k u v) (hk : k + 3 ≤ 1537) : wpX_reverse (fun r u' => wpY_reverse (fun r' v' => r' = r ∧ i_Rel (k + 3) u' v') v) u := by
  refine zz_el (P := fun u v => wpX_reverse (fun r u' => wpY_reverse (fun r' v' => r' = r ∧ i_Rel (k + 3) u' v') v) u) I ?_
  intro L h pl lo Lg SL f_table f_fresh f_nodes a_low a_first a_last a_empty a_kind a_follow a_turned a_slotFirst a_slotLast a_slotEmpty a_slotZeros a_slotOnes a_slotFollow a_layer a_set0 a_set1 a_set2 a_kid0 a_kid1 a_hit a_ways a_group b_stack b_lc b_slots b_fresh hL hh hpl St SS Sl Fr
  by_cases h1 : 1 ≤ h
  · obtain ⟨t1, t2, t3, t4⟩ := st_one St h1
    refine xc_rev h1 hh hpl t1 t3 (fun fol tu q1 q2 => ?_)
    refine yc_rev (A := Lg (h - 1)) h1 hh (fun l hl => St.2.2.2.2.2 _ l (by omega) hl) (fun st fr s1 s2 => ⟨rfl, ?_⟩)
    obtain ⟨lo', Lg', St'⟩ := st_gen (h0 := h - 1) (pl' := pl) (low' := a_low) (first' := upd a_first (h - 1) (a_last (h - 1))) (last' := upd a_last (h - 1) (a_first (h - 1))) (empty' := a_empty) (lc' := b_lc) (kind' := a_kind) (follow' := fol) (stack' := st) St (by omega) (by omega)
      (fun i hi => ⟨rfl, pk_un (by omega), pk_un (by omega), rfl, rfl⟩) t3 t2 (by rw [pk_us, pk_us]; exact en_rev t4 q1)
      (fun p q hp => by rw [q2 p (Or.inl hp)]) (fun p hp => rfl) s1 s2
    rw [show h - 1 + 1 = h by omega] at St'
    exact zz_in hL hh hpl St' SS Sl Fr
  · have e0 : h = 0 := by omega
    subst e0
    exact br_f (by decide) (br_t rfl ⟨rfl, zz_in hL hh hpl St SS Sl Fr⟩)
end
section
/-! what is owed: store, fields, questions -/
theorem rx_ivt {ch : Nat → Prop} {a k : Nat} (ha : rx_P ch a ≤ k) : ∀ b, k < rx_P ch b → ∃ w, a ≤ w ∧ w < b ∧ ch w ∧ rx_P ch w = k := by
  intro b
  induction b with
  | zero => intro h; exact absurd h (Nat.not_lt_zero _)
  | succ b ih =>
    intro h
    by_cases z : k < rx_P ch b
    · obtain ⟨w, h1, h2, h3⟩ := ih z
      exact ⟨w, h1, by omega, h3⟩
    · rw [rx_P1] at h
      have hc : ch b := by
        rcases Classical.em (ch b) with c | c
        · exact c
        · rw [rx_t_f c] at h; omega
      rw [rx_t_t hc] at h
      refine ⟨b, ?_, by omega, hc, by omega⟩
      rcases Nat.lt_or_ge b a with y | y
      · have := rx_P_mono (ch := ch) a (b + 1) y
        rw [rx_P1, rx_t_t hc] at this
        omega
      · exact y
theorem rx_none {ch : Nat → Prop} {L k : Nat} (hL : L ≤ 7) (hk : k < 2 ^ 31) (h : rx_P ch (2 ^ (L + 1) - 1) ≤ k) : ∀ w, w < 2 ^ (L + 1) - 1 → ch w → nI k ≠ nI (rx_P ch w) := by
  intro w hw hc e
  have p := rx_2p hL
  have l := rx_P_le (ch := ch) w
  have := (nI_eq hk (by omega)).mp e
  have m := rx_P_mono (ch := ch) (2 ^ (L + 1) - 1) (w + 1) hw
  rw [rx_P1, rx_t_t hc] at m
  omega
theorem rx_neg {ch : Nat → Prop} {L : Nat} {v : Int32} (hL : L ≤ 7) (h : v < 0) : ∀ w, w < 2 ^ (L + 1) - 1 → ch w → v ≠ nI (rx_P ch w) := by
  intro w hw hc e
  have p := rx_2p hL
  have l := rx_P_le (ch := ch) w
  rw [e] at h
  exact nI_pos (by omega) h
theorem i_vc_store {k : Nat} {u : SX} {v : SY} (I : i_Rel k u v) (hk : k + 3 ≤ 1537) (v1 : Int32) : wpX_store (fun r u' => wpY_store (fun r' v' => r' = r ∧ i_Rel (k + 3) u' v') v v1) u v1 := by
  refine zz_el (P := fun u v => wpX_store (fun r u' => wpY_store (fun r' v' => r' = r ∧ i_Rel (k + 3) u' v') v v1) u v1) I ?_
  intro L h pl lo Lg SL f_table f_fresh f_nodes a_low a_first a_last a_empty a_kind a_follow a_turned a_slotFirst a_slotLast a_slotEmpty a_slotZeros a_slotOnes a_slotFollow a_layer a_set0 a_set1 a_set2 a_kid0 a_kid1 a_hit a_ways a_group b_stack b_lc b_slots b_fresh hL hh hpl St SS Sl Fr
  have rel := zz_in (k := k + 3) (f_nodes := f_nodes) (a_turned := a_turned) (a_set0 := a_set0) (a_set1 := a_set1) (a_set2 := a_set2) (a_ways := a_ways) (a_group := a_group) (b_fresh := b_fresh) hL hh hpl St SS Sl Fr
  by_cases h0 : v1 < 0
  · exact br_t h0 (br_t h0 ⟨rfl, rel⟩)
  · by_cases h2 : v1 ≤ 2
    · obtain ⟨s, hs, rfl⟩ := nI_of2 (M := 2) (n := 2) (by decide) h0 h2
      by_cases h1 : 1 ≤ h
      · obtain ⟨t1, t2, t3, t4⟩ := st_one St h1
        refine xc_store (by omega) h1 hh hpl t1 t3 t4.2.2.2.1 (fun Z O sfo z1 z2 z3 z4 => ?_)
        refine yc_sto (A := Lg (h - 1)) h1 hh (by omega) (fun l hl => St.2.2.2.2.2 _ l (by omega) hl) (fun sl s1 s2 => ⟨rfl, ?_⟩)
        refine zz_in (SL := fun i l => if i = s then Lg (h - 1) l else SL i l) hL (by omega) (by omega) (st_cut St (by omega)) (fun i hi => ?_) (fun i l hi hl => ?_) (Or.inl rfl)
        · by_cases z : i = s
          · subst z
            have g : (fun l => if i = i then Lg (h - 1) l else SL i l) = Lg (h - 1) := funext fun l => if_pos rfl
            show rx_Sl _ _ _ _ _ _ (fun l => if i = i then Lg (h - 1) l else SL i l)
            rw [g, pk_us, pk_us, pk_us, pk_us, pk_us]
            exact sl_store t4 hpl t1 z1 z2 z3
          · have g : (fun l => if i = s then Lg (h - 1) l else SL i l) = SL i := funext fun l => if_neg z
            show rx_Sl _ _ _ _ _ _ (fun l => if i = s then Lg (h - 1) l else SL i l)
            rw [g, pk_un z, pk_un z, pk_un z, pk_un z, pk_un z]
            exact sl_ext (SS i hi) (fun p hp => z4 _ (by omega))
        · have n := rx_n_255 hl
          by_cases z : i = s
          · subst z
            show sl _ = rx_b (if i = i then Lg (h - 1) l else SL i l)
            rw [if_pos rfl]
            exact s1 l hl
          · show sl _ = rx_b (if i = s then Lg (h - 1) l else SL i l)
            rw [if_neg z, s2 _ (by omega)]
            exact Sl i l hi hl
      · have e0 : h = 0 := by omega
        subst e0
        exact br_f h0 (br_t h2 (br_f (by decide) (br_f h0 (br_t h2 (br_t rfl ⟨rfl, rel⟩)))))
    · exact br_f h0 (br_f h2 (br_f h0 (br_f h2 ⟨rfl, rel⟩)))
theorem i_vc_discard {k : Nat} {u : SX} {v : SY} (I : i_Rel k u v) (hk : k + 3 ≤ 1537) : wpX_discard (fun u' => wpY_discard (fun v' => i_Rel (k + 3) u' v') v) u := by
  refine zz_el (P := fun u v => wpX_discard (fun u' => wpY_discard (fun v' => i_Rel (k + 3) u' v') v) u) I ?_
  intro L h pl lo Lg SL f_table f_fresh f_nodes a_low a_first a_last a_empty a_kind a_follow a_turned a_slotFirst a_slotLast a_slotEmpty a_slotZeros a_slotOnes a_slotFollow a_layer a_set0 a_set1 a_set2 a_kid0 a_kid1 a_hit a_ways a_group b_stack b_lc b_slots b_fresh hL hh hpl St SS Sl Fr
  have c := st_cut St (Nat.zero_le h)
  rw [St.1] at c
  exact zz_in (k := k + 3) (h := 0) (pl := 0) hL (by omega) (by omega) c SS Sl Fr
theorem i_vc_depth {k : Nat} {u : SX} {v : SY} (I : i_Rel k u v) (hk : k + 3 ≤ 1537) : wpX_depth (fun r => wpY_depth (fun r' => r' = r ∧ i_Rel (k + 3) u v) v) u := by
  refine zz_el (P := fun u v => wpX_depth (fun r => wpY_depth (fun r' => r' = r ∧ i_Rel (k + 3) u v) v) u) I ?_
  intro L h pl lo Lg SL f_table f_fresh f_nodes a_low a_first a_last a_empty a_kind a_follow a_turned a_slotFirst a_slotLast a_slotEmpty a_slotZeros a_slotOnes a_slotFollow a_layer a_set0 a_set1 a_set2 a_kid0 a_kid1 a_hit a_ways a_group b_stack b_lc b_slots b_fresh hL hh hpl St SS Sl Fr
  exact And.intro rfl (zz_in hL hh hpl St SS Sl Fr)
theorem i_vc_letters {k : Nat} {u : SX} {v : SY} (I : i_Rel k u v) (hk : k + 3 ≤ 1537) : wpX_letters (fun r => wpY_letters (fun r' => r' = r ∧ i_Rel (k + 3) u v) v) u := by
  refine zz_el (P := fun u v => wpX_letters (fun r => wpY_letters (fun r' => r' = r ∧ i_Rel (k + 3) u v) v) u) I ?_
  intro L h pl lo Lg SL f_table f_fresh f_nodes a_low a_first a_last a_empty a_kind a_follow a_turned a_slotFirst a_slotLast a_slotEmpty a_slotZeros a_slotOnes a_slotFollow a_layer a_set0 a_set1 a_set2 a_kid0 a_kid1 a_hit a_ways a_group b_stack b_lc b_slots b_fresh hL hh hpl St SS Sl Fr
  refine yl_let (lo := lo) hh St.1 St.2.2.1 ?_
  exact And.intro (by rw [St.2.1]) (zz_in hL hh hpl St SS Sl Fr)
theorem i_vc_choose {k : Nat} {u : SX} {v : SY} (I : i_Rel k u v) (hk : k + 3 ≤ 1537) (v1 : Int32) : wpX_choose (fun r u' => wpY_choose (fun r' v' => r' = r ∧ i_Rel (k + 3) u' v') v v1) u v1 := by
  refine zz_el (P := fun u v => wpX_choose (fun r u' => wpY_choose (fun r' v' => r' = r ∧ i_Rel (k + 3) u' v') v v1) u v1) I ?_
  intro L h pl lo Lg SL f_table f_fresh f_nodes a_low a_first a_last a_empty a_kind a_follow a_turned a_slotFirst a_slotLast a_slotEmpty a_slotZeros a_slotOnes a_slotFollow a_layer a_set0 a_set1 a_set2 a_kid0 a_kid1 a_hit a_ways a_group b_stack b_lc b_slots b_fresh hL hh hpl St SS Sl Fr
  by_cases h0 : v1 < 0
  · exact br_t h0 (br_t h0 ⟨rfl, zz_in hL hh hpl St SS Sl Fr⟩)
  · by_cases h2 : v1 ≤ 255
    · exact br_f h0 (br_t h2 (br_f h0 (br_t h2 ⟨rfl, zz_in hL hh hpl St SS Sl (Or.inl rfl)⟩)))
    · exact br_f h0 (br_f h2 (br_f h0 (br_f h2 ⟨rfl, zz_in hL hh hpl St SS Sl Fr⟩)))
theorem i_vc_count {k : Nat} {u : SX} {v : SY} (I : i_Rel k u v) (hk : k + 3 ≤ 1537) (v1 : Int32) : wpX_count (fun r u' => wpY_count (fun r' => r' = r ∧ i_Rel (k + 3) u' v) v v1) u v1 := by
  refine zz_el (P := fun u v => wpX_count (fun r u' => wpY_count (fun r' => r' = r ∧ i_Rel (k + 3) u' v) v v1) u v1) I ?_
  intro L h pl lo Lg SL f_table f_fresh f_nodes a_low a_first a_last a_empty a_kind a_follow a_turned a_slotFirst a_slotLast a_slotEmpty a_slotZeros a_slotOnes a_slotFollow a_layer a_set0 a_set1 a_set2 a_kid0 a_kid1 a_hit a_ways a_group b_stack b_lc b_slots b_fresh hL hh hpl St SS Sl Fr
  by_cases h0 : v1 < 0
  · exact br_t h0 (br_t h0 ⟨rfl, zz_in hL hh hpl St SS Sl Fr⟩)
  · by_cases h2 : v1 ≤ nI L
    · obtain ⟨c, hc, rfl⟩ := nI_of2 (M := nI L) (n := L) (nI_toInt (by omega)) h0 h2
      refine xq_count hL hc SS Fr (fun ff nn la s0 s1 s2 k0 k1 ht wy Fr' => ?_)
      exact yq_count hL hc Sl ⟨rfl, zz_in hL hh hpl St SS Sl Fr'⟩
    · exact br_f h0 (br_f h2 (br_f h0 (br_f h2 ⟨rfl, zz_in hL hh hpl St SS Sl Fr⟩)))
theorem i_vc_total {k : Nat} {u : SX} {v : SY} (I : i_Rel k u v) (hk : k + 3 ≤ 1537) : wpX_total (fun r u' => wpY_total (fun r' => r' = r ∧ i_Rel (k + 3) u' v) v) u := by
  refine zz_el (P := fun u v => wpX_total (fun r u' => wpY_total (fun r' => r' = r ∧ i_Rel (k + 3) u' v) v) u) I ?_
  intro L h pl lo Lg SL f_table f_fresh f_nodes a_low a_first a_last a_empty a_kind a_follow a_turned a_slotFirst a_slotLast a_slotEmpty a_slotZeros a_slotOnes a_slotFollow a_layer a_set0 a_set1 a_set2 a_kid0 a_kid1 a_hit a_ways a_group b_stack b_lc b_slots b_fresh hL hh hpl St SS Sl Fr
  refine xq_total hL SS Fr (fun ff nn la s0 s1 s2 k0 k1 ht wy Fr' => ?_)
  exact yq_total hL Sl ⟨rfl, zz_in hL hh hpl St SS Sl Fr'⟩
theorem i_vc_isChosen {k : Nat} {u : SX} {v : SY} (I : i_Rel k u v) (hk : k + 3 ≤ 1537) (v1 : Int32) (v2 : Int32) : wpX_isChosen (fun r u' => wpY_isChosen (fun r' => r' = r ∧ i_Rel (k + 3) u' v) v v1 v2) u v1 v2 := by
  refine zz_el (P := fun u v => wpX_isChosen (fun r u' => wpY_isChosen (fun r' => r' = r ∧ i_Rel (k + 3) u' v) v v1 v2) u v1 v2) I ?_
  intro L h pl lo Lg SL f_table f_fresh f_nodes a_low a_first a_last a_empty a_kind a_follow a_turned a_slotFirst a_slotLast a_slotEmpty a_slotZeros a_slotOnes a_slotFollow a_layer a_set0 a_set1 a_set2 a_kid0 a_kid1 a_hit a_ways a_group b_stack b_lc b_slots b_fresh hL hh hpl St SS Sl Fr
  by_cases ok : ∃ a b : Nat, v1 = nI a ∧ v2 = nI b ∧ a ≤ L ∧ b < 2 ^ a
  · obtain ⟨a, b, rfl, rfl, ha, hb⟩ := ok
    refine xq_isC hL ha hb SS Fr (fun ff nn la s0 s1 s2 k0 k1 ht Fr' => ?_)
    exact yq_isC hL ha hb Sl ⟨rfl, zz_in hL hh hpl St SS Sl Fr'⟩
  · unfold wpX_isChosen wpY_isChosen
    refine xq_vno hL ok ?_
    refine br_t rfl ?_
    refine yq_vno hL ok ?_
    exact br_t rfl ⟨rfl, zz_in hL hh hpl St SS Sl Fr⟩
theorem i_vc_rank {k : Nat} {u : SX} {v : SY} (I : i_Rel k u v) (hk : k + 3 ≤ 1537) (v1 : Int32) (v2 : Int32) : wpX_rank (fun r u' => wpY_rank (fun r' => r' = r ∧ i_Rel (k + 3) u' v) v v1 v2) u v1 v2 := by
  refine zz_el (P := fun u v => wpX_rank (fun r u' => wpY_rank (fun r' => r' = r ∧ i_Rel (k + 3) u' v) v v1 v2) u v1 v2) I ?_
  intro L h pl lo Lg SL f_table f_fresh f_nodes a_low a_first a_last a_empty a_kind a_follow a_turned a_slotFirst a_slotLast a_slotEmpty a_slotZeros a_slotOnes a_slotFollow a_layer a_set0 a_set1 a_set2 a_kid0 a_kid1 a_hit a_ways a_group b_stack b_lc b_slots b_fresh hL hh hpl St SS Sl Fr
  by_cases ok : ∃ a b : Nat, v1 = nI a ∧ v2 = nI b ∧ a ≤ L ∧ b < 2 ^ a
  · obtain ⟨a, b, rfl, rfl, ha, hb⟩ := ok
    refine xq_rank hL ha hb SS Fr (fun ff nn la s0 s1 s2 k0 k1 ht wy Fr' => ?_)
    exact yq_rank hL ha hb Sl ⟨rfl, zz_in hL hh hpl St SS Sl Fr'⟩
  · unfold wpX_rank wpY_rank
    refine xq_vno hL ok ?_
    refine br_t rfl ?_
    refine yq_vno hL ok ?_
    exact br_t rfl ⟨rfl, zz_in hL hh hpl St SS Sl Fr⟩
theorem i_vc_wordLen {k : Nat} {u : SX} {v : SY} (I : i_Rel k u v) (hk : k + 3 ≤ 1537) (v1 : Int32) : wpX_wordLen (fun r u' => wpY_wordLen (fun r' => r' = r ∧ i_Rel (k + 3) u' v) v v1) u v1 := by
  refine zz_el (P := fun u v => wpX_wordLen (fun r u' => wpY_wordLen (fun r' => r' = r ∧ i_Rel (k + 3) u' v) v v1) u v1) I ?_
  intro L h pl lo Lg SL f_table f_fresh f_nodes a_low a_first a_last a_empty a_kind a_follow a_turned a_slotFirst a_slotLast a_slotEmpty a_slotZeros a_slotOnes a_slotFollow a_layer a_set0 a_set1 a_set2 a_kid0 a_kid1 a_hit a_ways a_group b_stack b_lc b_slots b_fresh hL hh hpl St SS Sl Fr
  by_cases h0 : v1 < 0
  · refine br_f (Int32.not_le.mpr h0) ?_
    exact yq_wln hL (rx_neg hL h0) Sl ⟨rfl, zz_in hL hh hpl St SS Sl Fr⟩
  · obtain ⟨c, hc, rfl⟩ := nI_of h0
    refine xq_wl hc hL SS Fr (fun d ff nn la s0 s1 s2 k0 k1 ht wy hd a1 a2 Fr' => ?_) (fun a ff nn la s0 s1 s2 k0 k1 ht wy Fr' => ?_)
    · obtain ⟨w, b1, b2, b3, rfl⟩ := rx_ivt a1 _ a2
      have p := Nat.two_pow_pos d
      have lv : rx_lv d w := ⟨by omega, by omega⟩
      exact yq_wl hL hd lv b3 Sl ⟨rfl, zz_in hL hh hpl St SS Sl Fr'⟩
    · exact yq_wln hL (rx_none hL hc a) Sl ⟨rfl, zz_in hL hh hpl St SS Sl Fr'⟩
theorem i_vc_wordBits {k : Nat} {u : SX} {v : SY} (I : i_Rel k u v) (hk : k + 3 ≤ 1537) (v1 : Int32) : wpX_wordBits (fun r u' => wpY_wordBits (fun r' => r' = r ∧ i_Rel (k + 3) u' v) v v1) u v1 := by
  refine zz_el (P := fun u v => wpX_wordBits (fun r u' => wpY_wordBits (fun r' => r' = r ∧ i_Rel (k + 3) u' v) v v1) u v1) I ?_
  intro L h pl lo Lg SL f_table f_fresh f_nodes a_low a_first a_last a_empty a_kind a_follow a_turned a_slotFirst a_slotLast a_slotEmpty a_slotZeros a_slotOnes a_slotFollow a_layer a_set0 a_set1 a_set2 a_kid0 a_kid1 a_hit a_ways a_group b_stack b_lc b_slots b_fresh hL hh hpl St SS Sl Fr
  by_cases h0 : v1 < 0
  · unfold wpX_wordBits
    refine br_f (Int32.not_le.mpr h0) ?_
    refine br_f (by decide) ?_
    exact yq_wbn hL (rx_neg hL h0) Sl ⟨rfl, zz_in hL hh hpl St SS Sl Fr⟩
  · obtain ⟨c, hc, rfl⟩ := nI_of h0
    refine xq_wb hc hL SS Fr (fun d w ff nn la s0 s1 s2 k0 k1 ht wy hd lv b3 e Fr' => ?_) (fun a ff nn la s0 s1 s2 k0 k1 ht wy Fr' => ?_)
    · subst e
      exact yq_wb hL hd lv b3 Sl ⟨rfl, zz_in hL hh hpl St SS Sl Fr'⟩
    · exact yq_wbn hL (rx_none hL hc a) Sl ⟨rfl, zz_in hL hh hpl St SS Sl Fr'⟩
theorem i_vc_countFrom {k : Nat} {u : SX} {v : SY} (I : i_Rel k u v) (hk : k + 3 ≤ 1537) (v1 : Int32) (v2 : Int32) : wpX_countFrom (fun r u' => wpY_countFrom (fun r' => r' = r ∧ i_Rel (k + 3) u' v) v v1 v2) u v1 v2 := by
  refine zz_el (P := fun u v => wpX_countFrom (fun r u' => wpY_countFrom (fun r' => r' = r ∧ i_Rel (k + 3) u' v) v v1 v2) u v1 v2) I ?_
  intro L h pl lo Lg SL f_table f_fresh f_nodes a_low a_first a_last a_empty a_kind a_follow a_turned a_slotFirst a_slotLast a_slotEmpty a_slotZeros a_slotOnes a_slotFollow a_layer a_set0 a_set1 a_set2 a_kid0 a_kid1 a_hit a_ways a_group b_stack b_lc b_slots b_fresh hL hh hpl St SS Sl Fr
  by_cases ok : ∃ a b : Nat, v1 = nI a ∧ v2 = nI b ∧ a ≤ L ∧ b < 2 ^ a
  · obtain ⟨a, b, rfl, rfl, ha, hb⟩ := ok
    refine xq_cf hL ha hb SS Fr (fun ff nn la s0 s1 s2 k0 k1 ht wy Fr' => ?_)
    exact yq_cf hL ha hb Sl ⟨rfl, zz_in hL hh hpl St SS Sl Fr'⟩
  · unfold wpX_countFrom wpY_countFrom
    refine xq_vno hL ok ?_
    refine br_t rfl ?_
    refine yq_vno hL ok ?_
    exact br_t rfl ⟨rfl, zz_in hL hh hpl St SS Sl Fr⟩
theorem i_vc_groups {k : Nat} {u : SX} {v : SY} (I : i_Rel k u v) (hk : k + 3 ≤ 1537) (v1 : Int32) : wpX_groups (fun r u' => wpY_groups (fun r' => r' = r ∧ i_Rel (k + 3) u' v) v v1) u v1 := by
  refine zz_el (P := fun u v => wpX_groups (fun r u' => wpY_groups (fun r' => r' = r ∧ i_Rel (k + 3) u' v) v v1) u v1) I ?_
  intro L h pl lo Lg SL f_table f_fresh f_nodes a_low a_first a_last a_empty a_kind a_follow a_turned a_slotFirst a_slotLast a_slotEmpty a_slotZeros a_slotOnes a_slotFollow a_layer a_set0 a_set1 a_set2 a_kid0 a_kid1 a_hit a_ways a_group b_stack b_lc b_slots b_fresh hL hh hpl St SS Sl Fr
  by_cases h0 : v1 < 0
  · exact br_t h0 (br_t h0 ⟨rfl, zz_in hL hh hpl St SS Sl Fr⟩)
  · by_cases h2 : v1 ≤ nI L
    · obtain ⟨c, hc, rfl⟩ := nI_of2 (M := nI L) (n := L) (nI_toInt (by omega)) h0 h2
      refine xp_groups hL hc SS Fr (fun ff nn la s0 s1 s2 k0 k1 ht gr Fr' => ?_)
      exact yg_groups hL hc Sl ⟨rfl, zz_in hL hh hpl St SS Sl Fr'⟩
    · exact br_f h0 (br_f h2 (br_f h0 (br_f h2 ⟨rfl, zz_in hL hh hpl St SS Sl Fr⟩)))
end
