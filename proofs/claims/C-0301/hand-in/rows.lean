section
/-! pure rows to paste: stores, nI and lN arithmetic, masks, shifts, narrowing, branches by naturals (pk_le, pk_lt, pk_eq), loops (lp1 .. lp16: the measure of the state; rp1 ..: recursion), negatives. Take what you need -/
theorem pk_us {f : Nat → Int32} {k : Nat} {x : Int32} : upd f k x k = x := if_pos rfl
theorem pk_un {f : Nat → Int32} {k j : Nat} {x : Int32} (h : j ≠ k) : upd f k x j = f j := if_neg h
theorem pk_uLs {f : Nat → Int64} {k : Nat} {x : Int64} : vp_updL f k x k = x := if_pos rfl
theorem pk_uLn {f : Nat → Int64} {k j : Nat} {x : Int64} (h : j ≠ k) : vp_updL f k x j = f j := if_neg h
theorem pk_sub {a b : Nat} (h : b ≤ a) : nI a - nI b = nI (a - b) := by
  obtain ⟨c, rfl⟩ : ∃ c, a = c + b := ⟨a - b, by omega⟩
  rw [← nI_add, Int32.add_sub_cancel, Nat.add_sub_cancel]
theorem pk_m1 (n : Nat) : nI (n + 1) + (-1) = nI n := by
  rw [← nI_1, Int32.add_assoc, show (1 : Int32) + (-1) = 0 from rfl, Int32.add_zero]
theorem pk_mul (a b : Nat) : nI a * nI b = nI (a * b) := (Int32.ofNat_mul a b).symm
theorem pk_div {a d : Nat} (ha : a < 2 ^ 31) (h0 : 0 < d) (hd : d < 2 ^ 31) : nI a / nI d = nI (a / d) := by
  apply Int32.toInt_inj.mp
  rw [lg_idiv_nonneg (by rw [nI_toInt ha]; omega) (by rw [nI_toInt hd]; omega), nI_toInt ha, nI_toInt hd, nI_toInt (Nat.lt_of_le_of_lt (Nat.div_le_self a d) ha)]
  first | rfl | exact (Int.natCast_ediv _ _).symm
theorem pk_rem {a d : Nat} (ha : a < 2 ^ 31) (h0 : 0 < d) (hd : d < 2 ^ 31) : nI a - nI a / nI d * nI d = nI (a % d) := by
  rw [pk_div ha h0 hd, pk_mul, pk_sub (Nat.div_mul_le_self a d)]
  exact congrArg nI (by have := Nat.div_add_mod' a d; omega)
theorem pk_sub_toInt {a b : Nat} (ha : a < 2 ^ 30) (hb : b < 2 ^ 30) : (nI a - nI b).toInt = (a : Int) - b := by
  rw [Int32.toInt_sub, nI_toInt (by omega), nI_toInt (by omega)]
  exact Int.bmod_eq_of_le (by omega) (by omega)
theorem pk_sneg {a b : Nat} (hb : b < 2 ^ 30) (h : a < b) : nI a - nI b < 0 := by
  rw [Int32.lt_iff_toInt_lt, pk_sub_toInt (by omega) hb, show (0 : Int32).toInt = 0 from by decide]
  omega
theorem pk_ix (x : Int32) {n : Nat} (hn : n < 2 ^ 31) : x < 0 ∨ nI n ≤ x ∨ ∃ j : Nat, j < n ∧ x = nI j := by
  by_cases h : x < 0
  · exact Or.inl h
  · obtain ⟨j, hj, rfl⟩ := nI_of h
    by_cases h2 : j < n
    · exact Or.inr (Or.inr ⟨j, h2, rfl⟩)
    · exact Or.inr (Or.inl (nI_le (by omega) hj))
theorem pk_le {x y : Int32} {A B : Prop} (a b : Nat) (f : a ≤ b → A) (g : b < a → B) (hx : x = nI a := by rfl) (hy : y = nI b := by rfl) (ha : a < 2 ^ 31 := by omega) (hb : b < 2 ^ 31 := by omega) : (x ≤ y → A) ∧ (¬ x ≤ y → B) := by
  subst hx hy
  rw [nI_leI ha hb]
  exact ⟨f, fun z => g (by omega)⟩
theorem pk_lt {x y : Int32} {A B : Prop} (a b : Nat) (f : a < b → A) (g : b ≤ a → B) (hx : x = nI a := by rfl) (hy : y = nI b := by rfl) (ha : a < 2 ^ 31 := by omega) (hb : b < 2 ^ 31 := by omega) : (x < y → A) ∧ (¬ x < y → B) := by
  subst hx hy
  rw [nI_ltI ha hb]
  exact ⟨f, fun z => g (by omega)⟩
theorem pk_eq {x y : Int32} {A B : Prop} (a b : Nat) (f : a = b → A) (g : a ≠ b → B) (hx : x = nI a := by rfl) (hy : y = nI b := by rfl) (ha : a < 2 ^ 31 := by omega) (hb : b < 2 ^ 31 := by omega) : (x = y → A) ∧ (¬ x = y → B) := by
  subst hx hy
  rw [nI_eq ha hb]
  exact ⟨f, g⟩
theorem pk_in {x : Int32} (n N : Nat) (h : n < N) (hx : x = nI n := by rfl) (hN : N < 2 ^ 31 := by omega) : vp_in x N := by
  subst hx
  exact vp_in_nI h hN
theorem pk_cl {x : Int32} (n : Nat) (hx : x = nI n := by rfl) (h : n < 2 ^ 31 := by omega) : x.toNatClampNeg = n := by
  subst hx
  exact nI_clamp h
theorem pk_tn {n : Nat} (h : n < 2 ^ 32) : (nI n).toBitVec.toNat = n := Nat.mod_eq_of_lt h
theorem pk_and (x : Int32) {m : Int32} (k : Nat) (hm : m.toBitVec.toNat = 2 ^ k - 1) : x &&& m = nI (x.toBitVec.toNat % 2 ^ k) := by
  apply Int32.toBitVec_inj.mp
  apply BitVec.eq_of_toNat_eq
  rw [Int32.toBitVec_and, BitVec.toNat_and, hm, Nat.and_two_pow_sub_one_eq_mod]
  show _ = (BitVec.ofNat 32 _).toNat
  rw [BitVec.toNat_ofNat]
  exact (Nat.mod_eq_of_lt (Nat.lt_of_le_of_lt (Nat.mod_le _ _) x.toBitVec.isLt)).symm
theorem pk_andN {n : Nat} (h : n < 2 ^ 32) {m : Int32} (k : Nat) (hm : m.toBitVec.toNat = 2 ^ k - 1) : nI n &&& m = nI (n % 2 ^ k) := by
  rw [pk_and _ k hm, pk_tn h]
theorem pk_andE (x : Int32) {m : Int32} (k : Nat) (hm : m.toBitVec.toNat = 2 ^ k - 1) : ∃ j : Nat, j < 2 ^ k ∧ x &&& m = nI j := ⟨_, Nat.mod_lt _ (Nat.two_pow_pos k), pk_and x k hm⟩
theorem pk_andIn (x : Int32) {m : Int32} (k : Nat) (hm : m.toBitVec.toNat = 2 ^ k - 1) (hk : k ≤ 30) : vp_in (x &&& m) (2 ^ k) := by
  obtain ⟨j, hj, e⟩ := pk_andE x k hm
  rw [e]
  exact vp_in_nI hj (Nat.lt_of_le_of_lt (Nat.pow_le_pow_right (by decide) hk) (by decide))
theorem pk_shl (a s : Int32) (k : Nat) (hs : (s.toBitVec.smod 32).toNat = k) : (a <<< s).toBitVec.toNat = a.toBitVec.toNat * 2 ^ k % 2 ^ 32 := by
  show (a.toBitVec <<< (s.toBitVec.smod 32).toNat).toNat = _
  rw [hs, BitVec.toNat_shiftLeft, Nat.shiftLeft_eq]
theorem pk_shlN {n : Nat} (s : Int32) (k : Nat) (hs : (s.toBitVec.smod 32).toNat = k) (h : n * 2 ^ k < 2 ^ 32) : nI n <<< s = nI (n * 2 ^ k) := by
  apply Int32.toBitVec_inj.mp
  apply BitVec.eq_of_toNat_eq
  have hn : n < 2 ^ 32 := Nat.lt_of_le_of_lt (Nat.le_mul_of_pos_right n (Nat.two_pow_pos k)) h
  rw [pk_shl _ _ k hs, pk_tn hn, pk_tn h, Nat.mod_eq_of_lt h]
theorem pk_shr (a s : Int32) (k : Nat) (hs : (s.toBitVec.smod 32).toNat = k) : (a >>> s).toInt = a.toInt >>> k := by
  show (a.toBitVec.sshiftRight (s.toBitVec.smod 32).toNat).toInt = _
  rw [hs, BitVec.toInt_sshiftRight]
  rfl
theorem pk_shrN {n : Nat} (h : n < 2 ^ 31) (s : Int32) (k : Nat) (hs : (s.toBitVec.smod 32).toNat = k) : nI n >>> s = nI (n / 2 ^ k) := by
  apply Int32.toInt_inj.mp
  have h2 : n / 2 ^ k ≤ n := Nat.div_le_self _ _
  rw [pk_shr _ _ k hs, nI_toInt h, nI_toInt (by omega), Int.shiftRight_eq_div_pow]
  rfl
theorem pk_ushr (x s : Int32) (k : Nat) (hs : ((s.toUInt32 &&& Int32.toUInt32 31).toBitVec % 32).toNat = k) : (x.toUInt32 >>> (s.toUInt32 &&& Int32.toUInt32 31)).toInt32.toBitVec.toNat = x.toBitVec.toNat / 2 ^ k := by
  have e : (x.toUInt32 >>> (s.toUInt32 &&& Int32.toUInt32 31)).toInt32.toBitVec = x.toBitVec >>> k := by
    rw [← hs]
    exact UInt32.toBitVec_shiftRight _ _
  rw [e, BitVec.toNat_ushiftRight, Nat.shiftRight_eq_div_pow]
theorem pk_ushrN {n : Nat} (hn : n < 2 ^ 32) (s : Int32) (k : Nat) (hs : ((s.toUInt32 &&& Int32.toUInt32 31).toBitVec % 32).toNat = k) : ((nI n).toUInt32 >>> (s.toUInt32 &&& Int32.toUInt32 31)).toInt32 = nI (n / 2 ^ k) := by
  apply Int32.toBitVec_inj.mp
  apply BitVec.eq_of_toNat_eq
  rw [pk_ushr _ s k hs, pk_tn hn, pk_tn (Nat.lt_of_le_of_lt (Nat.div_le_self _ _) hn)]
theorem pk_nb (z : Int32) : narrow .byte (.int z.toInt8.toInt32) = .int z.toInt8.toInt32 := congrArg Value.int (by simp)
theorem pk_ns (z : Int32) : narrow .short (.int z.toInt16.toInt32) = .int z.toInt16.toInt32 := congrArg Value.int (by simp)
theorem pk_fb (r : Int32) : fits .byte (.int r.toInt8.toInt32) = true := by
  have ⟨a, b⟩ := lg_i2b_range r
  have h1 : (-128 : Int32).toInt = -128 := by decide
  have h2 : (127 : Int32).toInt = 127 := by decide
  simp only [fits, Bool.and_eq_true, decide_eq_true_eq, Int32.le_iff_toInt_le, h1, h2]
  omega
theorem pk_fs (r : Int32) : fits .short (.int r.toInt16.toInt32) = true := by
  have ⟨a, b⟩ := lg_i2s_range r
  have h1 : (-32768 : Int32).toInt = -32768 := by decide
  have h2 : (32767 : Int32).toInt = 32767 := by decide
  simp only [fits, Bool.and_eq_true, decide_eq_true_eq, Int32.le_iff_toInt_le, h1, h2]
  omega
theorem pk_charN {q : Nat} (hq : q < 65536) : narrow .char (.int (nI q)) = .int (nI q) ∧ fits .char (.int (nI q)) = true := by
  constructor
  · have e : (nI q).toUInt32.toUInt16.toUInt32.toInt32 = nI q := by
      apply Int32.toBitVec_inj.mp
      apply BitVec.eq_of_toNat_eq
      show (nI q).toUInt32.toUInt16.toUInt32.toNat = q % 2 ^ 32
      rw [UInt16.toNat_toUInt32, UInt32.toNat_toUInt16, show (nI q).toUInt32.toNat = q % 2 ^ 32 from rfl]
      omega
    exact congrArg Value.int e
  · have a : (0 : Int32) ≤ nI q := nI_pos' (by omega)
    have b : nI q ≤ 65535 := nI_le (b := 65535) (by omega) (by decide)
    show (decide ((0 : Int32) ≤ nI q) && decide (nI q ≤ 65535)) = true
    rw [decide_eq_true a, decide_eq_true b]
    rfl
theorem pk_char (x : Int32) : (x.toUInt32 % 65536).toInt32 = nI (x.toBitVec.toNat % 65536) := by
  apply Int32.toBitVec_inj.mp
  apply BitVec.eq_of_toNat_eq
  rw [pk_tn (by omega)]
  show (x.toUInt32 % 65536).toNat = _
  rw [UInt32.toNat_mod]
  rfl
theorem pk_nc (x : Int32) : narrow .char (.int (x.toUInt32 % 65536).toInt32) = .int (x.toUInt32 % 65536).toInt32 := by
  rw [pk_char]
  exact (pk_charN (Nat.mod_lt _ (by decide))).1
theorem pk_fc (x : Int32) : fits .char (.int (x.toUInt32 % 65536).toInt32) = true := by
  rw [pk_char]
  exact (pk_charN (Nat.mod_lt _ (by decide))).2
theorem pk_vb (z : Int32) : vp_nar .byte z.toInt8.toInt32 = z.toInt8.toInt32 := by rw [vp_nar_byte]; simp
theorem pk_vs (z : Int32) : vp_nar .short z.toInt16.toInt32 = z.toInt16.toInt32 := by rw [vp_nar_short]; simp
theorem pk_vc (z : Int32) : vp_nar .char (z.toUInt32 % 65536).toInt32 = (z.toUInt32 % 65536).toInt32 := Value.int.inj (pk_nc z)
theorem pk_lT {n : Nat} (h : n < 2 ^ 63) : (lN n).toInt = (n : Int) := lg_ofNat_toInt h
theorem pk_lLT {a b : Nat} (ha : a < 2 ^ 63) (hb : b < 2 ^ 63) : lN a < lN b ↔ a < b := by
  rw [Int64.lt_iff_toInt_lt, pk_lT ha, pk_lT hb]; omega
theorem pk_lLE {a b : Nat} (ha : a < 2 ^ 63) (hb : b < 2 ^ 63) : lN a ≤ lN b ↔ a ≤ b := by
  rw [Int64.le_iff_toInt_le, pk_lT ha, pk_lT hb]; omega
theorem pk_lEQ {a b : Nat} (ha : a < 2 ^ 63) (hb : b < 2 ^ 63) : lN a = lN b ↔ a = b := by
  rw [← Int64.toInt_inj, pk_lT ha, pk_lT hb]; omega
theorem pk_lOf {x : Int64} (h : ¬ x < 0) : ∃ k : Nat, k < 2 ^ 63 ∧ x = lN k := by
  rw [Int64.lt_iff_toInt_lt] at h
  have h0 : (0 : Int64).toInt = 0 := by decide
  have hx := Int64.toInt_lt x
  refine ⟨x.toInt.toNat, by omega, Int64.toInt_inj.mp ?_⟩
  rw [pk_lT (by omega)]
  omega
theorem pk_lDiv {a b : Nat} (ha : a < 2 ^ 63) (h0 : 0 < b) (hb : b < 2 ^ 63) : lN a / lN b = lN (a / b) := by
  apply Int64.toInt_inj.mp
  rw [lg_ldiv_nonneg (by rw [pk_lT ha]; omega) (by rw [pk_lT hb]; omega), pk_lT ha, pk_lT hb, pk_lT (Nat.lt_of_le_of_lt (Nat.div_le_self a b) ha)]
  rfl
theorem pk_lRem {a b : Nat} (ha : a < 2 ^ 63) (h0 : 0 < b) (hb : b < 2 ^ 63) : lN a - lN a / lN b * lN b = lN (a % b) := by
  rw [pk_lDiv ha h0 hb, lN_mul, lN_sub (Nat.div_mul_le_self a b)]
  exact congrArg lN (by have := Nat.div_add_mod' a b; omega)
theorem pk_loop {σ : Type} (W : Nat → Nat → σ → Prop) (I : Nat → σ → Prop) (e i0 : Nat) (s : σ) (hi : i0 ≤ e) (h0 : I i0 s) (hx : ∀ n s, I e s → W (n + 1) e s)
    (hs : ∀ n i s, i < e → I i s → (∀ s', I (i + 1) s' → W n (i + 1) s') → W (n + 1) i s) : ∃ n, W n i0 s :=
  ⟨e + 1, loop_i W I e hx hs (e + 1) i0 s hi (by omega) h0⟩
theorem pk_loopD {σ : Type} (W : Nat → Nat → σ → Prop) (I : Nat → σ → Prop) (hx : ∀ n s, I 0 s → W (n + 1) 0 s)
    (hs : ∀ n i s, I (i + 1) s → (∀ s', I i s' → W n i s') → W (n + 1) (i + 1) s) : ∀ (e : Nat) (s : σ), I e s → W (e + 1) e s := by
  intro e
  induction e with
  | zero => exact fun s h => hx 0 s h
  | succ e ih => exact fun s h => hs (e + 1) e s h (fun s' h' => ih s' h')
theorem lp1 {A1 : Type} (W : Nat → A1 → Prop) (I : A1 → Prop) (μ : A1 → Nat) (hs : ∀ (n : Nat) (a1 : A1), I a1 → (∀ (b1 : A1), I b1 → μ b1 < μ a1 → W n b1) → W (n + 1) a1) (a1 : A1) (h : I a1) : ∃ n, W n a1 :=
  loop_m (σ := A1) (fun n s => W n s) (fun s => I s) (fun s => μ s) (fun n s hI hk => hs n s hI (fun b1 h9 hm => hk b1 h9 hm)) a1 h
theorem lp2 {A1 A2 : Type} (W : Nat → A1 → A2 → Prop) (I : A1 → A2 → Prop) (μ : A1 → A2 → Nat) (hs : ∀ (n : Nat) (a1 : A1) (a2 : A2), I a1 a2 → (∀ (b1 : A1) (b2 : A2), I b1 b2 → μ b1 b2 < μ a1 a2 → W n b1 b2) → W (n + 1) a1 a2) (a1 : A1) (a2 : A2) (h : I a1 a2) : ∃ n, W n a1 a2 :=
  loop_m (σ := A1 × A2) (fun n s => W n s.1 s.2) (fun s => I s.1 s.2) (fun s => μ s.1 s.2) (fun n s hI hk => hs n s.1 s.2 hI (fun b1 b2 h9 hm => hk (b1, b2) h9 hm)) (a1, a2) h
theorem lp3 {A1 A2 A3 : Type} (W : Nat → A1 → A2 → A3 → Prop) (I : A1 → A2 → A3 → Prop) (μ : A1 → A2 → A3 → Nat) (hs : ∀ (n : Nat) (a1 : A1) (a2 : A2) (a3 : A3), I a1 a2 a3 → (∀ (b1 : A1) (b2 : A2) (b3 : A3), I b1 b2 b3 → μ b1 b2 b3 < μ a1 a2 a3 → W n b1 b2 b3) → W (n + 1) a1 a2 a3) (a1 : A1) (a2 : A2) (a3 : A3) (h : I a1 a2 a3) : ∃ n, W n a1 a2 a3 :=
  loop_m (σ := A1 × A2 × A3) (fun n s => W n s.1 s.2.1 s.2.2) (fun s => I s.1 s.2.1 s.2.2) (fun s => μ s.1 s.2.1 s.2.2) (fun n s hI hk => hs n s.1 s.2.1 s.2.2 hI (fun b1 b2 b3 h9 hm => hk (b1, b2, b3) h9 hm)) (a1, a2, a3) h
theorem lp4 {A1 A2 A3 A4 : Type} (W : Nat → A1 → A2 → A3 → A4 → Prop) (I : A1 → A2 → A3 → A4 → Prop) (μ : A1 → A2 → A3 → A4 → Nat) (hs : ∀ (n : Nat) (a1 : A1) (a2 : A2) (a3 : A3) (a4 : A4), I a1 a2 a3 a4 → (∀ (b1 : A1) (b2 : A2) (b3 : A3) (b4 : A4), I b1 b2 b3 b4 → μ b1 b2 b3 b4 < μ a1 a2 a3 a4 → W n b1 b2 b3 b4) → W (n + 1) a1 a2 a3 a4) (a1 : A1) (a2 : A2) (a3 : A3) (a4 : A4) (h : I a1 a2 a3 a4) : ∃ n, W n a1 a2 a3 a4 :=
  loop_m (σ := A1 × A2 × A3 × A4) (fun n s => W n s.1 s.2.1 s.2.2.1 s.2.2.2) (fun s => I s.1 s.2.1 s.2.2.1 s.2.2.2) (fun s => μ s.1 s.2.1 s.2.2.1 s.2.2.2) (fun n s hI hk => hs n s.1 s.2.1 s.2.2.1 s.2.2.2 hI (fun b1 b2 b3 b4 h9 hm => hk (b1, b2, b3, b4) h9 hm)) (a1, a2, a3, a4) h
theorem lp5 {A1 A2 A3 A4 A5 : Type} (W : Nat → A1 → A2 → A3 → A4 → A5 → Prop) (I : A1 → A2 → A3 → A4 → A5 → Prop) (μ : A1 → A2 → A3 → A4 → A5 → Nat) (hs : ∀ (n : Nat) (a1 : A1) (a2 : A2) (a3 : A3) (a4 : A4) (a5 : A5), I a1 a2 a3 a4 a5 → (∀ (b1 : A1) (b2 : A2) (b3 : A3) (b4 : A4) (b5 : A5), I b1 b2 b3 b4 b5 → μ b1 b2 b3 b4 b5 < μ a1 a2 a3 a4 a5 → W n b1 b2 b3 b4 b5) → W (n + 1) a1 a2 a3 a4 a5) (a1 : A1) (a2 : A2) (a3 : A3) (a4 : A4) (a5 : A5) (h : I a1 a2 a3 a4 a5) : ∃ n, W n a1 a2 a3 a4 a5 :=
  loop_m (σ := A1 × A2 × A3 × A4 × A5) (fun n s => W n s.1 s.2.1 s.2.2.1 s.2.2.2.1 s.2.2.2.2) (fun s => I s.1 s.2.1 s.2.2.1 s.2.2.2.1 s.2.2.2.2) (fun s => μ s.1 s.2.1 s.2.2.1 s.2.2.2.1 s.2.2.2.2) (fun n s hI hk => hs n s.1 s.2.1 s.2.2.1 s.2.2.2.1 s.2.2.2.2 hI (fun b1 b2 b3 b4 b5 h9 hm => hk (b1, b2, b3, b4, b5) h9 hm)) (a1, a2, a3, a4, a5) h
theorem lp6 {A1 A2 A3 A4 A5 A6 : Type} (W : Nat → A1 → A2 → A3 → A4 → A5 → A6 → Prop) (I : A1 → A2 → A3 → A4 → A5 → A6 → Prop) (μ : A1 → A2 → A3 → A4 → A5 → A6 → Nat) (hs : ∀ (n : Nat) (a1 : A1) (a2 : A2) (a3 : A3) (a4 : A4) (a5 : A5) (a6 : A6), I a1 a2 a3 a4 a5 a6 → (∀ (b1 : A1) (b2 : A2) (b3 : A3) (b4 : A4) (b5 : A5) (b6 : A6), I b1 b2 b3 b4 b5 b6 → μ b1 b2 b3 b4 b5 b6 < μ a1 a2 a3 a4 a5 a6 → W n b1 b2 b3 b4 b5 b6) → W (n + 1) a1 a2 a3 a4 a5 a6) (a1 : A1) (a2 : A2) (a3 : A3) (a4 : A4) (a5 : A5) (a6 : A6) (h : I a1 a2 a3 a4 a5 a6) : ∃ n, W n a1 a2 a3 a4 a5 a6 :=
  loop_m (σ := A1 × A2 × A3 × A4 × A5 × A6) (fun n s => W n s.1 s.2.1 s.2.2.1 s.2.2.2.1 s.2.2.2.2.1 s.2.2.2.2.2) (fun s => I s.1 s.2.1 s.2.2.1 s.2.2.2.1 s.2.2.2.2.1 s.2.2.2.2.2) (fun s => μ s.1 s.2.1 s.2.2.1 s.2.2.2.1 s.2.2.2.2.1 s.2.2.2.2.2) (fun n s hI hk => hs n s.1 s.2.1 s.2.2.1 s.2.2.2.1 s.2.2.2.2.1 s.2.2.2.2.2 hI (fun b1 b2 b3 b4 b5 b6 h9 hm => hk (b1, b2, b3, b4, b5, b6) h9 hm)) (a1, a2, a3, a4, a5, a6) h
theorem lp7 {A1 A2 A3 A4 A5 A6 A7 : Type} (W : Nat → A1 → A2 → A3 → A4 → A5 → A6 → A7 → Prop) (I : A1 → A2 → A3 → A4 → A5 → A6 → A7 → Prop) (μ : A1 → A2 → A3 → A4 → A5 → A6 → A7 → Nat) (hs : ∀ (n : Nat) (a1 : A1) (a2 : A2) (a3 : A3) (a4 : A4) (a5 : A5) (a6 : A6) (a7 : A7), I a1 a2 a3 a4 a5 a6 a7 → (∀ (b1 : A1) (b2 : A2) (b3 : A3) (b4 : A4) (b5 : A5) (b6 : A6) (b7 : A7), I b1 b2 b3 b4 b5 b6 b7 → μ b1 b2 b3 b4 b5 b6 b7 < μ a1 a2 a3 a4 a5 a6 a7 → W n b1 b2 b3 b4 b5 b6 b7) → W (n + 1) a1 a2 a3 a4 a5 a6 a7) (a1 : A1) (a2 : A2) (a3 : A3) (a4 : A4) (a5 : A5) (a6 : A6) (a7 : A7) (h : I a1 a2 a3 a4 a5 a6 a7) : ∃ n, W n a1 a2 a3 a4 a5 a6 a7 :=
  loop_m (σ := A1 × A2 × A3 × A4 × A5 × A6 × A7) (fun n s => W n s.1 s.2.1 s.2.2.1 s.2.2.2.1 s.2.2.2.2.1 s.2.2.2.2.2.1 s.2.2.2.2.2.2) (fun s => I s.1 s.2.1 s.2.2.1 s.2.2.2.1 s.2.2.2.2.1 s.2.2.2.2.2.1 s.2.2.2.2.2.2) (fun s => μ s.1 s.2.1 s.2.2.1 s.2.2.2.1 s.2.2.2.2.1 s.2.2.2.2.2.1 s.2.2.2.2.2.2) (fun n s hI hk => hs n s.1 s.2.1 s.2.2.1 s.2.2.2.1 s.2.2.2.2.1 s.2.2.2.2.2.1 s.2.2.2.2.2.2 hI (fun b1 b2 b3 b4 b5 b6 b7 h9 hm => hk (b1, b2, b3, b4, b5, b6, b7) h9 hm)) (a1, a2, a3, a4, a5, a6, a7) h
theorem lp8 {A1 A2 A3 A4 A5 A6 A7 A8 : Type} (W : Nat → A1 → A2 → A3 → A4 → A5 → A6 → A7 → A8 → Prop) (I : A1 → A2 → A3 → A4 → A5 → A6 → A7 → A8 → Prop) (μ : A1 → A2 → A3 → A4 → A5 → A6 → A7 → A8 → Nat) (hs : ∀ (n : Nat) (a1 : A1) (a2 : A2) (a3 : A3) (a4 : A4) (a5 : A5) (a6 : A6) (a7 : A7) (a8 : A8), I a1 a2 a3 a4 a5 a6 a7 a8 → (∀ (b1 : A1) (b2 : A2) (b3 : A3) (b4 : A4) (b5 : A5) (b6 : A6) (b7 : A7) (b8 : A8), I b1 b2 b3 b4 b5 b6 b7 b8 → μ b1 b2 b3 b4 b5 b6 b7 b8 < μ a1 a2 a3 a4 a5 a6 a7 a8 → W n b1 b2 b3 b4 b5 b6 b7 b8) → W (n + 1) a1 a2 a3 a4 a5 a6 a7 a8) (a1 : A1) (a2 : A2) (a3 : A3) (a4 : A4) (a5 : A5) (a6 : A6) (a7 : A7) (a8 : A8) (h : I a1 a2 a3 a4 a5 a6 a7 a8) : ∃ n, W n a1 a2 a3 a4 a5 a6 a7 a8 :=
  loop_m (σ := A1 × A2 × A3 × A4 × A5 × A6 × A7 × A8) (fun n s => W n s.1 s.2.1 s.2.2.1 s.2.2.2.1 s.2.2.2.2.1 s.2.2.2.2.2.1 s.2.2.2.2.2.2.1 s.2.2.2.2.2.2.2) (fun s => I s.1 s.2.1 s.2.2.1 s.2.2.2.1 s.2.2.2.2.1 s.2.2.2.2.2.1 s.2.2.2.2.2.2.1 s.2.2.2.2.2.2.2) (fun s => μ s.1 s.2.1 s.2.2.1 s.2.2.2.1 s.2.2.2.2.1 s.2.2.2.2.2.1 s.2.2.2.2.2.2.1 s.2.2.2.2.2.2.2) (fun n s hI hk => hs n s.1 s.2.1 s.2.2.1 s.2.2.2.1 s.2.2.2.2.1 s.2.2.2.2.2.1 s.2.2.2.2.2.2.1 s.2.2.2.2.2.2.2 hI (fun b1 b2 b3 b4 b5 b6 b7 b8 h9 hm => hk (b1, b2, b3, b4, b5, b6, b7, b8) h9 hm)) (a1, a2, a3, a4, a5, a6, a7, a8) h
theorem lp9 {A1 A2 A3 A4 A5 A6 A7 A8 A9 : Type} (W : Nat → A1 → A2 → A3 → A4 → A5 → A6 → A7 → A8 → A9 → Prop) (I : A1 → A2 → A3 → A4 → A5 → A6 → A7 → A8 → A9 → Prop) (μ : A1 → A2 → A3 → A4 → A5 → A6 → A7 → A8 → A9 → Nat) (hs : ∀ (n : Nat) (a1 : A1) (a2 : A2) (a3 : A3) (a4 : A4) (a5 : A5) (a6 : A6) (a7 : A7) (a8 : A8) (a9 : A9), I a1 a2 a3 a4 a5 a6 a7 a8 a9 → (∀ (b1 : A1) (b2 : A2) (b3 : A3) (b4 : A4) (b5 : A5) (b6 : A6) (b7 : A7) (b8 : A8) (b9 : A9), I b1 b2 b3 b4 b5 b6 b7 b8 b9 → μ b1 b2 b3 b4 b5 b6 b7 b8 b9 < μ a1 a2 a3 a4 a5 a6 a7 a8 a9 → W n b1 b2 b3 b4 b5 b6 b7 b8 b9) → W (n + 1) a1 a2 a3 a4 a5 a6 a7 a8 a9) (a1 : A1) (a2 : A2) (a3 : A3) (a4 : A4) (a5 : A5) (a6 : A6) (a7 : A7) (a8 : A8) (a9 : A9) (h : I a1 a2 a3 a4 a5 a6 a7 a8 a9) : ∃ n, W n a1 a2 a3 a4 a5 a6 a7 a8 a9 :=
  loop_m (σ := A1 × A2 × A3 × A4 × A5 × A6 × A7 × A8 × A9) (fun n s => W n s.1 s.2.1 s.2.2.1 s.2.2.2.1 s.2.2.2.2.1 s.2.2.2.2.2.1 s.2.2.2.2.2.2.1 s.2.2.2.2.2.2.2.1 s.2.2.2.2.2.2.2.2) (fun s => I s.1 s.2.1 s.2.2.1 s.2.2.2.1 s.2.2.2.2.1 s.2.2.2.2.2.1 s.2.2.2.2.2.2.1 s.2.2.2.2.2.2.2.1 s.2.2.2.2.2.2.2.2) (fun s => μ s.1 s.2.1 s.2.2.1 s.2.2.2.1 s.2.2.2.2.1 s.2.2.2.2.2.1 s.2.2.2.2.2.2.1 s.2.2.2.2.2.2.2.1 s.2.2.2.2.2.2.2.2) (fun n s hI hk => hs n s.1 s.2.1 s.2.2.1 s.2.2.2.1 s.2.2.2.2.1 s.2.2.2.2.2.1 s.2.2.2.2.2.2.1 s.2.2.2.2.2.2.2.1 s.2.2.2.2.2.2.2.2 hI (fun b1 b2 b3 b4 b5 b6 b7 b8 b9 h9 hm => hk (b1, b2, b3, b4, b5, b6, b7, b8, b9) h9 hm)) (a1, a2, a3, a4, a5, a6, a7, a8, a9) h
theorem lp10 {A1 A2 A3 A4 A5 A6 A7 A8 A9 A10 : Type} (W : Nat → A1 → A2 → A3 → A4 → A5 → A6 → A7 → A8 → A9 → A10 → Prop) (I : A1 → A2 → A3 → A4 → A5 → A6 → A7 → A8 → A9 → A10 → Prop) (μ : A1 → A2 → A3 → A4 → A5 → A6 → A7 → A8 → A9 → A10 → Nat) (hs : ∀ (n : Nat) (a1 : A1) (a2 : A2) (a3 : A3) (a4 : A4) (a5 : A5) (a6 : A6) (a7 : A7) (a8 : A8) (a9 : A9) (a10 : A10), I a1 a2 a3 a4 a5 a6 a7 a8 a9 a10 → (∀ (b1 : A1) (b2 : A2) (b3 : A3) (b4 : A4) (b5 : A5) (b6 : A6) (b7 : A7) (b8 : A8) (b9 : A9) (b10 : A10), I b1 b2 b3 b4 b5 b6 b7 b8 b9 b10 → μ b1 b2 b3 b4 b5 b6 b7 b8 b9 b10 < μ a1 a2 a3 a4 a5 a6 a7 a8 a9 a10 → W n b1 b2 b3 b4 b5 b6 b7 b8 b9 b10) → W (n + 1) a1 a2 a3 a4 a5 a6 a7 a8 a9 a10) (a1 : A1) (a2 : A2) (a3 : A3) (a4 : A4) (a5 : A5) (a6 : A6) (a7 : A7) (a8 : A8) (a9 : A9) (a10 : A10) (h : I a1 a2 a3 a4 a5 a6 a7 a8 a9 a10) : ∃ n, W n a1 a2 a3 a4 a5 a6 a7 a8 a9 a10 :=
  loop_m (σ := A1 × A2 × A3 × A4 × A5 × A6 × A7 × A8 × A9 × A10) (fun n s => W n s.1 s.2.1 s.2.2.1 s.2.2.2.1 s.2.2.2.2.1 s.2.2.2.2.2.1 s.2.2.2.2.2.2.1 s.2.2.2.2.2.2.2.1 s.2.2.2.2.2.2.2.2.1 s.2.2.2.2.2.2.2.2.2) (fun s => I s.1 s.2.1 s.2.2.1 s.2.2.2.1 s.2.2.2.2.1 s.2.2.2.2.2.1 s.2.2.2.2.2.2.1 s.2.2.2.2.2.2.2.1 s.2.2.2.2.2.2.2.2.1 s.2.2.2.2.2.2.2.2.2) (fun s => μ s.1 s.2.1 s.2.2.1 s.2.2.2.1 s.2.2.2.2.1 s.2.2.2.2.2.1 s.2.2.2.2.2.2.1 s.2.2.2.2.2.2.2.1 s.2.2.2.2.2.2.2.2.1 s.2.2.2.2.2.2.2.2.2) (fun n s hI hk => hs n s.1 s.2.1 s.2.2.1 s.2.2.2.1 s.2.2.2.2.1 s.2.2.2.2.2.1 s.2.2.2.2.2.2.1 s.2.2.2.2.2.2.2.1 s.2.2.2.2.2.2.2.2.1 s.2.2.2.2.2.2.2.2.2 hI (fun b1 b2 b3 b4 b5 b6 b7 b8 b9 b10 h9 hm => hk (b1, b2, b3, b4, b5, b6, b7, b8, b9, b10) h9 hm)) (a1, a2, a3, a4, a5, a6, a7, a8, a9, a10) h
theorem lp11 {A1 A2 A3 A4 A5 A6 A7 A8 A9 A10 A11 : Type} (W : Nat → A1 → A2 → A3 → A4 → A5 → A6 → A7 → A8 → A9 → A10 → A11 → Prop) (I : A1 → A2 → A3 → A4 → A5 → A6 → A7 → A8 → A9 → A10 → A11 → Prop) (μ : A1 → A2 → A3 → A4 → A5 → A6 → A7 → A8 → A9 → A10 → A11 → Nat) (hs : ∀ (n : Nat) (a1 : A1) (a2 : A2) (a3 : A3) (a4 : A4) (a5 : A5) (a6 : A6) (a7 : A7) (a8 : A8) (a9 : A9) (a10 : A10) (a11 : A11), I a1 a2 a3 a4 a5 a6 a7 a8 a9 a10 a11 → (∀ (b1 : A1) (b2 : A2) (b3 : A3) (b4 : A4) (b5 : A5) (b6 : A6) (b7 : A7) (b8 : A8) (b9 : A9) (b10 : A10) (b11 : A11), I b1 b2 b3 b4 b5 b6 b7 b8 b9 b10 b11 → μ b1 b2 b3 b4 b5 b6 b7 b8 b9 b10 b11 < μ a1 a2 a3 a4 a5 a6 a7 a8 a9 a10 a11 → W n b1 b2 b3 b4 b5 b6 b7 b8 b9 b10 b11) → W (n + 1) a1 a2 a3 a4 a5 a6 a7 a8 a9 a10 a11) (a1 : A1) (a2 : A2) (a3 : A3) (a4 : A4) (a5 : A5) (a6 : A6) (a7 : A7) (a8 : A8) (a9 : A9) (a10 : A10) (a11 : A11) (h : I a1 a2 a3 a4 a5 a6 a7 a8 a9 a10 a11) : ∃ n, W n a1 a2 a3 a4 a5 a6 a7 a8 a9 a10 a11 :=
  loop_m (σ := A1 × A2 × A3 × A4 × A5 × A6 × A7 × A8 × A9 × A10 × A11) (fun n s => W n s.1 s.2.1 s.2.2.1 s.2.2.2.1 s.2.2.2.2.1 s.2.2.2.2.2.1 s.2.2.2.2.2.2.1 s.2.2.2.2.2.2.2.1 s.2.2.2.2.2.2.2.2.1 s.2.2.2.2.2.2.2.2.2.1 s.2.2.2.2.2.2.2.2.2.2) (fun s => I s.1 s.2.1 s.2.2.1 s.2.2.2.1 s.2.2.2.2.1 s.2.2.2.2.2.1 s.2.2.2.2.2.2.1 s.2.2.2.2.2.2.2.1 s.2.2.2.2.2.2.2.2.1 s.2.2.2.2.2.2.2.2.2.1 s.2.2.2.2.2.2.2.2.2.2) (fun s => μ s.1 s.2.1 s.2.2.1 s.2.2.2.1 s.2.2.2.2.1 s.2.2.2.2.2.1 s.2.2.2.2.2.2.1 s.2.2.2.2.2.2.2.1 s.2.2.2.2.2.2.2.2.1 s.2.2.2.2.2.2.2.2.2.1 s.2.2.2.2.2.2.2.2.2.2) (fun n s hI hk => hs n s.1 s.2.1 s.2.2.1 s.2.2.2.1 s.2.2.2.2.1 s.2.2.2.2.2.1 s.2.2.2.2.2.2.1 s.2.2.2.2.2.2.2.1 s.2.2.2.2.2.2.2.2.1 s.2.2.2.2.2.2.2.2.2.1 s.2.2.2.2.2.2.2.2.2.2 hI (fun b1 b2 b3 b4 b5 b6 b7 b8 b9 b10 b11 h9 hm => hk (b1, b2, b3, b4, b5, b6, b7, b8, b9, b10, b11) h9 hm)) (a1, a2, a3, a4, a5, a6, a7, a8, a9, a10, a11) h
theorem lp12 {A1 A2 A3 A4 A5 A6 A7 A8 A9 A10 A11 A12 : Type} (W : Nat → A1 → A2 → A3 → A4 → A5 → A6 → A7 → A8 → A9 → A10 → A11 → A12 → Prop) (I : A1 → A2 → A3 → A4 → A5 → A6 → A7 → A8 → A9 → A10 → A11 → A12 → Prop) (μ : A1 → A2 → A3 → A4 → A5 → A6 → A7 → A8 → A9 → A10 → A11 → A12 → Nat) (hs : ∀ (n : Nat) (a1 : A1) (a2 : A2) (a3 : A3) (a4 : A4) (a5 : A5) (a6 : A6) (a7 : A7) (a8 : A8) (a9 : A9) (a10 : A10) (a11 : A11) (a12 : A12), I a1 a2 a3 a4 a5 a6 a7 a8 a9 a10 a11 a12 → (∀ (b1 : A1) (b2 : A2) (b3 : A3) (b4 : A4) (b5 : A5) (b6 : A6) (b7 : A7) (b8 : A8) (b9 : A9) (b10 : A10) (b11 : A11) (b12 : A12), I b1 b2 b3 b4 b5 b6 b7 b8 b9 b10 b11 b12 → μ b1 b2 b3 b4 b5 b6 b7 b8 b9 b10 b11 b12 < μ a1 a2 a3 a4 a5 a6 a7 a8 a9 a10 a11 a12 → W n b1 b2 b3 b4 b5 b6 b7 b8 b9 b10 b11 b12) → W (n + 1) a1 a2 a3 a4 a5 a6 a7 a8 a9 a10 a11 a12) (a1 : A1) (a2 : A2) (a3 : A3) (a4 : A4) (a5 : A5) (a6 : A6) (a7 : A7) (a8 : A8) (a9 : A9) (a10 : A10) (a11 : A11) (a12 : A12) (h : I a1 a2 a3 a4 a5 a6 a7 a8 a9 a10 a11 a12) : ∃ n, W n a1 a2 a3 a4 a5 a6 a7 a8 a9 a10 a11 a12 :=
  loop_m (σ := A1 × A2 × A3 × A4 × A5 × A6 × A7 × A8 × A9 × A10 × A11 × A12) (fun n s => W n s.1 s.2.1 s.2.2.1 s.2.2.2.1 s.2.2.2.2.1 s.2.2.2.2.2.1 s.2.2.2.2.2.2.1 s.2.2.2.2.2.2.2.1 s.2.2.2.2.2.2.2.2.1 s.2.2.2.2.2.2.2.2.2.1 s.2.2.2.2.2.2.2.2.2.2.1 s.2.2.2.2.2.2.2.2.2.2.2) (fun s => I s.1 s.2.1 s.2.2.1 s.2.2.2.1 s.2.2.2.2.1 s.2.2.2.2.2.1 s.2.2.2.2.2.2.1 s.2.2.2.2.2.2.2.1 s.2.2.2.2.2.2.2.2.1 s.2.2.2.2.2.2.2.2.2.1 s.2.2.2.2.2.2.2.2.2.2.1 s.2.2.2.2.2.2.2.2.2.2.2) (fun s => μ s.1 s.2.1 s.2.2.1 s.2.2.2.1 s.2.2.2.2.1 s.2.2.2.2.2.1 s.2.2.2.2.2.2.1 s.2.2.2.2.2.2.2.1 s.2.2.2.2.2.2.2.2.1 s.2.2.2.2.2.2.2.2.2.1 s.2.2.2.2.2.2.2.2.2.2.1 s.2.2.2.2.2.2.2.2.2.2.2) (fun n s hI hk => hs n s.1 s.2.1 s.2.2.1 s.2.2.2.1 s.2.2.2.2.1 s.2.2.2.2.2.1 s.2.2.2.2.2.2.1 s.2.2.2.2.2.2.2.1 s.2.2.2.2.2.2.2.2.1 s.2.2.2.2.2.2.2.2.2.1 s.2.2.2.2.2.2.2.2.2.2.1 s.2.2.2.2.2.2.2.2.2.2.2 hI (fun b1 b2 b3 b4 b5 b6 b7 b8 b9 b10 b11 b12 h9 hm => hk (b1, b2, b3, b4, b5, b6, b7, b8, b9, b10, b11, b12) h9 hm)) (a1, a2, a3, a4, a5, a6, a7, a8, a9, a10, a11, a12) h
theorem lp13 {A1 A2 A3 A4 A5 A6 A7 A8 A9 A10 A11 A12 A13 : Type} (W : Nat → A1 → A2 → A3 → A4 → A5 → A6 → A7 → A8 → A9 → A10 → A11 → A12 → A13 → Prop) (I : A1 → A2 → A3 → A4 → A5 → A6 → A7 → A8 → A9 → A10 → A11 → A12 → A13 → Prop) (μ : A1 → A2 → A3 → A4 → A5 → A6 → A7 → A8 → A9 → A10 → A11 → A12 → A13 → Nat) (hs : ∀ (n : Nat) (a1 : A1) (a2 : A2) (a3 : A3) (a4 : A4) (a5 : A5) (a6 : A6) (a7 : A7) (a8 : A8) (a9 : A9) (a10 : A10) (a11 : A11) (a12 : A12) (a13 : A13), I a1 a2 a3 a4 a5 a6 a7 a8 a9 a10 a11 a12 a13 → (∀ (b1 : A1) (b2 : A2) (b3 : A3) (b4 : A4) (b5 : A5) (b6 : A6) (b7 : A7) (b8 : A8) (b9 : A9) (b10 : A10) (b11 : A11) (b12 : A12) (b13 : A13), I b1 b2 b3 b4 b5 b6 b7 b8 b9 b10 b11 b12 b13 → μ b1 b2 b3 b4 b5 b6 b7 b8 b9 b10 b11 b12 b13 < μ a1 a2 a3 a4 a5 a6 a7 a8 a9 a10 a11 a12 a13 → W n b1 b2 b3 b4 b5 b6 b7 b8 b9 b10 b11 b12 b13) → W (n + 1) a1 a2 a3 a4 a5 a6 a7 a8 a9 a10 a11 a12 a13) (a1 : A1) (a2 : A2) (a3 : A3) (a4 : A4) (a5 : A5) (a6 : A6) (a7 : A7) (a8 : A8) (a9 : A9) (a10 : A10) (a11 : A11) (a12 : A12) (a13 : A13) (h : I a1 a2 a3 a4 a5 a6 a7 a8 a9 a10 a11 a12 a13) : ∃ n, W n a1 a2 a3 a4 a5 a6 a7 a8 a9 a10 a11 a12 a13 :=
  loop_m (σ := A1 × A2 × A3 × A4 × A5 × A6 × A7 × A8 × A9 × A10 × A11 × A12 × A13) (fun n s => W n s.1 s.2.1 s.2.2.1 s.2.2.2.1 s.2.2.2.2.1 s.2.2.2.2.2.1 s.2.2.2.2.2.2.1 s.2.2.2.2.2.2.2.1 s.2.2.2.2.2.2.2.2.1 s.2.2.2.2.2.2.2.2.2.1 s.2.2.2.2.2.2.2.2.2.2.1 s.2.2.2.2.2.2.2.2.2.2.2.1 s.2.2.2.2.2.2.2.2.2.2.2.2) (fun s => I s.1 s.2.1 s.2.2.1 s.2.2.2.1 s.2.2.2.2.1 s.2.2.2.2.2.1 s.2.2.2.2.2.2.1 s.2.2.2.2.2.2.2.1 s.2.2.2.2.2.2.2.2.1 s.2.2.2.2.2.2.2.2.2.1 s.2.2.2.2.2.2.2.2.2.2.1 s.2.2.2.2.2.2.2.2.2.2.2.1 s.2.2.2.2.2.2.2.2.2.2.2.2) (fun s => μ s.1 s.2.1 s.2.2.1 s.2.2.2.1 s.2.2.2.2.1 s.2.2.2.2.2.1 s.2.2.2.2.2.2.1 s.2.2.2.2.2.2.2.1 s.2.2.2.2.2.2.2.2.1 s.2.2.2.2.2.2.2.2.2.1 s.2.2.2.2.2.2.2.2.2.2.1 s.2.2.2.2.2.2.2.2.2.2.2.1 s.2.2.2.2.2.2.2.2.2.2.2.2) (fun n s hI hk => hs n s.1 s.2.1 s.2.2.1 s.2.2.2.1 s.2.2.2.2.1 s.2.2.2.2.2.1 s.2.2.2.2.2.2.1 s.2.2.2.2.2.2.2.1 s.2.2.2.2.2.2.2.2.1 s.2.2.2.2.2.2.2.2.2.1 s.2.2.2.2.2.2.2.2.2.2.1 s.2.2.2.2.2.2.2.2.2.2.2.1 s.2.2.2.2.2.2.2.2.2.2.2.2 hI (fun b1 b2 b3 b4 b5 b6 b7 b8 b9 b10 b11 b12 b13 h9 hm => hk (b1, b2, b3, b4, b5, b6, b7, b8, b9, b10, b11, b12, b13) h9 hm)) (a1, a2, a3, a4, a5, a6, a7, a8, a9, a10, a11, a12, a13) h
theorem lp14 {A1 A2 A3 A4 A5 A6 A7 A8 A9 A10 A11 A12 A13 A14 : Type} (W : Nat → A1 → A2 → A3 → A4 → A5 → A6 → A7 → A8 → A9 → A10 → A11 → A12 → A13 → A14 → Prop) (I : A1 → A2 → A3 → A4 → A5 → A6 → A7 → A8 → A9 → A10 → A11 → A12 → A13 → A14 → Prop) (μ : A1 → A2 → A3 → A4 → A5 → A6 → A7 → A8 → A9 → A10 → A11 → A12 → A13 → A14 → Nat) (hs : ∀ (n : Nat) (a1 : A1) (a2 : A2) (a3 : A3) (a4 : A4) (a5 : A5) (a6 : A6) (a7 : A7) (a8 : A8) (a9 : A9) (a10 : A10) (a11 : A11) (a12 : A12) (a13 : A13) (a14 : A14), I a1 a2 a3 a4 a5 a6 a7 a8 a9 a10 a11 a12 a13 a14 → (∀ (b1 : A1) (b2 : A2) (b3 : A3) (b4 : A4) (b5 : A5) (b6 : A6) (b7 : A7) (b8 : A8) (b9 : A9) (b10 : A10) (b11 : A11) (b12 : A12) (b13 : A13) (b14 : A14), I b1 b2 b3 b4 b5 b6 b7 b8 b9 b10 b11 b12 b13 b14 → μ b1 b2 b3 b4 b5 b6 b7 b8 b9 b10 b11 b12 b13 b14 < μ a1 a2 a3 a4 a5 a6 a7 a8 a9 a10 a11 a12 a13 a14 → W n b1 b2 b3 b4 b5 b6 b7 b8 b9 b10 b11 b12 b13 b14) → W (n + 1) a1 a2 a3 a4 a5 a6 a7 a8 a9 a10 a11 a12 a13 a14) (a1 : A1) (a2 : A2) (a3 : A3) (a4 : A4) (a5 : A5) (a6 : A6) (a7 : A7) (a8 : A8) (a9 : A9) (a10 : A10) (a11 : A11) (a12 : A12) (a13 : A13) (a14 : A14) (h : I a1 a2 a3 a4 a5 a6 a7 a8 a9 a10 a11 a12 a13 a14) : ∃ n, W n a1 a2 a3 a4 a5 a6 a7 a8 a9 a10 a11 a12 a13 a14 :=
  loop_m (σ := A1 × A2 × A3 × A4 × A5 × A6 × A7 × A8 × A9 × A10 × A11 × A12 × A13 × A14) (fun n s => W n s.1 s.2.1 s.2.2.1 s.2.2.2.1 s.2.2.2.2.1 s.2.2.2.2.2.1 s.2.2.2.2.2.2.1 s.2.2.2.2.2.2.2.1 s.2.2.2.2.2.2.2.2.1 s.2.2.2.2.2.2.2.2.2.1 s.2.2.2.2.2.2.2.2.2.2.1 s.2.2.2.2.2.2.2.2.2.2.2.1 s.2.2.2.2.2.2.2.2.2.2.2.2.1 s.2.2.2.2.2.2.2.2.2.2.2.2.2) (fun s => I s.1 s.2.1 s.2.2.1 s.2.2.2.1 s.2.2.2.2.1 s.2.2.2.2.2.1 s.2.2.2.2.2.2.1 s.2.2.2.2.2.2.2.1 s.2.2.2.2.2.2.2.2.1 s.2.2.2.2.2.2.2.2.2.1 s.2.2.2.2.2.2.2.2.2.2.1 s.2.2.2.2.2.2.2.2.2.2.2.1 s.2.2.2.2.2.2.2.2.2.2.2.2.1 s.2.2.2.2.2.2.2.2.2.2.2.2.2) (fun s => μ s.1 s.2.1 s.2.2.1 s.2.2.2.1 s.2.2.2.2.1 s.2.2.2.2.2.1 s.2.2.2.2.2.2.1 s.2.2.2.2.2.2.2.1 s.2.2.2.2.2.2.2.2.1 s.2.2.2.2.2.2.2.2.2.1 s.2.2.2.2.2.2.2.2.2.2.1 s.2.2.2.2.2.2.2.2.2.2.2.1 s.2.2.2.2.2.2.2.2.2.2.2.2.1 s.2.2.2.2.2.2.2.2.2.2.2.2.2) (fun n s hI hk => hs n s.1 s.2.1 s.2.2.1 s.2.2.2.1 s.2.2.2.2.1 s.2.2.2.2.2.1 s.2.2.2.2.2.2.1 s.2.2.2.2.2.2.2.1 s.2.2.2.2.2.2.2.2.1 s.2.2.2.2.2.2.2.2.2.1 s.2.2.2.2.2.2.2.2.2.2.1 s.2.2.2.2.2.2.2.2.2.2.2.1 s.2.2.2.2.2.2.2.2.2.2.2.2.1 s.2.2.2.2.2.2.2.2.2.2.2.2.2 hI (fun b1 b2 b3 b4 b5 b6 b7 b8 b9 b10 b11 b12 b13 b14 h9 hm => hk (b1, b2, b3, b4, b5, b6, b7, b8, b9, b10, b11, b12, b13, b14) h9 hm)) (a1, a2, a3, a4, a5, a6, a7, a8, a9, a10, a11, a12, a13, a14) h
theorem lp15 {A1 A2 A3 A4 A5 A6 A7 A8 A9 A10 A11 A12 A13 A14 A15 : Type} (W : Nat → A1 → A2 → A3 → A4 → A5 → A6 → A7 → A8 → A9 → A10 → A11 → A12 → A13 → A14 → A15 → Prop) (I : A1 → A2 → A3 → A4 → A5 → A6 → A7 → A8 → A9 → A10 → A11 → A12 → A13 → A14 → A15 → Prop) (μ : A1 → A2 → A3 → A4 → A5 → A6 → A7 → A8 → A9 → A10 → A11 → A12 → A13 → A14 → A15 → Nat) (hs : ∀ (n : Nat) (a1 : A1) (a2 : A2) (a3 : A3) (a4 : A4) (a5 : A5) (a6 : A6) (a7 : A7) (a8 : A8) (a9 : A9) (a10 : A10) (a11 : A11) (a12 : A12) (a13 : A13) (a14 : A14) (a15 : A15), I a1 a2 a3 a4 a5 a6 a7 a8 a9 a10 a11 a12 a13 a14 a15 → (∀ (b1 : A1) (b2 : A2) (b3 : A3) (b4 : A4) (b5 : A5) (b6 : A6) (b7 : A7) (b8 : A8) (b9 : A9) (b10 : A10) (b11 : A11) (b12 : A12) (b13 : A13) (b14 : A14) (b15 : A15), I b1 b2 b3 b4 b5 b6 b7 b8 b9 b10 b11 b12 b13 b14 b15 → μ b1 b2 b3 b4 b5 b6 b7 b8 b9 b10 b11 b12 b13 b14 b15 < μ a1 a2 a3 a4 a5 a6 a7 a8 a9 a10 a11 a12 a13 a14 a15 → W n b1 b2 b3 b4 b5 b6 b7 b8 b9 b10 b11 b12 b13 b14 b15) → W (n + 1) a1 a2 a3 a4 a5 a6 a7 a8 a9 a10 a11 a12 a13 a14 a15) (a1 : A1) (a2 : A2) (a3 : A3) (a4 : A4) (a5 : A5) (a6 : A6) (a7 : A7) (a8 : A8) (a9 : A9) (a10 : A10) (a11 : A11) (a12 : A12) (a13 : A13) (a14 : A14) (a15 : A15) (h : I a1 a2 a3 a4 a5 a6 a7 a8 a9 a10 a11 a12 a13 a14 a15) : ∃ n, W n a1 a2 a3 a4 a5 a6 a7 a8 a9 a10 a11 a12 a13 a14 a15 :=
  loop_m (σ := A1 × A2 × A3 × A4 × A5 × A6 × A7 × A8 × A9 × A10 × A11 × A12 × A13 × A14 × A15) (fun n s => W n s.1 s.2.1 s.2.2.1 s.2.2.2.1 s.2.2.2.2.1 s.2.2.2.2.2.1 s.2.2.2.2.2.2.1 s.2.2.2.2.2.2.2.1 s.2.2.2.2.2.2.2.2.1 s.2.2.2.2.2.2.2.2.2.1 s.2.2.2.2.2.2.2.2.2.2.1 s.2.2.2.2.2.2.2.2.2.2.2.1 s.2.2.2.2.2.2.2.2.2.2.2.2.1 s.2.2.2.2.2.2.2.2.2.2.2.2.2.1 s.2.2.2.2.2.2.2.2.2.2.2.2.2.2) (fun s => I s.1 s.2.1 s.2.2.1 s.2.2.2.1 s.2.2.2.2.1 s.2.2.2.2.2.1 s.2.2.2.2.2.2.1 s.2.2.2.2.2.2.2.1 s.2.2.2.2.2.2.2.2.1 s.2.2.2.2.2.2.2.2.2.1 s.2.2.2.2.2.2.2.2.2.2.1 s.2.2.2.2.2.2.2.2.2.2.2.1 s.2.2.2.2.2.2.2.2.2.2.2.2.1 s.2.2.2.2.2.2.2.2.2.2.2.2.2.1 s.2.2.2.2.2.2.2.2.2.2.2.2.2.2) (fun s => μ s.1 s.2.1 s.2.2.1 s.2.2.2.1 s.2.2.2.2.1 s.2.2.2.2.2.1 s.2.2.2.2.2.2.1 s.2.2.2.2.2.2.2.1 s.2.2.2.2.2.2.2.2.1 s.2.2.2.2.2.2.2.2.2.1 s.2.2.2.2.2.2.2.2.2.2.1 s.2.2.2.2.2.2.2.2.2.2.2.1 s.2.2.2.2.2.2.2.2.2.2.2.2.1 s.2.2.2.2.2.2.2.2.2.2.2.2.2.1 s.2.2.2.2.2.2.2.2.2.2.2.2.2.2) (fun n s hI hk => hs n s.1 s.2.1 s.2.2.1 s.2.2.2.1 s.2.2.2.2.1 s.2.2.2.2.2.1 s.2.2.2.2.2.2.1 s.2.2.2.2.2.2.2.1 s.2.2.2.2.2.2.2.2.1 s.2.2.2.2.2.2.2.2.2.1 s.2.2.2.2.2.2.2.2.2.2.1 s.2.2.2.2.2.2.2.2.2.2.2.1 s.2.2.2.2.2.2.2.2.2.2.2.2.1 s.2.2.2.2.2.2.2.2.2.2.2.2.2.1 s.2.2.2.2.2.2.2.2.2.2.2.2.2.2 hI (fun b1 b2 b3 b4 b5 b6 b7 b8 b9 b10 b11 b12 b13 b14 b15 h9 hm => hk (b1, b2, b3, b4, b5, b6, b7, b8, b9, b10, b11, b12, b13, b14, b15) h9 hm)) (a1, a2, a3, a4, a5, a6, a7, a8, a9, a10, a11, a12, a13, a14, a15) h
theorem lp16 {A1 A2 A3 A4 A5 A6 A7 A8 A9 A10 A11 A12 A13 A14 A15 A16 : Type} (W : Nat → A1 → A2 → A3 → A4 → A5 → A6 → A7 → A8 → A9 → A10 → A11 → A12 → A13 → A14 → A15 → A16 → Prop) (I : A1 → A2 → A3 → A4 → A5 → A6 → A7 → A8 → A9 → A10 → A11 → A12 → A13 → A14 → A15 → A16 → Prop) (μ : A1 → A2 → A3 → A4 → A5 → A6 → A7 → A8 → A9 → A10 → A11 → A12 → A13 → A14 → A15 → A16 → Nat) (hs : ∀ (n : Nat) (a1 : A1) (a2 : A2) (a3 : A3) (a4 : A4) (a5 : A5) (a6 : A6) (a7 : A7) (a8 : A8) (a9 : A9) (a10 : A10) (a11 : A11) (a12 : A12) (a13 : A13) (a14 : A14) (a15 : A15) (a16 : A16), I a1 a2 a3 a4 a5 a6 a7 a8 a9 a10 a11 a12 a13 a14 a15 a16 → (∀ (b1 : A1) (b2 : A2) (b3 : A3) (b4 : A4) (b5 : A5) (b6 : A6) (b7 : A7) (b8 : A8) (b9 : A9) (b10 : A10) (b11 : A11) (b12 : A12) (b13 : A13) (b14 : A14) (b15 : A15) (b16 : A16), I b1 b2 b3 b4 b5 b6 b7 b8 b9 b10 b11 b12 b13 b14 b15 b16 → μ b1 b2 b3 b4 b5 b6 b7 b8 b9 b10 b11 b12 b13 b14 b15 b16 < μ a1 a2 a3 a4 a5 a6 a7 a8 a9 a10 a11 a12 a13 a14 a15 a16 → W n b1 b2 b3 b4 b5 b6 b7 b8 b9 b10 b11 b12 b13 b14 b15 b16) → W (n + 1) a1 a2 a3 a4 a5 a6 a7 a8 a9 a10 a11 a12 a13 a14 a15 a16) (a1 : A1) (a2 : A2) (a3 : A3) (a4 : A4) (a5 : A5) (a6 : A6) (a7 : A7) (a8 : A8) (a9 : A9) (a10 : A10) (a11 : A11) (a12 : A12) (a13 : A13) (a14 : A14) (a15 : A15) (a16 : A16) (h : I a1 a2 a3 a4 a5 a6 a7 a8 a9 a10 a11 a12 a13 a14 a15 a16) : ∃ n, W n a1 a2 a3 a4 a5 a6 a7 a8 a9 a10 a11 a12 a13 a14 a15 a16 :=
  loop_m (σ := A1 × A2 × A3 × A4 × A5 × A6 × A7 × A8 × A9 × A10 × A11 × A12 × A13 × A14 × A15 × A16) (fun n s => W n s.1 s.2.1 s.2.2.1 s.2.2.2.1 s.2.2.2.2.1 s.2.2.2.2.2.1 s.2.2.2.2.2.2.1 s.2.2.2.2.2.2.2.1 s.2.2.2.2.2.2.2.2.1 s.2.2.2.2.2.2.2.2.2.1 s.2.2.2.2.2.2.2.2.2.2.1 s.2.2.2.2.2.2.2.2.2.2.2.1 s.2.2.2.2.2.2.2.2.2.2.2.2.1 s.2.2.2.2.2.2.2.2.2.2.2.2.2.1 s.2.2.2.2.2.2.2.2.2.2.2.2.2.2.1 s.2.2.2.2.2.2.2.2.2.2.2.2.2.2.2) (fun s => I s.1 s.2.1 s.2.2.1 s.2.2.2.1 s.2.2.2.2.1 s.2.2.2.2.2.1 s.2.2.2.2.2.2.1 s.2.2.2.2.2.2.2.1 s.2.2.2.2.2.2.2.2.1 s.2.2.2.2.2.2.2.2.2.1 s.2.2.2.2.2.2.2.2.2.2.1 s.2.2.2.2.2.2.2.2.2.2.2.1 s.2.2.2.2.2.2.2.2.2.2.2.2.1 s.2.2.2.2.2.2.2.2.2.2.2.2.2.1 s.2.2.2.2.2.2.2.2.2.2.2.2.2.2.1 s.2.2.2.2.2.2.2.2.2.2.2.2.2.2.2) (fun s => μ s.1 s.2.1 s.2.2.1 s.2.2.2.1 s.2.2.2.2.1 s.2.2.2.2.2.1 s.2.2.2.2.2.2.1 s.2.2.2.2.2.2.2.1 s.2.2.2.2.2.2.2.2.1 s.2.2.2.2.2.2.2.2.2.1 s.2.2.2.2.2.2.2.2.2.2.1 s.2.2.2.2.2.2.2.2.2.2.2.1 s.2.2.2.2.2.2.2.2.2.2.2.2.1 s.2.2.2.2.2.2.2.2.2.2.2.2.2.1 s.2.2.2.2.2.2.2.2.2.2.2.2.2.2.1 s.2.2.2.2.2.2.2.2.2.2.2.2.2.2.2) (fun n s hI hk => hs n s.1 s.2.1 s.2.2.1 s.2.2.2.1 s.2.2.2.2.1 s.2.2.2.2.2.1 s.2.2.2.2.2.2.1 s.2.2.2.2.2.2.2.1 s.2.2.2.2.2.2.2.2.1 s.2.2.2.2.2.2.2.2.2.1 s.2.2.2.2.2.2.2.2.2.2.1 s.2.2.2.2.2.2.2.2.2.2.2.1 s.2.2.2.2.2.2.2.2.2.2.2.2.1 s.2.2.2.2.2.2.2.2.2.2.2.2.2.1 s.2.2.2.2.2.2.2.2.2.2.2.2.2.2.1 s.2.2.2.2.2.2.2.2.2.2.2.2.2.2.2 hI (fun b1 b2 b3 b4 b5 b6 b7 b8 b9 b10 b11 b12 b13 b14 b15 b16 h9 hm => hk (b1, b2, b3, b4, b5, b6, b7, b8, b9, b10, b11, b12, b13, b14, b15, b16) h9 hm)) (a1, a2, a3, a4, a5, a6, a7, a8, a9, a10, a11, a12, a13, a14, a15, a16) h
theorem pk_least (P : Nat → Prop) (h : ∃ k, P k) : ∃ k, P k ∧ ∀ j, j < k → ¬ P j := by
  obtain ⟨k, hk⟩ := h
  induction k using Nat.strongRecOn with
  | ind k ih =>
    by_cases e : ∃ j, j < k ∧ P j
    · obtain ⟨j, hj, pj⟩ := e
      exact ih j hj pj
    · exact ⟨k, hk, fun j hj pj => e ⟨j, hj, pj⟩⟩
theorem rp1 {ρ A1 : Type} (W : Nat → (ρ → Prop) → A1 → Prop) (ok : A1 → Prop) (μ : A1 → Nat) (val : A1 → ρ)
    (hs : ∀ (d : Nat) (post : ρ → Prop) (a1 : A1), ok a1 → post (val a1) → (∀ (post' : ρ → Prop) (b1 : A1), ok b1 → μ b1 < μ a1 → post' (val b1) → W d post' b1) → W (d + 1) post a1) :
    ∀ (d : Nat) (post : ρ → Prop) (a1 : A1), ok a1 → μ a1 < d → post (val a1) → W d post a1 := by
  intro d
  induction d with
  | zero => intro post a1 _ h; omega
  | succ d ih =>
    intro post a1 ho hm hp
    exact hs d post a1 ho hp (fun post' b1 ho' hm' hp' => ih post' b1 ho' (by omega) hp')
theorem rp2 {ρ A1 A2 : Type} (W : Nat → (ρ → Prop) → A1 → A2 → Prop) (ok : A1 → A2 → Prop) (μ : A1 → A2 → Nat) (val : A1 → A2 → ρ)
    (hs : ∀ (d : Nat) (post : ρ → Prop) (a1 : A1) (a2 : A2), ok a1 a2 → post (val a1 a2) → (∀ (post' : ρ → Prop) (b1 : A1) (b2 : A2), ok b1 b2 → μ b1 b2 < μ a1 a2 → post' (val b1 b2) → W d post' b1 b2) → W (d + 1) post a1 a2) :
    ∀ (d : Nat) (post : ρ → Prop) (a1 : A1) (a2 : A2), ok a1 a2 → μ a1 a2 < d → post (val a1 a2) → W d post a1 a2 := by
  intro d
  induction d with
  | zero => intro post a1 a2 _ h; omega
  | succ d ih =>
    intro post a1 a2 ho hm hp
    exact hs d post a1 a2 ho hp (fun post' b1 b2 ho' hm' hp' => ih post' b1 b2 ho' (by omega) hp')
theorem rp3 {ρ A1 A2 A3 : Type} (W : Nat → (ρ → Prop) → A1 → A2 → A3 → Prop) (ok : A1 → A2 → A3 → Prop) (μ : A1 → A2 → A3 → Nat) (val : A1 → A2 → A3 → ρ)
    (hs : ∀ (d : Nat) (post : ρ → Prop) (a1 : A1) (a2 : A2) (a3 : A3), ok a1 a2 a3 → post (val a1 a2 a3) → (∀ (post' : ρ → Prop) (b1 : A1) (b2 : A2) (b3 : A3), ok b1 b2 b3 → μ b1 b2 b3 < μ a1 a2 a3 → post' (val b1 b2 b3) → W d post' b1 b2 b3) → W (d + 1) post a1 a2 a3) :
    ∀ (d : Nat) (post : ρ → Prop) (a1 : A1) (a2 : A2) (a3 : A3), ok a1 a2 a3 → μ a1 a2 a3 < d → post (val a1 a2 a3) → W d post a1 a2 a3 := by
  intro d
  induction d with
  | zero => intro post a1 a2 a3 _ h; omega
  | succ d ih =>
    intro post a1 a2 a3 ho hm hp
    exact hs d post a1 a2 a3 ho hp (fun post' b1 b2 b3 ho' hm' hp' => ih post' b1 b2 b3 ho' (by omega) hp')
theorem rp4 {ρ A1 A2 A3 A4 : Type} (W : Nat → (ρ → Prop) → A1 → A2 → A3 → A4 → Prop) (ok : A1 → A2 → A3 → A4 → Prop) (μ : A1 → A2 → A3 → A4 → Nat) (val : A1 → A2 → A3 → A4 → ρ)
    (hs : ∀ (d : Nat) (post : ρ → Prop) (a1 : A1) (a2 : A2) (a3 : A3) (a4 : A4), ok a1 a2 a3 a4 → post (val a1 a2 a3 a4) → (∀ (post' : ρ → Prop) (b1 : A1) (b2 : A2) (b3 : A3) (b4 : A4), ok b1 b2 b3 b4 → μ b1 b2 b3 b4 < μ a1 a2 a3 a4 → post' (val b1 b2 b3 b4) → W d post' b1 b2 b3 b4) → W (d + 1) post a1 a2 a3 a4) :
    ∀ (d : Nat) (post : ρ → Prop) (a1 : A1) (a2 : A2) (a3 : A3) (a4 : A4), ok a1 a2 a3 a4 → μ a1 a2 a3 a4 < d → post (val a1 a2 a3 a4) → W d post a1 a2 a3 a4 := by
  intro d
  induction d with
  | zero => intro post a1 a2 a3 a4 _ h; omega
  | succ d ih =>
    intro post a1 a2 a3 a4 ho hm hp
    exact hs d post a1 a2 a3 a4 ho hp (fun post' b1 b2 b3 b4 ho' hm' hp' => ih post' b1 b2 b3 b4 ho' (by omega) hp')
theorem rp5 {ρ A1 A2 A3 A4 A5 : Type} (W : Nat → (ρ → Prop) → A1 → A2 → A3 → A4 → A5 → Prop) (ok : A1 → A2 → A3 → A4 → A5 → Prop) (μ : A1 → A2 → A3 → A4 → A5 → Nat) (val : A1 → A2 → A3 → A4 → A5 → ρ)
    (hs : ∀ (d : Nat) (post : ρ → Prop) (a1 : A1) (a2 : A2) (a3 : A3) (a4 : A4) (a5 : A5), ok a1 a2 a3 a4 a5 → post (val a1 a2 a3 a4 a5) → (∀ (post' : ρ → Prop) (b1 : A1) (b2 : A2) (b3 : A3) (b4 : A4) (b5 : A5), ok b1 b2 b3 b4 b5 → μ b1 b2 b3 b4 b5 < μ a1 a2 a3 a4 a5 → post' (val b1 b2 b3 b4 b5) → W d post' b1 b2 b3 b4 b5) → W (d + 1) post a1 a2 a3 a4 a5) :
    ∀ (d : Nat) (post : ρ → Prop) (a1 : A1) (a2 : A2) (a3 : A3) (a4 : A4) (a5 : A5), ok a1 a2 a3 a4 a5 → μ a1 a2 a3 a4 a5 < d → post (val a1 a2 a3 a4 a5) → W d post a1 a2 a3 a4 a5 := by
  intro d
  induction d with
  | zero => intro post a1 a2 a3 a4 a5 _ h; omega
  | succ d ih =>
    intro post a1 a2 a3 a4 a5 ho hm hp
    exact hs d post a1 a2 a3 a4 a5 ho hp (fun post' b1 b2 b3 b4 b5 ho' hm' hp' => ih post' b1 b2 b3 b4 b5 ho' (by omega) hp')
theorem rp6 {ρ A1 A2 A3 A4 A5 A6 : Type} (W : Nat → (ρ → Prop) → A1 → A2 → A3 → A4 → A5 → A6 → Prop) (ok : A1 → A2 → A3 → A4 → A5 → A6 → Prop) (μ : A1 → A2 → A3 → A4 → A5 → A6 → Nat) (val : A1 → A2 → A3 → A4 → A5 → A6 → ρ)
    (hs : ∀ (d : Nat) (post : ρ → Prop) (a1 : A1) (a2 : A2) (a3 : A3) (a4 : A4) (a5 : A5) (a6 : A6), ok a1 a2 a3 a4 a5 a6 → post (val a1 a2 a3 a4 a5 a6) → (∀ (post' : ρ → Prop) (b1 : A1) (b2 : A2) (b3 : A3) (b4 : A4) (b5 : A5) (b6 : A6), ok b1 b2 b3 b4 b5 b6 → μ b1 b2 b3 b4 b5 b6 < μ a1 a2 a3 a4 a5 a6 → post' (val b1 b2 b3 b4 b5 b6) → W d post' b1 b2 b3 b4 b5 b6) → W (d + 1) post a1 a2 a3 a4 a5 a6) :
    ∀ (d : Nat) (post : ρ → Prop) (a1 : A1) (a2 : A2) (a3 : A3) (a4 : A4) (a5 : A5) (a6 : A6), ok a1 a2 a3 a4 a5 a6 → μ a1 a2 a3 a4 a5 a6 < d → post (val a1 a2 a3 a4 a5 a6) → W d post a1 a2 a3 a4 a5 a6 := by
  intro d
  induction d with
  | zero => intro post a1 a2 a3 a4 a5 a6 _ h; omega
  | succ d ih =>
    intro post a1 a2 a3 a4 a5 a6 ho hm hp
    exact hs d post a1 a2 a3 a4 a5 a6 ho hp (fun post' b1 b2 b3 b4 b5 b6 ho' hm' hp' => ih post' b1 b2 b3 b4 b5 b6 ho' (by omega) hp')
theorem rec_p {σ ρ : Type} (W : Nat → (ρ → Prop) → σ → Prop) (ok : σ → Prop) (μ : σ → Nat) (val : σ → ρ)
    (hs : ∀ d s post, ok s → post (val s) → (∀ s' post', ok s' → μ s' < μ s → post' (val s') → W d post' s') → W (d + 1) post s) :
    ∀ d s post, ok s → μ s < d → post (val s) → W d post s := by
  intro d
  induction d with
  | zero => intro s post _ h; omega
  | succ d ih =>
    intro s post ho hm hp
    exact hs d s post ho hp (fun s' post' ho' hm' hp' => ih s' post' ho' (by omega) hp')
theorem rec_q {σ ρ : Type} (W : Nat → (ρ → Prop) → σ → Prop) (ok : σ → Prop) (μ : σ → Nat) (Q : σ → ρ → Prop)
    (hs : ∀ d s post, ok s → (∀ r, Q s r → post r) → (∀ s' post', ok s' → μ s' < μ s → (∀ r, Q s' r → post' r) → W d post' s') → W (d + 1) post s) :
    ∀ d s post, ok s → μ s < d → (∀ r, Q s r → post r) → W d post s := by
  intro d
  induction d with
  | zero => intro s post _ h; omega
  | succ d ih =>
    intro s post ho hm hp
    exact hs d s post ho hp (fun s' post' ho' hm' hp' => ih s' post' ho' (by omega) hp')
def bx_sum (f : Nat → Int32) : Nat → Int32
  | 0 => 0
  | n + 1 => bx_sum f n + f n
theorem ek_u {A : Prop} {B : Nat → Prop} {k N : Nat} (hk : k < N) (h : B k) : (some k = none → A) ∧ (∀ y : Nat, some k = some y → (y < N ∧ B y)) :=
  ⟨fun z => absurd z (Option.some_ne_none k), fun _ e => (by cases e; exact ⟨hk, h⟩)⟩
theorem ek_nu {A : Prop} {B : Nat → Prop} (h : A) : ((none : Option Nat) = none → A) ∧ (∀ y : Nat, (none : Option Nat) = some y → B y) :=
  ⟨fun _ => h, fun _ e => (by cases e)⟩
theorem ek_if {c d A B : Prop} (e : c ↔ d) (f : d → A) (g : ¬ d → B) : (c → A) ∧ (¬ c → B) :=
  ⟨fun z => f (e.mp z), fun z => g (fun y => z (e.mpr y))⟩
theorem ek_v {α : Sort _} {P : α → Prop} {a b : α} (e : a = b) (h : P b) : P a := e ▸ h
theorem co_some {x : Option Nat} {A : Prop} {B : Nat → Prop} (i : Nat) (h : B i) (hx : x = some i := by rfl) : (x = none → A) ∧ (∀ y : Nat, x = some y → B y) := by
  subst hx
  exact ⟨fun e => (nomatch e), fun y e => Option.some.inj e ▸ h⟩
theorem co_none {x : Option Nat} {A : Prop} {B : Nat → Prop} (h : A) (hx : x = none := by rfl) : (x = none → A) ∧ (∀ y : Nat, x = some y → B y) := by
  subst hx
  exact ⟨fun _ => h, fun y e => (nomatch e)⟩
theorem co_any {x : Option Nat} {A : Prop} {B : Nat → Prop} (hn : x = none → A) (hs : ∀ i : Nat, x = some i → B i) : (x = none → A) ∧ (∀ y : Nat, x = some y → B y) := ⟨hn, hs⟩
theorem co_2 {P : Nat → Prop} (h0 : P 0) (h1 : P 1) {i : Nat} (hi : i < 2) : P i :=
  match i, hi with
  | 0, _ => h0
  | 1, _ => h1
theorem co_3 {P : Nat → Prop} (h0 : P 0) (h1 : P 1) (h2 : P 2) {i : Nat} (hi : i < 3) : P i :=
  match i, hi with
  | 0, _ => h0
  | 1, _ => h1
  | 2, _ => h2
theorem co_4 {P : Nat → Prop} (h0 : P 0) (h1 : P 1) (h2 : P 2) (h3 : P 3) {i : Nat} (hi : i < 4) : P i :=
  match i, hi with
  | 0, _ => h0
  | 1, _ => h1
  | 2, _ => h2
  | 3, _ => h3
theorem co_dec {N : Nat} {P : Nat → Prop} [DecidablePred P] (h : (List.range N).all (fun i => decide (P i)) = true) {i : Nat} (hi : i < N) : P i := by
  have := List.all_eq_true.mp h i (List.mem_range.mpr hi)
  exact of_decide_eq_true this
theorem co_tab {α : Type} {l : List α} {d : α} {P : α → Prop} (h : ∀ a, a ∈ l → P a) {i : Nat} (hi : i < l.length) : P (l.getD i d) := by
  rw [List.getD_eq_getElem?_getD, List.getElem?_eq_getElem hi]
  exact h _ (List.getElem_mem hi)
theorem pk_mu {x : Int32} {L : Nat} (h0 : ¬ x < 0) (h : ¬ nI L ≤ x) (hL : L < 2 ^ 31) : ∃ j : Nat, j < L ∧ x = nI j ∧ x + 1 = nI (j + 1) ∧ x.toNatClampNeg = j ∧ L - (x + 1).toNatClampNeg < L - x.toNatClampNeg := by
  obtain ⟨j, hj, rfl⟩ := nI_of h0
  have hl : j < L := Nat.not_le.mp fun q => h (nI_le q hj)
  refine ⟨j, hl, rfl, nI_1 j, nI_clamp hj, ?_⟩
  rw [nI_1, nI_clamp (by omega), nI_clamp hj]
  omega
theorem op_s {α : Type} {r : Option α} {A : Prop} {B : α → Prop} {y : α} (h : r = some y) (b : B y) : (r = none → A) ∧ ∀ z, r = some z → B z :=
  ⟨fun e => (by rw [h] at e; cases e), fun z e => (by rw [h] at e; cases e; exact b)⟩
def l_holds {α : Type} (a : Nat → Option Nat) (LP : List Nat) (p : Nat → α) (c : Nat) (b : Nat → α) : Prop :=
  ∀ j, j < c → ∃ y, a j = some y ∧ y ∈ LP ∧ p y = b j
theorem l_holds_0 {α : Type} {a : Nat → Option Nat} {LP : List Nat} {p b : Nat → α} : l_holds a LP p 0 b := fun j h => absurd h (Nat.not_lt_zero j)
theorem l_in_new (LP : List Nat) (q : Nat) : q ∈ LP ++ [q] := List.mem_append.mpr (Or.inr (List.mem_singleton.mpr rfl))
def l_sum (b : Nat → Int32) : Nat → Int32
  | 0 => 0
  | k + 1 => l_sum b k + b k
theorem sb_shr0 (x : Int32) : x >>> ((0 : Int32) &&& 31) = x := by
  rw [show ((0 : Int32) &&& 31) = 0 by decide]
  simp
theorem sb_shl0 (x : Int32) : x <<< ((0 : Int32) &&& 31) = x := by
  rw [show ((0 : Int32) &&& 31) = 0 by decide]
  simp
theorem sb_cl0 : (0 : Int32).toNatClampNeg = 0 := by decide
theorem sb_m1 {p : Nat} (h : 0 < p) : nI p + (-1) = nI (p - 1) := by
  obtain ⟨q, rfl⟩ : ∃ q, p = q + 1 := ⟨p - 1, by omega⟩
  exact pk_m1 q
def sb_b (c : Nat) : Int32 := (nI c).toInt8.toInt32
theorem sb_byte : ∀ c, c < 256 → sb_b c &&& 255 = nI c ∧ ((nI c).toUInt32 % 65536).toInt32 = nI c ∧ nI c ≤ 255 := by decide +kernel
def sb_Fit (a : Nat → Int32) : Prop := ∀ j, fits .byte (.int (a j)) = true
def sb_Lat (t : Nat → Nat) (n : Nat) (a : Nat → Int32) : Prop := ∀ j, j < n → t j < 256 ∧ a j = sb_b (t j)
theorem sb_fitB (c : Nat) : fits .byte (.int (sb_b c)) = true := pk_fb _
theorem sb_fit0 : sb_Fit (fun _ => 0) := fun _ => by
  show fits .byte (.int 0) = true
  decide
theorem sb_fitU {a : Nat → Int32} {k : Nat} {x : Int32} (h : sb_Fit a) (hx : fits .byte (.int x) = true) : sb_Fit (upd a k x) := by
  intro j
  by_cases e : j = k
  · subst e
    rw [pk_us]
    exact hx
  · rw [pk_un e]
    exact h j
def sb_cat (t : Nat → Nat) (n : Nat) (s : Nat → Nat) : Nat → Nat := fun j => if j < n then t j else s (j - n)
theorem sb_cat_lo {t s : Nat → Nat} {n j : Nat} (h : j < n) : sb_cat t n s j = t j := if_pos h
theorem sb_cat_hi {t s : Nat → Nat} {n j : Nat} : sb_cat t n s (n + j) = s j := by
  show (if n + j < n then t (n + j) else s (n + j - n)) = s j
  rw [if_neg (by omega), Nat.add_sub_cancel_left]
theorem sb_latPut {t s : Nat → Nat} {n w : Nat} {a a' : Nat → Int32} (h : sb_Lat t n a) (hk : ∀ j, j < n → a' j = a j) (hs : ∀ i, i < w → s i < 256 ∧ a' (n + i) = sb_b (s i)) : sb_Lat (sb_cat t n s) (n + w) a' := by
  intro j hj
  by_cases e : j < n
  · rw [sb_cat_lo e, hk j e]
    exact h j e
  · obtain ⟨i, rfl⟩ : ∃ i, j = n + i := ⟨j - n, by omega⟩
    rw [sb_cat_hi]
    exact hs i (by omega)
theorem sb_latKeep {t : Nat → Nat} {n : Nat} {a a' : Nat → Int32} (h : sb_Lat t n a) (hk : ∀ j, j < n → a' j = a j) : sb_Lat t n a' := fun j hj => by
  rw [hk j hj]
  exact h j hj
def sb_cap (q m : Nat) : Nat := if q ≤ m then m else if 2 * m + 2 < q then q else 2 * m + 2
def sb_Room (q m mc ms : Nat) : Prop := q ≤ m ∨ (1 ≤ mc ∧ sb_cap q m ≤ ms ∧ sb_cap q m ≤ 65536)
theorem sb_cap_ge (q m : Nat) : q ≤ sb_cap q m := by
  unfold sb_cap
  split
  · omega
  · split <;> omega
theorem sb_cap_gem (q m : Nat) : m ≤ sb_cap q m := by
  unfold sb_cap
  split
  · omega
  · split <;> omega
theorem sb_cap_le {q m mc ms : Nat} (hm : m ≤ 65536) (hr : sb_Room q m mc ms) : sb_cap q m ≤ 65536 := by
  rcases hr with h | h
  · rw [sb_cap, if_pos h]
    exact hm
  · exact h.2.2
theorem sb_at {P : Int32 → Prop} {x y : Int32} (e : x = y) (h : P y) : P x := e ▸ h
def sb_dg (w : Nat) : Nat := if w < 10 then 1 else if w < 100 then 2 else if w < 1000 then 3 else if w < 10000 then 4 else if w < 100000 then 5 else if w < 1000000 then 6 else if w < 10000000 then 7 else if w < 100000000 then 8 else if w < 1000000000 then 9 else 10
def sb_dec (v : Nat) : Nat → Nat := fun i => 48 + v / 10 ^ (sb_dg v - 1 - i) % 10
theorem sb_dg_in (w : Nat) : 1 ≤ sb_dg w ∧ sb_dg w ≤ 10 := by
  unfold sb_dg
  constructor <;> (repeat' split) <;> omega
theorem sb_dg100 {w : Nat} (h : 100 ≤ w) (hw : w < 2 ^ 31) : sb_dg w = sb_dg (w / 100) + 2 := by
  rw [sb_dg, sb_dg, if_neg (show ¬ w < 10 by omega), if_neg (show ¬ w < 100 by omega)]
  by_cases h3 : w < 1000
  · rw [if_pos h3, if_pos (show w / 100 < 10 by omega)]
  rw [if_neg h3, if_neg (show ¬ w / 100 < 10 by omega)]
  by_cases h4 : w < 10000
  · rw [if_pos h4, if_pos (show w / 100 < 100 by omega)]
  rw [if_neg h4, if_neg (show ¬ w / 100 < 100 by omega)]
  by_cases h5 : w < 100000
  · rw [if_pos h5, if_pos (show w / 100 < 1000 by omega)]
  rw [if_neg h5, if_neg (show ¬ w / 100 < 1000 by omega)]
  by_cases h6 : w < 1000000
  · rw [if_pos h6, if_pos (show w / 100 < 10000 by omega)]
  rw [if_neg h6, if_neg (show ¬ w / 100 < 10000 by omega)]
  by_cases h7 : w < 10000000
  · rw [if_pos h7, if_pos (show w / 100 < 100000 by omega)]
  rw [if_neg h7, if_neg (show ¬ w / 100 < 100000 by omega)]
  by_cases h8 : w < 100000000
  · rw [if_pos h8, if_pos (show w / 100 < 1000000 by omega)]
  rw [if_neg h8, if_neg (show ¬ w / 100 < 1000000 by omega)]
  by_cases h9 : w < 1000000000
  · rw [if_pos h9, if_pos (show w / 100 < 10000000 by omega)]
  rw [if_neg h9, if_neg (show ¬ w / 100 < 10000000 by omega)]
  rw [if_pos (show w / 100 < 100000000 by omega)]
theorem sb_negT {w : Nat} (h : w < 2 ^ 31) : (-nI w).toInt = -(w : Int) := by
  rw [Int32.toInt_neg, nI_toInt h]
  exact Int.bmod_eq_of_le (by omega) (by omega)
theorem sb_nle {a b : Nat} (ha : a < 2 ^ 31) (hb : b < 2 ^ 31) : -nI a ≤ -nI b ↔ b ≤ a := by
  rw [Int32.le_iff_toInt_le, sb_negT ha, sb_negT hb]
  omega
theorem sb_nlt {a b : Nat} (ha : a < 2 ^ 31) (hb : b < 2 ^ 31) : -nI a < -nI b ↔ b < a := by
  rw [Int32.lt_iff_toInt_lt, sb_negT ha, sb_negT hb]
  omega
theorem sb_cmp {A B : Prop} {x : Int32} (v c : Nat) (f : c ≤ v → A) (g : v < c → B) (hv : v < 2 ^ 31) (hx : x = -nI c := by rfl) (hc : c < 2 ^ 31 := by omega) : (-nI v ≤ x → A) ∧ (¬ -nI v ≤ x → B) := by
  subst hx
  rw [sb_nle hv hc]
  exact ⟨f, fun z => g (by omega)⟩
theorem sb_ndiv {w : Nat} (hw : w < 2 ^ 31) : (-nI w) / 100 = -nI (w / 100) := by
  apply Int32.toInt_inj.mp
  have h100 : (100 : Int32).toInt = 100 := by decide
  rw [Int32.toInt_div, sb_negT hw, h100, sb_negT (by omega), Int.neg_tdiv, Int.tdiv_eq_ediv_of_nonneg (by omega), Int.bmod_eq_of_le (by omega) (by omega)]
  omega
theorem sb_nrem {w : Nat} (hw : w < 2 ^ 31) : (-nI (w / 100)) * 100 - (-nI w) = nI (w % 100) := by
  have h := pk_rem (a := w) (d := 100) hw (by decide) (by decide)
  rw [pk_div hw (by decide) (by decide)] at h
  rw [← h]
  show (-nI (w / 100)) * nI 100 - (-nI w) = nI w - nI (w / 100) * nI 100
  rw [Int32.neg_mul, Int32.sub_neg, Int32.add_comm, ← Int32.sub_eq_add_neg]
end
section
/-! rows on bits, shifts and unsigned numbers, to paste: each family out of a closed proof of our own, whole with what it rests on; each by itself clean at Lean in its own claim (generation 39, form 5). Take a family whole -/
/-! ===== Int32 by its bits: bt x i ===== -/
def bt (x : Int32) (i : Nat) : Bool := x.toBitVec.getLsbD i
theorem b_ext {x y : Int32} (h : ∀ i, i < 32 → bt x i = bt y i) : x = y := Int32.toBitVec_inj.mp (BitVec.eq_of_getLsbD_eq (fun i hi => h i hi))
theorem b_or (x y : Int32) (i : Nat) : bt (x ||| y) i = (bt x i || bt y i) := by unfold bt; rw [Int32.toBitVec_or, BitVec.getLsbD_or]
theorem b_and (x y : Int32) (i : Nat) : bt (x &&& y) i = (bt x i && bt y i) := by unfold bt; rw [Int32.toBitVec_and, BitVec.getLsbD_and]
theorem b_xor (x y : Int32) (i : Nat) : bt (x ^^^ y) i = (bt x i ^^ bt y i) := by unfold bt; rw [Int32.toBitVec_xor, BitVec.getLsbD_xor]
theorem b_big {x : Int32} {i : Nat} (h : 32 ≤ i) : bt x i = false := BitVec.getLsbD_of_ge _ _ h
theorem b_255 (i : Nat) : bt 255 i = decide (i < 8) := by
  rcases Nat.lt_or_ge i 32 with h | h
  · exact (by decide +kernel : ∀ i, i < 32 → bt 255 i = decide (i < 8)) i h
  · rw [b_big h, decide_eq_false (by omega)]
theorem b_65535 (i : Nat) : bt 65535 i = decide (i < 16) := by
  rcases Nat.lt_or_ge i 32 with h | h
  · exact (by decide +kernel : ∀ i, i < 32 → bt 65535 i = decide (i < 16)) i h
  · rw [b_big h, decide_eq_false (by omega)]
theorem b_m1 : ∀ i, i < 32 → bt (-1) i = true := by decide +kernel
theorem b_0 (i : Nat) : bt 0 i = false := BitVec.getLsbD_zero
theorem s_l : ∀ n, n < 32 → ((nI n &&& 31).toBitVec.smod 32).toNat = n := by decide +kernel
theorem s_u : ∀ n, n < 32 → (((nI n).toUInt32 &&& Int32.toUInt32 31).toBitVec % 32).toNat = n := by decide +kernel
theorem b_shl (n : Nat) (hn : n < 32) (x : Int32) {i : Nat} (hi : i < 32) : bt (x <<< (nI n &&& 31)) i = (decide (n ≤ i) && bt x (i - n)) := by
  unfold bt
  rw [Int32.toBitVec_shiftLeft]
  show (x.toBitVec <<< ((nI n &&& 31).toBitVec.smod 32).toNat).getLsbD i = _
  rw [s_l n hn, BitVec.getLsbD_shiftLeft]
  rcases Nat.lt_or_ge i n with h | h
  · simp [h, Nat.not_le.mpr h]
  · simp [hi, h, Nat.not_lt.mpr h]
theorem b_ushr (n : Nat) (hn : n < 32) (x : Int32) (i : Nat) : bt ((x.toUInt32 >>> ((nI n).toUInt32 &&& Int32.toUInt32 31)).toInt32) i = bt x (n + i) := by
  show (x.toUInt32 >>> ((nI n).toUInt32 &&& Int32.toUInt32 31)).toBitVec.getLsbD i = x.toUInt32.toBitVec.getLsbD (n + i)
  rw [UInt32.toBitVec_shiftRight]
  show (x.toUInt32.toBitVec >>> (((nI n).toUInt32 &&& Int32.toUInt32 31).toBitVec % 32).toNat).getLsbD i = _
  rw [s_u n hn, BitVec.getLsbD_ushiftRight]
theorem b_sshr (n : Nat) (hn : n < 32) (x : Int32) {i : Nat} (hi : i < 32) : bt (x >>> (nI n &&& 31)) i = if n + i < 32 then bt x (n + i) else bt x 31 := by
  unfold bt
  rw [Int32.toBitVec_shiftRight]
  show (x.toBitVec.sshiftRight ((nI n &&& 31).toBitVec.smod 32).toNat).getLsbD i = _
  rw [s_l n hn, BitVec.getLsbD_sshiftRight, BitVec.msb_eq_getLsbD_last]
  simp [hi]
theorem b_shl8 (x : Int32) {i : Nat} (hi : i < 32) : bt (x <<< ((8 : Int32) &&& 31)) i = (decide (8 ≤ i) && bt x (i - 8)) := b_shl 8 (by omega) x hi
theorem b_shl16 (x : Int32) {i : Nat} (hi : i < 32) : bt (x <<< ((16 : Int32) &&& 31)) i = (decide (16 ≤ i) && bt x (i - 16)) := b_shl 16 (by omega) x hi
theorem b_shl24 (x : Int32) {i : Nat} (hi : i < 32) : bt (x <<< ((24 : Int32) &&& 31)) i = (decide (24 ≤ i) && bt x (i - 24)) := b_shl 24 (by omega) x hi
theorem b_sshr8 (x : Int32) {i : Nat} (hi : i < 32) : bt (x >>> ((8 : Int32) &&& 31)) i = if 8 + i < 32 then bt x (8 + i) else bt x 31 := b_sshr 8 (by omega) x hi
/-! ===== nI under and, xor, >>>, one bit, 65535 ===== -/
theorem nx_and (a b : Nat) : nI a &&& nI b = nI (a &&& b) := by
  apply Int32.toBitVec_inj.1
  show BitVec.ofNat 32 a &&& BitVec.ofNat 32 b = BitVec.ofNat 32 (a &&& b)
  apply BitVec.eq_of_getLsbD_eq
  intro i hi
  simp [hi]
theorem nx_xor (a b : Nat) : nI a ^^^ nI b = nI (a ^^^ b) := by
  apply Int32.toBitVec_inj.1
  show BitVec.ofNat 32 a ^^^ BitVec.ofNat 32 b = BitVec.ofNat 32 (a ^^^ b)
  apply BitVec.eq_of_getLsbD_eq
  intro i hi
  simp [hi]
theorem nx_cnt : ∀ j : Fin 32, (UInt32.ofNat j.val &&& Int32.toUInt32 31).toNat % 32 = j.val := by decide +kernel
theorem nx_ush {k j : Nat} (hk : k < 65536) (hj : j < 32) : ((nI k).toUInt32 >>> ((nI j).toUInt32 &&& Int32.toUInt32 31)).toInt32 = nI (k >>> j) := by
  have hs : k >>> j ≤ k := by
    rw [Nat.shiftRight_eq_div_pow]
    exact Nat.div_le_self _ _
  have e2 : UInt32.ofNat k >>> (UInt32.ofNat j &&& Int32.toUInt32 31) = UInt32.ofNat (k >>> j) := by
    apply UInt32.toNat_inj.1
    have h1 : (UInt32.ofNat k).toNat = k := Nat.mod_eq_of_lt (by omega)
    have h2 : (UInt32.ofNat (k >>> j)).toNat = k >>> j := Nat.mod_eq_of_lt (by omega)
    rw [UInt32.toNat_shiftRight, nx_cnt ⟨j, hj⟩, h1, h2]
  show (UInt32.ofNat k >>> (UInt32.ofNat j &&& Int32.toUInt32 31)).toInt32 = _
  rw [e2]
  rfl
theorem nx_bit {k j : Nat} (hk : k < 65536) (hj : j < 16) : (((nI k).toUInt32 >>> ((nI j).toUInt32 &&& Int32.toUInt32 31)).toInt32 &&& 1) = 0 ↔ k.testBit j = false := by
  rw [nx_ush hk (by omega)]
  show nI (k >>> j) &&& nI 1 = 0 ↔ _
  rw [nx_and, Nat.and_one_is_mod, ← nI_0, nI_eq (by omega) (by omega), Nat.testBit_eq_decide_div_mod_eq, Nat.shiftRight_eq_div_pow, decide_eq_false_iff_not]
  generalize k / 2 ^ j = z
  omega
theorem nx_mod (k : Nat) : nI k &&& 65535 = nI (k % 65536) := by
  show nI k &&& nI 65535 = _
  rw [nx_and, show (65535 : Nat) = 2 ^ 16 - 1 from rfl, Nat.and_two_pow_sub_one_eq_mod]
theorem nx_m16 {k : Nat} (h : k < 65536) : nI k &&& 65535 = nI k := by rw [nx_mod, Nat.mod_eq_of_lt h]
theorem nx_mask (x : Int32) : ∃ k, k < 65536 ∧ x &&& 65535 = nI k := by
  have e : x = nI x.toBitVec.toNat := by
    apply Int32.toBitVec_inj.1
    show x.toBitVec = BitVec.ofNat 32 x.toBitVec.toNat
    simp
  refine ⟨x.toBitVec.toNat % 65536, Nat.mod_lt _ (by omega), ?_⟩
  rw [← nx_mod, ← e]
/-! ===== Int32 as a set of bits: test, set ===== -/
def nf_M (m : Int32) : Nat := 4294967296 - m.toBitVec.toNat
theorem nf_sh : ∀ l, l < 32 → ((1 : Int32) <<< (nI l &&& 31)).toBitVec = BitVec.twoPow 32 l := by decide +kernel
theorem nf_sl : ∀ l, l < 32 → (((nI l).toUInt32 &&& Int32.toUInt32 31).toBitVec % 32).toNat = l := by decide +kernel
theorem nf_tp : ∀ l, l < 32 → BitVec.twoPow 32 l ≠ 0#32 := by decide +kernel
theorem nf_bit (m : Int32) (l : Nat) (hl : l < 32) : ((m.toUInt32 >>> ((nI l).toUInt32 &&& Int32.toUInt32 31)).toInt32 &&& 1) = 0 ↔ (m &&& ((1 : Int32) <<< (nI l &&& 31))) = 0 := by
  have e : ((m.toUInt32 >>> ((nI l).toUInt32 &&& Int32.toUInt32 31)).toInt32).toBitVec = m.toBitVec >>> l := by
    show m.toBitVec >>> (((nI l).toUInt32 &&& Int32.toUInt32 31).toBitVec % 32) = m.toBitVec >>> l
    rw [BitVec.ushiftRight_eq', nf_sl l hl]
  rw [← Int32.toBitVec_inj, ← Int32.toBitVec_inj, Int32.toBitVec_and, Int32.toBitVec_and, nf_sh l hl, e, BitVec.and_twoPow]
  show (m.toBitVec >>> l &&& 1#32) = 0#32 ↔ _ = 0#32
  rw [BitVec.and_one_eq_setWidth_ofBool_getLsbD, BitVec.getLsbD_ushiftRight, Nat.add_zero]
  cases hb : m.toBitVec.getLsbD l
  · exact ⟨fun _ => by simp, fun _ => by decide⟩
  · exact ⟨fun z => absurd z (by decide), fun z => absurd ((if_pos rfl).symm.trans z) (nf_tp l hl)⟩
theorem nf_gr (m k : Int32) (h : m &&& k = 0) (hk : k ≠ 0) : nf_M (m ||| k) < nf_M m := by
  have hm := m.toBitVec.isLt
  have hm' := (m ||| k).toBitVec.isLt
  have h1 : m.toBitVec.toNat ≤ (m ||| k).toBitVec.toNat := by
    rw [Int32.toBitVec_or, BitVec.toNat_or]
    exact Nat.left_le_or
  have h2 : m.toBitVec.toNat ≠ (m ||| k).toBitVec.toNat := by
    intro e
    have e2 : m = m ||| k := Int32.toBitVec_inj.mp (BitVec.eq_of_toNat_eq e)
    apply hk
    apply Int32.toBitVec_inj.mp
    show k.toBitVec = 0#32
    apply BitVec.eq_of_getLsbD_eq
    intro i hi
    have a : m.toBitVec.getLsbD i = (m.toBitVec.getLsbD i || k.toBitVec.getLsbD i) := by rw [← BitVec.getLsbD_or, ← Int32.toBitVec_or, ← e2]
    have b : (m.toBitVec.getLsbD i && k.toBitVec.getLsbD i) = false := by
      rw [← BitVec.getLsbD_and, ← Int32.toBitVec_and, h]
      exact BitVec.getLsbD_zero
    rw [BitVec.getLsbD_zero]
    revert a b
    cases m.toBitVec.getLsbD i <;> cases k.toBitVec.getLsbD i <;> simp
  unfold nf_M
  omega
/-! ===== a byte read unsigned ===== -/
theorem bp_b (x : Int32) : x.toInt8.toInt32 &&& 255 = x &&& 255 := by
  apply Int32.toBitVec_inj.mp
  rw [Int32.toBitVec_and, Int32.toBitVec_and, Int8.toBitVec_toInt32, Int32.toBitVec_toInt8]
  apply BitVec.eq_of_getLsbD_eq
  intro i hi
  rw [BitVec.getLsbD_and, BitVec.getLsbD_and]
  have hm : ∀ i < 32, 8 ≤ i → (255 : Int32).toBitVec.getLsbD i = false := by decide
  rcases Nat.lt_or_ge i 8 with z | z
  · rw [BitVec.getLsbD_signExtend, BitVec.getLsbD_signExtend, if_pos z, if_pos hi]
    simp only [z, hi, decide_true, Bool.true_and]
  · rw [hm i hi z]; simp
/-! ===== the char cast and 65535 ===== -/
theorem em_w (v : Int32) : ∃ w : Nat, w < 65536 ∧ (v.toUInt32 % 65536).toInt32 = nI w ∧ v &&& 65535 = nI w := by
  have hr := lw_u16_r v
  have h0 : (0 : Int32).toInt = 0 := by decide
  obtain ⟨w, h1, h2⟩ := nI_of (x := lw_u16 v) (by rw [Int32.lt_iff_toInt_lt]; omega)
  have h3 : (v.toUInt32 % 65536).toInt32 = nI w := h2
  rw [h2, nI_toInt h1] at hr
  exact ⟨w, by omega, h3, by rw [← lg_i2c_mask, ← lg_i2c_nf, h3]⟩
/-! ===== Int64 as a set of bits: test, set, clear ===== -/
theorem ts_nf {x : Bool} (h : ¬ x = false) : x = true := by cases x <;> first | rfl | exact absurd rfl h
theorem ts_nt {x : Bool} (h : ¬ x = true) : x = false := by cases x <;> first | rfl | exact absurd rfl h
theorem ts_bit {w : Int64} {s : UInt64} {j : Nat} (hj : j < 64) (hs : s.toNat = j) : ((w.toUInt64 >>> s).toInt64 &&& 1) = 0 ↔ w.toBitVec.getLsbD j = false := by
  have e : (w.toUInt64 >>> s).toInt64.toBitVec = w.toBitVec >>> j := by
    apply BitVec.eq_of_toNat_eq
    show (w.toUInt64 >>> s).toNat = _
    rw [UInt64.toNat_shiftRight, hs, Nat.mod_eq_of_lt hj, BitVec.toNat_ushiftRight]
    rfl
  rw [← Int64.toBitVec_inj, Int64.toBitVec_and, e]
  show w.toBitVec >>> j &&& 1#64 = 0#64 ↔ _
  constructor
  · intro h
    have t := congrArg (fun x => x.getLsbD 0) h
    simpa using t
  · intro h
    apply BitVec.eq_of_getLsbD_eq
    intro i hi
    cases i with
    | zero => simp [h]
    | succ i => simp
theorem ts_or {w m : Int64} {j : Nat} (hj : j < 64) (hm : m.toBitVec = BitVec.twoPow 64 j) : (w ||| m) = w ↔ w.toBitVec.getLsbD j = true := by
  rw [← Int64.toBitVec_inj, Int64.toBitVec_or, hm]
  constructor
  · intro h
    have t := congrArg (fun x => x.getLsbD j) h
    simp only [BitVec.getLsbD_or, BitVec.getLsbD_twoPow] at t
    simpa [hj] using t.symm
  · intro h
    apply BitVec.eq_of_getLsbD_eq
    intro i hi
    rw [BitVec.getLsbD_or, BitVec.getLsbD_twoPow]
    by_cases e : j = i
    · subst e; rw [h, Bool.true_or]
    · simp [e]
theorem ts_and {w m : Int64} {j : Nat} (hj : j < 64) (hm : m.toBitVec = BitVec.twoPow 64 j) : (w &&& (m ^^^ (-1))) = w ↔ w.toBitVec.getLsbD j = false := by
  have ha : (-1 : Int64).toBitVec = BitVec.allOnes 64 := by decide
  rw [← Int64.toBitVec_inj, Int64.toBitVec_and, Int64.toBitVec_xor, hm, ha]
  constructor
  · intro h
    have t := congrArg (fun x => x.getLsbD j) h
    simp only [BitVec.getLsbD_and, BitVec.getLsbD_xor, BitVec.getLsbD_twoPow, BitVec.getLsbD_allOnes] at t
    simpa [hj] using t.symm
  · intro h
    apply BitVec.eq_of_getLsbD_eq
    intro i hi
    rw [BitVec.getLsbD_and, BitVec.getLsbD_xor, BitVec.getLsbD_twoPow, BitVec.getLsbD_allOnes]
    by_cases e : j = i
    · subst e; rw [h, Bool.false_and]
    · simp [e, hi]
/-! ===== lN n to 2^64: shifts, and, or, masks, one bit ===== -/
theorem wb_tb (n : Nat) : (lN n).toBitVec = BitVec.ofNat 64 n := rfl
theorem wb_inj {a b : Int64} (h : a.toBitVec = b.toBitVec) : a = b := Int64.toBitVec_inj.mp h
theorem wb_tn {n : Nat} (h : n < 2 ^ 64) : (lN n).toBitVec.toNat = n := by rw [wb_tb, BitVec.toNat_ofNat, Nat.mod_eq_of_lt h]
theorem wb_of (x : Int64) : ∃ n, n < 2 ^ 64 ∧ x = lN n := ⟨x.toBitVec.toNat, x.toBitVec.isLt, wb_inj (by rw [wb_tb]; simp)⟩
theorem wb_of32 (x : Int32) : ∃ n, n < 2 ^ 32 ∧ x = nI n := ⟨x.toBitVec.toNat, x.toBitVec.isLt, Int32.toBitVec_inj.mp (by show _ = BitVec.ofNat 32 _; simp)⟩
theorem wb_c : ∀ k, k < 64 → ((nI k).toInt64 &&& 63) = lN k := by decide +kernel
theorem wb_cu : ∀ k, k < 64 → ((nI k).toInt64.toUInt64 &&& Int64.toUInt64 63) = UInt64.ofNat k := by decide +kernel
theorem wb_sm : ∀ k, k < 64 → (BitVec.ofNat 64 k).smod 64 = BitVec.ofNat 64 k := by decide +kernel
theorem wb_pw {a b : Nat} (h : a ≤ b) : 2 ^ b = 2 ^ a * 2 ^ (b - a) := by rw [← Nat.pow_add]; congr 1; omega
theorem wb_lt2 {a b : Nat} (h : a < b) : 2 ^ a < 2 ^ b := Nat.pow_lt_pow_right (by decide) h
theorem wb_mod (n : Nat) : lN n = lN (n % 2 ^ 64) := wb_inj (by rw [wb_tb, wb_tb]; apply BitVec.eq_of_toNat_eq; rw [BitVec.toNat_ofNat, BitVec.toNat_ofNat, Nat.mod_mod])
theorem wb_shr {n k : Nat} (hn : n < 2 ^ 64) (hk : k < 64) : ((lN n).toUInt64 >>> ((nI k).toInt64.toUInt64 &&& Int64.toUInt64 63)).toInt64 = lN (n / 2 ^ k) := by
  rw [wb_cu k hk]
  apply wb_inj
  apply BitVec.eq_of_toNat_eq
  show ((lN n).toUInt64 >>> UInt64.ofNat k).toNat = (BitVec.ofNat 64 _).toNat
  have h1 : (UInt64.ofNat k).toNat = k := by
    show (BitVec.ofNat 64 k).toNat = k
    rw [BitVec.toNat_ofNat, Nat.mod_eq_of_lt (by omega)]
  have h2 : (lN n).toUInt64.toNat = n := wb_tn hn
  rw [UInt64.toNat_shiftRight, h1, h2, Nat.mod_eq_of_lt hk, Nat.shiftRight_eq_div_pow, BitVec.toNat_ofNat, Nat.mod_eq_of_lt (Nat.lt_of_le_of_lt (Nat.div_le_self _ _) hn)]
theorem wb_shl (n : Nat) {k : Nat} (hk : k < 64) : lN n <<< ((nI k).toInt64 &&& 63) = lN (n * 2 ^ k) := by
  rw [wb_c k hk]
  apply wb_inj
  rw [Int64.toBitVec_shiftLeft, wb_tb, wb_tb, wb_tb, wb_sm k hk]
  apply BitVec.eq_of_toNat_eq
  rw [BitVec.shiftLeft_eq', BitVec.toNat_shiftLeft, BitVec.toNat_ofNat, BitVec.toNat_ofNat, BitVec.toNat_ofNat, Nat.mod_eq_of_lt (show k < 2 ^ 64 by omega), Nat.shiftLeft_eq, Nat.mul_mod, Nat.mod_mod, ← Nat.mul_mod]
theorem wb_and {a b : Nat} (ha : a < 2 ^ 64) (hb : b < 2 ^ 64) : lN a &&& lN b = lN (a &&& b) := by
  apply wb_inj
  rw [Int64.toBitVec_and, wb_tb, wb_tb, wb_tb]
  apply BitVec.eq_of_toNat_eq
  rw [BitVec.toNat_and, BitVec.toNat_ofNat, BitVec.toNat_ofNat, BitVec.toNat_ofNat, Nat.mod_eq_of_lt ha, Nat.mod_eq_of_lt hb, Nat.mod_eq_of_lt (Nat.and_lt_two_pow _ hb)]
theorem wb_or {a b : Nat} (ha : a < 2 ^ 64) (hb : b < 2 ^ 64) : lN a ||| lN b = lN (a ||| b) := by
  apply wb_inj
  rw [Int64.toBitVec_or, wb_tb, wb_tb, wb_tb]
  apply BitVec.eq_of_toNat_eq
  rw [BitVec.toNat_or, BitVec.toNat_ofNat, BitVec.toNat_ofNat, BitVec.toNat_ofNat, Nat.mod_eq_of_lt ha, Nat.mod_eq_of_lt hb, Nat.mod_eq_of_lt (Nat.or_lt_two_pow ha hb)]
theorem wb_mask {n k : Nat} (hn : n < 2 ^ 64) (hk : k < 64) : lN n &&& lN (2 ^ k - 1) = lN (n % 2 ^ k) := by
  rw [wb_and hn (by have := wb_lt2 hk; omega), Nat.and_two_pow_sub_one_eq_mod]
theorem wb_a1 {n : Nat} (hn : n < 2 ^ 64) : lN n &&& 1 = lN (n % 2) := wb_mask (k := 1) hn (by decide)
theorem wb_bit {n k : Nat} (hn : n < 2 ^ 64) (hk : k < 64) : ((lN n).toUInt64 >>> ((nI k).toInt64.toUInt64 &&& Int64.toUInt64 63)).toInt64 &&& 1 = lN (n / 2 ^ k % 2) := by
  rw [wb_shr hn hk, wb_a1 (Nat.lt_of_le_of_lt (Nat.div_le_self _ _) hn)]
theorem wb_xor {q k : Nat} (hk : k < 63) (h : 2 ^ k ≤ q) (h2 : q < 2 ^ (k + 1)) : lN q ^^^ lN (2 ^ k) = lN (q - 2 ^ k) := by
  obtain ⟨r, rfl⟩ : ∃ r, q = 2 ^ k + r := ⟨q - 2 ^ k, by omega⟩
  have hr : r < 2 ^ k := by rw [Nat.pow_succ] at h2; omega
  have hx : (2 ^ k + r) ^^^ 2 ^ k = r := by
    apply Nat.eq_of_testBit_eq
    intro i
    rw [Nat.testBit_xor, Nat.testBit_two_pow]
    rcases Nat.lt_trichotomy i k with h | h | h
    · rw [Nat.testBit_two_pow_add_gt h]
      simp [show ¬ k = i by omega]
    · subst h
      rw [Nat.testBit_two_pow_add_eq]
      simp
    · have a1 : 2 ^ (k + 1) ≤ 2 ^ i := Nat.pow_le_pow_right (by decide) h
      rw [Nat.testBit_lt_two_pow (show 2 ^ k + r < 2 ^ i by omega), Nat.testBit_lt_two_pow (show r < 2 ^ i by omega)]
      simp [show ¬ k = i by omega]
  have b1 := wb_lt2 (show k + 1 < 64 by omega)
  have b2 := wb_lt2 (show k < 64 by omega)
  apply wb_inj
  rw [Int64.toBitVec_xor, wb_tb, wb_tb, wb_tb]
  apply BitVec.eq_of_toNat_eq
  rw [BitVec.toNat_xor, BitVec.toNat_ofNat, BitVec.toNat_ofNat, BitVec.toNat_ofNat, Nat.mod_eq_of_lt (by omega : 2 ^ k + r < 2 ^ 64), Nat.mod_eq_of_lt b2, hx, Nat.add_sub_cancel_left, Nat.mod_eq_of_lt (by omega)]
/-! ===== lN: masks, 'or' of parts that don't overlap is a sum ===== -/
theorem u_tn {n : Nat} (h : n < 2 ^ 64) : (UInt64.ofNat n).toNat = n := Nat.mod_eq_of_lt h
theorem g_and {a b c : Nat} (ha : a < 2 ^ 64) (hb : b < 2 ^ 64) (hc : a &&& b = c) : lN a &&& lN b = lN c := by
  subst hc
  have h : UInt64.ofNat a &&& UInt64.ofNat b = UInt64.ofNat (a &&& b) := UInt64.toNat_inj.mp (by rw [UInt64.toNat_and, u_tn ha, u_tn hb, u_tn (Nat.and_lt_two_pow a hb)])
  have h2 := congrArg UInt64.toInt64 h
  exact h2
theorem g_and1 {a : Nat} (ha : a < 2 ^ 64) : lN a &&& 1 = lN (a % 2) := g_and (b := 1) ha (by decide) (Nat.and_two_pow_sub_one_eq_mod a 1)
theorem g_mask {a s p : Nat} (hp : 2 ^ s = p) (hs : s < 64) (ha : a < 2 ^ 64) : lN a &&& lN (p - 1) = lN (a % p) := by
  subst hp
  have := Nat.pow_lt_pow_right (show 1 < 2 by decide) hs
  exact g_and ha (by omega) (Nat.and_two_pow_sub_one_eq_mod a s)
theorem g_or {k p a b : Nat} (hp : 2 ^ k = p) (ha : a < p) (h : b * p + a < 2 ^ 64) : lN (b * p) ||| lN a = lN (b * p + a) := by
  subst hp
  have h1 : b * 2 ^ k ||| a = b * 2 ^ k + a := by rw [← Nat.shiftLeft_eq, Nat.shiftLeft_add_eq_or_of_lt ha]
  have h3 : UInt64.ofNat (b * 2 ^ k) ||| UInt64.ofNat a = UInt64.ofNat (b * 2 ^ k + a) := UInt64.toNat_inj.mp (by rw [UInt64.toNat_or, u_tn (by omega), u_tn (by omega), u_tn h, h1])
  have h2 := congrArg UInt64.toInt64 h3
  exact h2
theorem g_or' {k p a b : Nat} (hp : 2 ^ k = p) (ha : a < p) (h : a + b * p < 2 ^ 64) : lN a ||| lN (b * p) = lN (a + b * p) := by
  rw [Int64.or_comm, g_or hp ha (by omega), Nat.add_comm]
theorem g_ushr {a k p : Nat} {y : UInt64} (hy : y = UInt64.ofNat k) (hk : k < 64) (hp : 2 ^ k = p) (ha : a < 2 ^ 64) : ((lN a).toUInt64 >>> y).toInt64 = lN (a / p) := by
  subst hy hp
  have h : UInt64.ofNat a >>> UInt64.ofNat k = UInt64.ofNat (a / 2 ^ k) := UInt64.toNat_inj.mp (by rw [UInt64.toNat_shiftRight, u_tn ha, u_tn (by omega), u_tn (Nat.lt_of_le_of_lt (Nat.div_le_self _ _) ha), Nat.mod_eq_of_lt hk, Nat.shiftRight_eq_div_pow])
  have h2 := congrArg UInt64.toInt64 h
  exact h2
theorem g_shl {a k p : Nat} {y : Int64} (hy : y.toBitVec.smod 64 = BitVec.ofNat 64 k) (hk : k < 64) (hp : 2 ^ k = p) (ha : a < 2 ^ 64) : lN a <<< y = lN (a * p) := by
  subst hp
  apply Int64.toBitVec_inj.mp
  rw [Int64.toBitVec_shiftLeft, hy]
  apply BitVec.eq_of_toNat_eq
  have hb : (lN a).toBitVec.toNat = a := Nat.mod_eq_of_lt ha
  have hk' : (BitVec.ofNat 64 k).toNat = k := Nat.mod_eq_of_lt (by omega)
  have h : ((lN a).toBitVec <<< BitVec.ofNat 64 k).toNat = (a * 2 ^ k) % 2 ^ 64 := by simp only [BitVec.shiftLeft_eq', BitVec.toNat_shiftLeft, hb, hk', Nat.shiftLeft_eq]
  exact h
/-! ===== lN to 2^62 under >> and >>> ===== -/
theorem pf_lI {a : Nat} (h : a < 2 ^ 63) : (lN a).toInt = (a : Int) := lg_ofNat_toInt h
theorem pf_shr {a d : Nat} {D : Int64} (hD : (D.toBitVec.smod 64).toNat = d) (h : a < 2 ^ 62) : lN a >>> D = lN (a / 2 ^ d) := by
  have hd : a / 2 ^ d ≤ a := Nat.div_le_self _ _
  apply Int64.toInt_inj.mp
  have e : (lN a >>> D).toInt = (lN a).toInt >>> d := by
    rw [← hD]
    exact BitVec.toInt_sshiftRight ..
  rw [e, Int.shiftRight_eq_div_pow, pf_lI (by omega), pf_lI (by omega)]
  rfl
theorem pf_ushr {a d : Nat} {D : UInt64} (hD : D.toNat % 64 = d) (h : a < 2 ^ 62) : ((lN a).toUInt64 >>> D).toInt64 = lN (a / 2 ^ d) := by
  have hd : a / 2 ^ d ≤ a := Nat.div_le_self _ _
  have e : (lN a).toUInt64 >>> D = UInt64.ofNat (a / 2 ^ d) := UInt64.toNat_inj.mp (by
    rw [UInt64.toNat_shiftRight, hD, Nat.shiftRight_eq_div_pow, UInt64.toNat_ofNat']
    show (UInt64.ofNat a).toNat / 2 ^ d = _
    rw [UInt64.toNat_ofNat', Nat.mod_eq_of_lt (by omega), Nat.mod_eq_of_lt (by omega)])
  rw [e]
  rfl
theorem pf_andw (x : Int64) : ∃ m, m < 2 ^ 32 ∧ x &&& 4294967295 = lN m := ⟨x.toBitVec.toNat % 2 ^ 32, Nat.mod_lt _ (by decide), Int64.toBitVec_inj.mp (BitVec.eq_of_toNat_eq (by
  show (x.toBitVec &&& 4294967295#64).toNat = (BitVec.ofNat 64 (x.toBitVec.toNat % 2 ^ 32)).toNat
  rw [BitVec.toNat_and, show (4294967295#64).toNat = 2 ^ 32 - 1 from by decide, Nat.and_two_pow_sub_one_eq_mod, BitVec.toNat_ofNat]
  omega))⟩
/-! ===== Int64 as an unsigned number: uN x ===== -/
def uN (x : Int64) : Nat := x.toUInt64.toNat
theorem uN_lt (x : Int64) : uN x < 18446744073709551616 := x.toUInt64.toNat_lt
theorem uN_inj {x y : Int64} (h : uN x = uN y) : x = y := congrArg UInt64.toInt64 (UInt64.toNat_inj.mp h)
theorem uN_add (x y : Int64) : uN (x + y) = (uN x + uN y) % 18446744073709551616 := by
  show (x.toUInt64 + y.toUInt64).toNat = _
  exact UInt64.toNat_add _ _
theorem uN_mul (x y : Int64) : uN (x * y) = (uN x * uN y) % 18446744073709551616 := by
  show (x.toUInt64 * y.toUInt64).toNat = _
  exact UInt64.toNat_mul _ _
theorem uN_shl (x : Int64) : uN (x <<< ((1 : Int32).toInt64 &&& 63)) = (2 * uN x) % 18446744073709551616 := by
  have h : (((1 : Int32).toInt64 &&& 63).toBitVec.smod 64).toNat = 1 := by decide
  show (x.toBitVec <<< (((1 : Int32).toInt64 &&& 63).toBitVec.smod 64).toNat).toNat = _
  rw [h, BitVec.toNat_shiftLeft, Nat.shiftLeft_eq, Nat.mul_comm]
  rfl
theorem uN_shr (x : Int64) (s : UInt64) : uN (x.toUInt64 >>> s).toInt64 = uN x / 2 ^ (s.toNat % 64) := by
  show (x.toUInt64 >>> s).toNat = _
  rw [UInt64.toNat_shiftRight, Nat.shiftRight_eq_div_pow]
  rfl
theorem uN_s32 (x : Int64) : uN (x.toUInt64 >>> ((32 : Int32).toInt64.toUInt64 &&& Int64.toUInt64 63)).toInt64 = uN x / 4294967296 := by
  have h : ((32 : Int32).toInt64.toUInt64 &&& Int64.toUInt64 63).toNat % 64 = 32 := by decide
  rw [uN_shr, h]
theorem uN_s63 (x : Int64) : uN (x.toUInt64 >>> ((63 : Int32).toInt64.toUInt64 &&& Int64.toUInt64 63)).toInt64 = uN x / 9223372036854775808 := by
  have h : ((63 : Int32).toInt64.toUInt64 &&& Int64.toUInt64 63).toNat % 64 = 63 := by decide
  rw [uN_shr, h]
theorem uN_lo (x : Int64) : uN (x &&& 4294967295) = uN x % 4294967296 := by
  show (x.toUInt64 &&& Int64.toUInt64 4294967295).toNat = _
  rw [UInt64.toNat_and]
  exact Nat.and_two_pow_sub_one_eq_mod _ 32
theorem uN_bit (x : Int64) : (x &&& 1) = 0 ↔ uN x % 2 = 0 := by
  have h : uN (x &&& 1) = uN x % 2 := by
    show (x.toUInt64 &&& Int64.toUInt64 1).toNat = _
    rw [UInt64.toNat_and]
    exact Nat.and_two_pow_sub_one_eq_mod _ 1
  rw [← h]
  exact ⟨fun z => by rw [z]; rfl, fun z => uN_inj (z.trans rfl)⟩
theorem uN_or {x y : Int64} (hy : uN y < 2) : uN ((x <<< ((1 : Int32).toInt64 &&& 63)) ||| y) = (2 * uN x) % 18446744073709551616 + uN y := by
  have h1 : uN ((x <<< ((1 : Int32).toInt64 &&& 63)) ||| y) = uN (x <<< ((1 : Int32).toInt64 &&& 63)) ||| uN y := UInt64.toNat_or _ _
  have h2 : (2 * uN x) % 18446744073709551616 = 2 ^ 1 * (uN x % 9223372036854775808) := by omega
  rw [h1, uN_shl, h2]
  exact (Nat.two_pow_add_eq_or_of_lt (i := 1) hy _).symm
theorem nat_xor {a : Nat} (h : a < 18446744073709551616) : a ^^^ 2 ^ 63 = (a + 9223372036854775808) % 18446744073709551616 := by
  have h1 : (a ^^^ 2 ^ 63) % 2 ^ 63 = a % 2 ^ 63 := by rw [Nat.xor_mod_two_pow, Nat.mod_self, Nat.xor_zero]
  have h2 : (a ^^^ 2 ^ 63) / 2 ^ 63 = (a / 2 ^ 63) ^^^ 1 := by rw [Nat.xor_div_two_pow, Nat.div_self (Nat.two_pow_pos 63)]
  have h3 : a / 2 ^ 63 = 0 ∨ a / 2 ^ 63 = 1 := by omega
  generalize a ^^^ 2 ^ 63 = t at h1 h2
  rcases h3 with h3 | h3
  · rw [h3] at h2
    have h2 : t / 2 ^ 63 = 1 := h2
    omega
  · rw [h3] at h2
    have h2 : t / 2 ^ 63 = 0 := h2
    omega
theorem uN_xor (x : Int64) : uN (x ^^^ (-9223372036854775808)) = (uN x + 9223372036854775808) % 18446744073709551616 := by
  rw [← nat_xor (uN_lt x)]
  exact UInt64.toNat_xor _ _
theorem uN_int (x : Int64) : x.toInt = if 2 * uN x < 18446744073709551616 then (uN x : Int) else (uN x : Int) - 18446744073709551616 := BitVec.toInt_eq_toNat_cond _
theorem uN_le (x y : Int64) : (x ^^^ (-9223372036854775808)) ≤ (y ^^^ (-9223372036854775808)) ↔ uN x ≤ uN y := by
  have hx := uN_lt x
  have hy := uN_lt y
  rw [Int64.le_iff_toInt_le, uN_int, uN_int, uN_xor, uN_xor]
  omega
theorem uN_sk (x : Int64) {k : Nat} (hk : k < 64) : uN (x.toUInt64 >>> ((nI k).toInt64.toUInt64 &&& Int64.toUInt64 63)).toInt64 = uN x / 2 ^ k := by
  have h : ((nI k).toInt64.toUInt64 &&& Int64.toUInt64 63).toNat % 64 = k := by
    rw [nI_l (by omega), UInt64.toNat_and]
    have e : (lN k).toUInt64.toNat = k % 2 ^ 64 := rfl
    have e2 : (Int64.toUInt64 63).toNat = 2 ^ 6 - 1 := by decide
    rw [e, e2, Nat.and_two_pow_sub_one_eq_mod]
    omega
  rw [uN_shr, h]
/-! ===== unsigned comparison by xor with the least ===== -/
theorem lN_bv (n : Nat) : (lN n).toBitVec = BitVec.ofNat 64 n := rfl
theorem lN_nat {n : Nat} (h : n < 2 ^ 64) : (lN n).toBitVec.toNat = n := by rw [lN_bv, BitVec.toNat_ofNat]; exact Nat.mod_eq_of_lt h
theorem lN_xor (a b : Nat) : lN a ^^^ lN b = lN (a ^^^ b) := by
  apply Int64.toBitVec_inj.mp; rw [Int64.toBitVec_xor, lN_bv, lN_bv, lN_bv]; apply BitVec.eq_of_getLsbD_eq; intro i hi; simp [BitVec.getLsbD_ofNat, Nat.testBit_xor, hi]
theorem lN_ti {m : Nat} (h : m < 2 ^ 64) : (lN m).toInt = if m < 2 ^ 63 then (m : Int) else (m : Int) - 2 ^ 64 := by
  have c := BitVec.toInt_eq_toNat_cond (lN m).toBitVec
  rw [lN_nat h] at c
  show (lN m).toBitVec.toInt = _
  rw [c]
  split <;> split <;> omega
theorem xor63 {x : Nat} (h : x < 2 ^ 63) : x ^^^ 2 ^ 63 = 2 ^ 63 + x := by
  apply Nat.eq_of_testBit_eq
  intro i
  rw [Nat.testBit_xor, Nat.testBit_two_pow]
  rcases Nat.lt_trichotomy i 63 with z | z | z
  · rw [Nat.testBit_two_pow_add_gt z, decide_eq_false (by omega)]; simp
  · subst z; rw [Nat.testBit_two_pow_add_eq]; simp
  · have hp : 2 ^ 64 ≤ 2 ^ i := Nat.pow_le_pow_right (by decide) z
    rw [Nat.testBit_lt_two_pow (show x < 2 ^ i by omega), Nat.testBit_lt_two_pow (show 2 ^ 63 + x < 2 ^ i by omega), decide_eq_false (by omega)]; rfl
theorem xorS {a : Nat} (h : a < 2 ^ 64) : (lN a ^^^ (-9223372036854775808)).toInt = (a : Int) - 2 ^ 63 := by
  rw [show (-9223372036854775808 : Int64) = lN (2 ^ 63) from by decide +kernel, lN_xor]
  rcases Nat.lt_or_ge a (2 ^ 63) with z | z
  · rw [xor63 z, lN_ti (by omega), if_neg (by omega)]; omega
  · obtain ⟨x, rfl⟩ : ∃ x, a = 2 ^ 63 + x := ⟨a - 2 ^ 63, by omega⟩
    rw [← xor63 (by omega), Nat.xor_assoc, Nat.xor_self, Nat.xor_zero, lN_ti (by omega), if_pos (by omega), xor63 (by omega)]; omega
theorem ultL {a b : Nat} (ha : a < 2 ^ 64) (hb : b < 2 ^ 64) : ((lN b ^^^ (-9223372036854775808)) ≤ (lN a ^^^ (-9223372036854775808))) ↔ b ≤ a := by
  rw [Int64.le_iff_toInt_le, xorS ha, xorS hb]; omega
/-! ===== Int64 masks of n low bits ===== -/
theorem cr_bits (W U M : BitVec 64) : ((W &&& U) &&& (U &&& (M ^^^ BitVec.allOnes 64))) = 0#64 ↔ (W &&& U) &&& M = W &&& U := by
  constructor
  · intro h
    apply BitVec.eq_of_getLsbD_eq
    intro i hi
    have e := congrArg (fun x => BitVec.getLsbD x i) h
    simp only [BitVec.getLsbD_and, BitVec.getLsbD_xor, BitVec.getLsbD_allOnes, BitVec.getLsbD_zero, hi, decide_true] at e ⊢
    revert e
    cases W.getLsbD i <;> cases U.getLsbD i <;> cases M.getLsbD i <;> decide
  · intro h
    apply BitVec.eq_of_getLsbD_eq
    intro i hi
    have e := congrArg (fun x => BitVec.getLsbD x i) h
    simp only [BitVec.getLsbD_and, BitVec.getLsbD_xor, BitVec.getLsbD_allOnes, BitVec.getLsbD_zero, hi, decide_true] at e ⊢
    revert e
    cases W.getLsbD i <;> cases U.getLsbD i <;> cases M.getLsbD i <;> decide
theorem cr_mask (w U m : Int64) (n : Nat) (hm : m.toBitVec.toNat = 2 ^ n - 1) : ((w &&& U) &&& (U &&& (m ^^^ (-1)))) = 0 ↔ (w &&& U).toBitVec.toNat < 2 ^ n := by
  have e0 : (-1 : Int64).toBitVec = BitVec.allOnes 64 := by decide
  have z0 : (0 : Int64).toBitVec = 0#64 := by decide
  rw [← Int64.toBitVec_inj, z0, Int64.toBitVec_and, Int64.toBitVec_and, Int64.toBitVec_and, Int64.toBitVec_xor, e0, cr_bits]
  generalize w.toBitVec &&& U.toBitVec = T
  rw [← BitVec.toNat_inj, BitVec.toNat_and, hm, Nat.and_two_pow_sub_one_eq_mod]
  constructor
  · intro h
    have t := Nat.mod_lt T.toNat (Nat.two_pow_pos n)
    rw [h] at t
    exact t
  · exact Nat.mod_eq_of_lt
theorem cr_shr (t : Int64) (x : UInt64) (n : Nat) (hx : x.toNat % 64 = n) : (t.toUInt64 >>> x).toInt64 = 0 ↔ t.toBitVec.toNat < 2 ^ n := by
  rw [← Int64.toBitVec_inj, ← BitVec.toNat_inj]
  show (t.toUInt64 >>> x).toNat = 0 ↔ t.toUInt64.toNat < 2 ^ n
  rw [UInt64.toNat_shiftRight, hx, Nat.shiftRight_eq_div_pow]
  constructor
  · intro h
    have d : t.toUInt64.toNat / 2 ^ n < 1 := by
      rw [h]
      decide
    have e := (Nat.div_lt_iff_lt_mul (Nat.two_pow_pos n)).mp d
    rw [Nat.one_mul] at e
    exact e
  · exact Nat.div_eq_of_lt
theorem cr_amt (s : Int64) : ∃ n, n < 64 ∧ s &&& 63 = lN n ∧ (s.toUInt64 &&& Int64.toUInt64 63).toNat % 64 = n := by
  have e : (s.toUInt64 &&& Int64.toUInt64 63).toNat = s.toUInt64.toNat % 2 ^ 6 := by
    rw [UInt64.toNat_and, show (Int64.toUInt64 63).toNat = 2 ^ 6 - 1 from by decide, Nat.and_two_pow_sub_one_eq_mod]
  refine ⟨s.toUInt64.toNat % 2 ^ 6, by omega, ?_, by omega⟩
  rw [← Int64.toBitVec_inj, ← BitVec.toNat_inj]
  show (s.toUInt64 &&& Int64.toUInt64 63).toNat = (BitVec.ofNat 64 (s.toUInt64.toNat % 2 ^ 6)).toNat
  rw [e, BitVec.toNat_ofNat]
  omega
end
section
/-! ===== base: booleans, bits of naturals, counts, scans ===== -/
def za_b (b : Bool) : Int32 := if b then 1 else 0
theorem za_b0 (b : Bool) : za_b b = 0 ↔ b = false := by cases b <;> decide
theorem za_b1 (b : Bool) : za_b b = 1 ↔ b = true := by cases b <;> decide
theorem za_bb (a b : Bool) : za_b a = za_b b ↔ a = b := by cases a <;> cases b <;> decide
theorem za_bn (b : Bool) : za_b b = nI b.toNat := by cases b <;> rfl
theorem za_br {A B : Prop} (b : Bool) (f : b = false → A) (g : b = true → B) : (za_b b = 0 → A) ∧ (¬ za_b b = 0 → B) :=
  ⟨fun h => f ((za_b0 b).mp h), fun h => g (by cases b; exact absurd rfl h; rfl)⟩
theorem za_brx {A B : Prop} {x : Int32} (b : Bool) (hx : x = za_b b) (f : b = false → A) (g : b = true → B) : (x = 0 → A) ∧ (¬ x = 0 → B) := by
  rw [hx]; exact za_br b f g
theorem za_br1 {A B : Prop} {x : Int32} (b : Bool) (hx : x = za_b b) (f : b = true → A) (g : b = false → B) : (x = 1 → A) ∧ (¬ x = 1 → B) := by
  rw [hx]; exact ⟨fun h => f ((za_b1 b).mp h), fun h => g (by cases b; rfl; exact absurd rfl h)⟩
theorem za_if {c A B : Prop} (b : Bool) (e : c ↔ b = true) (f : b = true → A) (g : b = false → B) : (c → A) ∧ (¬ c → B) :=
  ⟨fun h => f (e.mp h), fun h => g (by cases b; rfl; exact absurd (e.mpr rfl) h)⟩
theorem za_nb (b : Bool) : narrow .boolean (.int (za_b b)) = .int (za_b b) := by cases b <;> rfl
theorem za_vb (b : Bool) : vp_nar .boolean (za_b b) = za_b b := by cases b <;> rfl
theorem za_vb1 : vp_nar .boolean 1 = za_b true := rfl
theorem za_vb0 : vp_nar .boolean 0 = za_b false := rfl
theorem za_t {b : Bool} (h : ¬ b = false) : b = true := by cases b; exact absurd rfl h; rfl
theorem za_f {b : Bool} (h : ¬ b = true) : b = false := by cases b; rfl; exact absurd rfl h
theorem za_beq {a b : Bool} (h : a = true ↔ b = true) : a = b := by
  cases a <;> cases b
  · rfl
  · exact absurd (h.mpr rfl) (by decide)
  · exact absurd (h.mp rfl) (by decide)
  · rfl
theorem za_bt {n i : Nat} (hi : i < 32) : bt (nI n) i = n.testBit i := by
  unfold bt
  show (BitVec.ofNat 32 n).getLsbD i = _
  rw [BitVec.getLsbD_ofNat]
  simp [hi]
theorem za_or (a b : Nat) : nI a ||| nI b = nI (a ||| b) := by
  apply b_ext
  intro i hi
  rw [b_or, za_bt hi, za_bt hi, za_bt hi, Nat.testBit_or]
def za_nd (a b : Nat) : Nat := a ^^^ (a &&& b)
theorem za_nd_tb (a b i : Nat) : (za_nd a b).testBit i = (a.testBit i && !b.testBit i) := by
  unfold za_nd
  rw [Nat.testBit_xor, Nat.testBit_and]
  cases a.testBit i <;> cases b.testBit i <;> rfl
theorem za_ndI (a b : Nat) : nI a &&& (nI b ^^^ (-1)) = nI (za_nd a b) := by
  apply b_ext
  intro i hi
  rw [b_and, b_xor, b_m1 i hi, za_bt hi, za_bt hi, za_bt hi, za_nd_tb]
  cases a.testBit i <;> cases b.testBit i <;> rfl
theorem za_hi {x k i : Nat} (h : x < 2 ^ k) (hi : k ≤ i) : x.testBit i = false :=
  Nat.testBit_lt_two_pow (Nat.lt_of_lt_of_le h (Nat.pow_le_pow_right (by omega) hi))
theorem za_lo {x k i : Nat} (h : x < 2 ^ k) (hi : x.testBit i = true) : i < k := by
  rcases Nat.lt_or_ge i k with a | a
  · exact a
  · rw [za_hi h a] at hi; exact absurd hi (by decide)
theorem za_ndlt {a b k : Nat} (h : a < 2 ^ k) : za_nd a b < 2 ^ k :=
  Nat.lt_pow_two_of_testBit _ (fun i hi => by rw [za_nd_tb, za_hi h hi]; rfl)
theorem za_0 {x : Nat} : x = 0 ↔ ∀ i, x.testBit i = false :=
  ⟨fun h i => by rw [h]; exact Nat.zero_testBit i, fun h => Nat.eq_of_testBit_eq (fun i => by rw [h i, Nat.zero_testBit])⟩
theorem za_n0 {x : Nat} : x ≠ 0 ↔ ∃ i, x.testBit i = true :=
  ⟨fun h => Nat.exists_testBit_of_ne_zero h, fun ⟨i, hi⟩ h => by rw [h, Nat.zero_testBit] at hi; exact absurd hi (by decide)⟩
theorem za_nd0 {a b : Nat} : za_nd a b = 0 ↔ ∀ i, a.testBit i = true → b.testBit i = true := by
  rw [za_0]
  constructor
  · intro h i hi
    have := h i
    rw [za_nd_tb, hi] at this
    cases hb : b.testBit i
    · rw [hb] at this; exact absurd this (by decide)
    · rfl
  · intro h i
    rw [za_nd_tb]
    cases ha : a.testBit i
    · rfl
    · rw [h i ha]; rfl
theorem za_1l (k : Nat) (hk : k < 31) : (1 : Int32) <<< (nI k &&& 31) = nI (2 ^ k) := by
  have h := pk_shlN (n := 1) (nI k &&& 31) k (s_l k (by omega)) (by
    rw [Nat.one_mul]; exact Nat.pow_lt_pow_right (by omega) (by omega))
  rw [Nat.one_mul] at h
  exact h
theorem za_rd {m i : Nat} (hm : m < 2 ^ 31) (hi : i < 32) : (nI m >>> (nI i &&& 31)) &&& 1 = za_b (m.testBit i) := by
  rw [pk_shrN hm (nI i &&& 31) i (s_l i hi)]
  have hd : m / 2 ^ i < 2 ^ 32 := Nat.lt_of_le_of_lt (Nat.div_le_self _ _) (by omega)
  rw [pk_andN (n := m / 2 ^ i) hd (m := 1) 1 (by decide), za_bn, Nat.testBit_eq_decide_div_mod_eq]
  have : m / 2 ^ i % 2 = 0 ∨ m / 2 ^ i % 2 = 1 := by omega
  rcases this with h | h <;> rw [Nat.pow_one, h] <;> rfl
theorem za_16 (m c : Nat) : (16 : Int32) * nI m + nI c = nI (16 * m + c) := by
  have e : (16 : Int32) = nI 16 := rfl
  rw [e, pk_mul, nI_add]
theorem za_d16 {st : Nat} (h : st < 1024) : nI st >>> ((4 : Int32) &&& 31) = nI (st / 16) :=
  pk_shrN (by omega) ((4 : Int32) &&& 31) 4 (by decide)
theorem za_m16 {st : Nat} (h : st < 1024) : nI st &&& 15 = nI (st % 16) :=
  pk_andN (n := st) (by omega) (m := 15) 4 (by decide)
theorem za_q16 {st : Nat} (h : st < 1024) : nI st / 16 = nI (st / 16) := pk_div (a := st) (d := 16) (by omega) (by omega) (by omega)
theorem za_r16 {st : Nat} (h : st < 1024) : nI st - nI st / 16 * 16 = nI (st % 16) := pk_rem (a := st) (d := 16) (by omega) (by omega) (by omega)
theorem za_st {m c : Nat} (hm : m < 64) (hc : c < 16) : 16 * m + c < 1024 ∧ (16 * m + c) / 16 = m ∧ (16 * m + c) % 16 = c := by omega
theorem za_16n : ¬ (16 : Int32) = 0 := by decide
theorem za_3n : ¬ (3 : Int32) = 0 := by decide
theorem za_p4 {n : Nat} (h : n ≤ 4) : 2 ^ n ≤ 16 := Nat.pow_le_pow_right (n := 2) (by omega) h
theorem za_t4 {n : Nat} (h : n ≤ 4) : 3 ^ n ≤ 81 := Nat.pow_le_pow_right (n := 3) (by omega) h
/-! counts -/
def za_c (p : Nat → Bool) : Nat → Nat
  | 0 => 0
  | k + 1 => za_c p k + (p k).toNat
theorem za_c_le (p : Nat → Bool) : ∀ n, za_c p n ≤ n
  | 0 => Nat.le_refl _
  | n + 1 => by
    have h := za_c_le p n
    have : (p n).toNat ≤ 1 := by cases p n <;> decide
    show za_c p n + (p n).toNat ≤ n + 1
    omega
theorem za_c_mono {p q : Nat → Bool} : ∀ {n : Nat}, (∀ i, i < n → p i = true → q i = true) → za_c p n ≤ za_c q n
  | 0, _ => Nat.le_refl _
  | n + 1, h => by
    have a := za_c_mono (p := p) (q := q) (n := n) (fun i hi => h i (by omega))
    have b : (p n).toNat ≤ (q n).toNat := by
      cases e : p n
      · exact Nat.zero_le _
      · rw [h n (by omega) e]; exact Nat.le_refl _
    show za_c p n + (p n).toNat ≤ za_c q n + (q n).toNat
    omega
theorem za_c_eq {p q : Nat → Bool} {n : Nat} (h : ∀ i, i < n → p i = q i) : za_c p n = za_c q n :=
  Nat.le_antisymm (za_c_mono fun i hi e => by rw [← h i hi]; exact e) (za_c_mono fun i hi e => by rw [h i hi]; exact e)
theorem za_c_lt {p q : Nat → Bool} {a : Nat} (hp : p a = false) (hq : q a = true) : ∀ {n : Nat}, (∀ i, i < n → p i = true → q i = true) → a < n → za_c p n < za_c q n
  | 0, _, h => by omega
  | n + 1, h, ha => by
    show za_c p n + (p n).toNat < za_c q n + (q n).toNat
    have b : (p n).toNat ≤ (q n).toNat := by
      cases e : p n
      · exact Nat.zero_le _
      · rw [h n (by omega) e]; exact Nat.le_refl _
    rcases Nat.lt_or_ge a n with z | z
    · have x := za_c_lt hp hq (n := n) (fun i hi => h i (by omega)) z
      omega
    · have e : a = n := by omega
      subst e
      have x := za_c_mono (p := p) (q := q) (n := a) (fun i hi => h i (by omega))
      rw [hp, hq]
      show za_c p a + 0 < za_c q a + 1
      omega
theorem za_c_add {p q : Nat → Bool} {a : Nat} (hp : p a = false) (hq : q a = true) : ∀ {n : Nat}, (∀ i, i < n → i ≠ a → p i = q i) → a < n → za_c q n = za_c p n + 1
  | 0, _, h => by omega
  | n + 1, h, ha => by
    show za_c q n + (q n).toNat = za_c p n + (p n).toNat + 1
    rcases Nat.lt_or_ge a n with z | z
    · have x := za_c_add hp hq (n := n) (fun i hi => h i (by omega)) z
      rw [h n (by omega) (by omega)]
      omega
    · have e : a = n := by omega
      subst e
      have x := za_c_eq (p := p) (q := q) (n := a) (fun i hi => h i (by omega) (by omega))
      rw [hp, hq]
      show za_c q a + 1 = za_c p a + 0 + 1
      omega
theorem za_c_all {p : Nat → Bool} {a n : Nat} (hp : p a = false) (ha : a < n) : za_c p n < n := by
  have h := za_c_lt (p := p) (q := fun _ => true) hp rfl (n := n) (fun _ _ _ => rfl) ha
  have := za_c_le (fun _ => true) n
  omega
theorem za_c_0 {p : Nat → Bool} {n : Nat} : za_c p n = 0 ↔ ∀ i, i < n → p i = false := by
  induction n with
  | zero => exact ⟨fun _ i hi => by omega, fun _ => rfl⟩
  | succ n ih =>
    constructor
    · intro h i hi
      have h' : za_c p n + (p n).toNat = 0 := h
      rcases Nat.lt_or_ge i n with z | z
      · exact ih.mp (by omega) i z
      · have e : i = n := by omega
        subst e
        cases e2 : p i
        · rfl
        · rw [e2] at h'; exact absurd h' (by show ¬ (za_c p i + 1 = 0); omega)
    · intro h
      show za_c p n + (p n).toNat = 0
      rw [ih.mpr (fun i hi => h i (by omega)), h n (by omega)]
      rfl
theorem za_c_same {p q : Nat → Bool} {n : Nat} : za_c (fun i => p i && q i) n = za_c p n ↔ ∀ i, i < n → p i = true → q i = true := by
  constructor
  · intro h i hi hp
    cases e : q i
    · have := za_c_lt (p := fun i => p i && q i) (q := p) (a := i) (by show (p i && q i) = false; rw [e]; cases p i <;> rfl) hp (n := n) (fun j _ hj => by
        have : (p j && q j) = true := hj
        cases e3 : p j
        · rw [e3] at this; exact absurd this (by simp)
        · rfl) hi
      omega
    · rfl
  · intro h
    apply za_c_eq
    intro i hi
    show (p i && q i) = p i
    cases e : p i
    · rfl
    · rw [h i hi e]; rfl
theorem za_c_front (p : Nat → Bool) : ∀ n, za_c p (n + 1) = (p 0).toNat + za_c (fun i => p (i + 1)) n
  | 0 => by show 0 + (p 0).toNat = (p 0).toNat + 0; omega
  | n + 1 => by
    show za_c p (n + 1) + (p (n + 1)).toNat = (p 0).toNat + (za_c (fun i => p (i + 1)) n + (p (n + 1)).toNat)
    rw [za_c_front p n]; omega
theorem za_c_rev (p : Nat → Bool) : ∀ n, za_c (fun i => p (n - 1 - i)) n = za_c p n
  | 0 => rfl
  | n + 1 => by
    rw [za_c_front]
    have e : za_c (fun i => p (n + 1 - 1 - (i + 1))) n = za_c (fun i => p (n - 1 - i)) n :=
      za_c_eq (fun i hi => by show p (n + 1 - 1 - (i + 1)) = p (n - 1 - i); congr 1; omega)
    show (p (n + 1 - 1 - 0)).toNat + za_c (fun i => p (n + 1 - 1 - (i + 1))) n = za_c p n + (p n).toNat
    rw [e, za_c_rev p n]
    have : n + 1 - 1 - 0 = n := by omega
    rw [this]; omega
/-! some below n -/
def za_an (p : Nat → Bool) : Nat → Bool
  | 0 => false
  | k + 1 => za_an p k || p k
theorem za_an_t {p : Nat → Bool} : ∀ {n : Nat}, za_an p n = true ↔ ∃ i, i < n ∧ p i = true
  | 0 => ⟨fun h => absurd (show false = true from h) (by decide), fun ⟨i, hi, _⟩ => by omega⟩
  | n + 1 => by
    show (za_an p n || p n) = true ↔ _
    rw [Bool.or_eq_true, za_an_t (n := n)]
    constructor
    · rintro (⟨i, hi, hp⟩ | hp)
      · exact ⟨i, by omega, hp⟩
      · exact ⟨n, by omega, hp⟩
    · rintro ⟨i, hi, hp⟩
      rcases Nat.lt_or_ge i n with z | z
      · exact Or.inl ⟨i, z, hp⟩
      · have : i = n := by omega
        subst this; exact Or.inr hp
theorem za_an_f {p : Nat → Bool} {n : Nat} : za_an p n = false ↔ ∀ i, i < n → p i = false := by
  constructor
  · intro h i hi
    cases e : p i
    · rfl
    · rw [za_an_t.mpr ⟨i, hi, e⟩] at h; exact absurd h (by decide)
  · intro h
    cases e : za_an p n
    · rfl
    · obtain ⟨i, hi, hp⟩ := za_an_t.mp e
      rw [h i hi] at hp; exact absurd hp (by decide)
theorem za_an_eq {p q : Nat → Bool} {n : Nat} (h : ∀ i, i < n → p i = q i) : za_an p n = za_an q n :=
  za_beq ⟨fun e => by obtain ⟨i, hi, hp⟩ := za_an_t.mp e; exact za_an_t.mpr ⟨i, hi, by rw [← h i hi]; exact hp⟩, fun e => by obtain ⟨i, hi, hp⟩ := za_an_t.mp e; exact za_an_t.mpr ⟨i, hi, by rw [h i hi]; exact hp⟩⟩
/-! the mask of a set below n -/
def za_mk (p : Nat → Bool) : Nat → Nat
  | 0 => 0
  | k + 1 => za_mk p k ||| (if p k = true then 2 ^ k else 0)
theorem za_mk_tb (p : Nat → Bool) : ∀ n i, (za_mk p n).testBit i = (decide (i < n) && p i)
  | 0, i => by show (0 : Nat).testBit i = _; rw [Nat.zero_testBit]; simp
  | n + 1, i => by
    show (za_mk p n ||| (if p n = true then 2 ^ n else 0)).testBit i = _
    rw [Nat.testBit_or, za_mk_tb p n i]
    rcases Nat.lt_trichotomy i n with h | h | h
    · have a : decide (i < n) = true := decide_eq_true h
      have b : decide (i < n + 1) = true := decide_eq_true (by omega)
      rw [a, b]
      split
      · rw [Nat.testBit_two_pow_of_ne (by omega)]; simp
      · rw [Nat.zero_testBit]; simp
    · subst h
      have a : decide (i < i) = false := decide_eq_false (by omega)
      have b : decide (i < i + 1) = true := decide_eq_true (by omega)
      rw [a, b]
      split
      · rename_i h; rw [Nat.testBit_two_pow_self, h]; rfl
      · rename_i h; rw [Nat.zero_testBit, za_f h]; rfl
    · have a : decide (i < n) = false := decide_eq_false (by omega)
      have b : decide (i < n + 1) = false := decide_eq_false (by omega)
      rw [a, b]
      split
      · rw [Nat.testBit_two_pow_of_ne (by omega)]; simp
      · rw [Nat.zero_testBit]; simp
theorem za_mk_lt (p : Nat → Bool) (n : Nat) : za_mk p n < 2 ^ n :=
  Nat.lt_pow_two_of_testBit _ (fun i hi => by rw [za_mk_tb, decide_eq_false (by omega)]; rfl)
theorem za_mk_s (p : Nat → Bool) (n : Nat) : za_mk p (n + 1) = if p n = true then za_mk p n ||| 2 ^ n else za_mk p n := by
  show za_mk p n ||| (if p n = true then 2 ^ n else 0) = _
  split
  · rfl
  · exact Nat.or_zero _
theorem za_mk_eq {p q : Nat → Bool} {n : Nat} (h : ∀ i, i < n → p i = q i) : za_mk p n = za_mk q n := by
  apply Nat.eq_of_testBit_eq
  intro i
  rw [za_mk_tb, za_mk_tb]
  rcases Nat.lt_or_ge i n with z | z
  · rw [h i z]
  · rw [decide_eq_false (by omega)]; rfl
theorem za_lt31 {x k : Nat} (h : x < 2 ^ k) (hk : k ≤ 16) : x < 2 ^ 31 :=
  Nat.lt_of_lt_of_le h (Nat.pow_le_pow_right (by omega) (by omega))
/-! scans -/
theorem za_scan (W : Nat → Nat → Prop) (e : Nat) (p : Nat → Prop) (hx : (∀ j, j < e → ¬ p j) → ∀ n, W (n + 1) e) (hs : ∀ n i, i < e → (∀ j, j < i → ¬ p j) → (¬ p i → W n (i + 1)) → W (n + 1) i) : ∃ n, W n 0 := by
  have key : ∀ d i, i + d = e → (∀ j, j < i → ¬ p j) → W (d + 1) i := by
    intro d
    induction d with
    | zero => intro i hi h; have : i = e := by omega
              subst this; exact hx h 0
    | succ d ih =>
      intro i hi h
      exact hs (d + 1) i (by omega) h (fun hn => ih (i + 1) (by omega) (fun j hj => by
        rcases Nat.lt_or_ge j i with z | z
        · exact h j z
        · have : j = i := by omega
          subst this; exact hn))
  exact ⟨e + 1, key e 0 (by omega) (fun j hj => by omega)⟩
theorem za_any (W : Nat → Nat → Prop) (e : Nat) (p : Nat → Bool) (post : Int32 → Prop) (h : post (za_b (za_an p e))) (hx : ∀ n, post 0 → W (n + 1) e) (hs : ∀ n i, i < e → (p i = true → post 1) → (p i = false → W n (i + 1)) → W (n + 1) i) : ∃ n, W n 0 :=
  za_scan W e (fun i => p i = true) (fun ha n => hx n (by
    have : za_an p e = false := za_an_f.mpr (fun i hi => za_f (ha i hi))
    rw [this] at h; exact h)) (fun n i hi _ hc => hs n i hi (fun ht => by
    have : za_an p e = true := za_an_t.mpr ⟨i, hi, ht⟩
    rw [this] at h; exact h) (fun hf => hc (by rw [hf]; decide)))
theorem za_all (W : Nat → Nat → Prop) (e : Nat) (p : Nat → Bool) (post : Int32 → Prop) (h : post (za_b (!za_an p e))) (hx : ∀ n, post 1 → W (n + 1) e) (hs : ∀ n i, i < e → (p i = true → post 0) → (p i = false → W n (i + 1)) → W (n + 1) i) : ∃ n, W n 0 :=
  za_scan W e (fun i => p i = true) (fun ha n => hx n (by
    have : za_an p e = false := za_an_f.mpr (fun i hi => za_f (ha i hi))
    rw [this] at h; exact h)) (fun n i hi _ hc => hs n i hi (fun ht => by
    have : za_an p e = true := za_an_t.mpr ⟨i, hi, ht⟩
    rw [this] at h; exact h) (fun hf => hc (by rw [hf]; decide)))
/-! bits of an array of longs -/
def za_v (a : Nat → Int64) (st : Nat) : Bool := (a (st / 64)).toBitVec.getLsbD (st % 64)
theorem za_1L : ∀ k, k < 64 → ((1 : Int64) <<< ((nI k).toInt64 &&& 63)).toBitVec = BitVec.twoPow 64 k := by
  intro k hk
  have e : (1 : Int64) = lN 1 := rfl
  rw [e, wb_shl 1 hk, Nat.one_mul, wb_tb]
  apply BitVec.eq_of_getLsbD_eq
  intro i hi
  rw [BitVec.getLsbD_ofNat, BitVec.getLsbD_twoPow, Nat.testBit_two_pow]
  by_cases h : k = i
  · subst h; simp [hi]
  · have : ¬ i = k := fun z => h z.symm
    simp [h]
theorem za_s6 {st : Nat} (h : st < 1024) : nI st >>> ((6 : Int32) &&& 31) = nI (st / 64) :=
  pk_shrN (by omega) ((6 : Int32) &&& 31) 6 (by decide)
theorem za_a63 {st : Nat} (h : st < 1024) : nI st &&& 63 = nI (st % 64) :=
  pk_andN (n := st) (by omega) (m := 63) 6 (by decide)
theorem za_v_test (w m : Int64) (k : Nat) (hk : k < 64) (hm : m.toBitVec = BitVec.twoPow 64 k) : (w &&& m) = 0 ↔ w.toBitVec.getLsbD k = false := by
  constructor
  · intro h
    have h2 := congrArg (fun z : Int64 => z.toBitVec.getLsbD k) h
    have h3 : (w &&& m).toBitVec.getLsbD k = (0 : Int64).toBitVec.getLsbD k := h2
    rw [Int64.toBitVec_and, BitVec.getLsbD_and, hm, BitVec.getLsbD_twoPow] at h3
    simp [hk] at h3
    exact h3
  · intro h
    apply wb_inj
    apply BitVec.eq_of_getLsbD_eq
    intro i hi
    rw [Int64.toBitVec_and, BitVec.getLsbD_and, hm, BitVec.getLsbD_twoPow]
    by_cases e : k = i
    · subst e; rw [h]; simp
    · simp [e]
theorem za_v_set (a : Nat → Int64) (st : Nat) (m : Int64) (hm : m.toBitVec = BitVec.twoPow 64 (st % 64)) (j : Nat) : za_v (vp_updL a (st / 64) (a (st / 64) ||| m)) j = (za_v a j || decide (j = st)) := by
  unfold za_v
  by_cases e : j / 64 = st / 64
  · rw [e, pk_uLs, Int64.toBitVec_or, BitVec.getLsbD_or, hm, BitVec.getLsbD_twoPow]
    congr 1
    by_cases e2 : j = st
    · subst e2
      have : j % 64 < 64 := by omega
      simp [this]
    · have : ¬ st % 64 = j % 64 := by omega
      simp [this, e2]
  · rw [pk_uLn e]
    have : ¬ j = st := fun z => e (by rw [z])
    simp [this]
theorem za_v0 (st : Nat) : za_v (fun _ => 0) st = false := by
  show (0 : Int64).toBitVec.getLsbD (st % 64) = false
  exact BitVec.getLsbD_zero
end
section
/-! ===== cubes of n signals (numbers below 3^n), their codes as masks, primes, and that there are at most 16 primes ===== -/
def zc_cv : Nat → Nat → Nat → Bool
  | 0, _, _ => true
  | n + 1, q, c => (q % 3 == 2 || q % 3 == c % 2) && zc_cv n (q / 3) (c / 2)
def zc_cd (n q : Nat) : Nat := za_mk (fun c => zc_cv n q c) (2 ^ n)
def zc_dg (q s : Nat) : Nat := q / 3 ^ s % 3
def zc_up (q s : Nat) : Nat := q + (2 - zc_dg q s) * 3 ^ s
def zc_co (q : Nat) : Nat → Nat
  | 0 => 0
  | s + 1 => if zc_dg q s = 1 then zc_co q s ||| 2 ^ s else zc_co q s
def zc_fr (q : Nat) : Nat → Nat
  | 0 => 0
  | s + 1 => if zc_dg q s = 2 then 3 ^ s else zc_fr q s
theorem zc_cd_tb (n q c : Nat) : (zc_cd n q).testBit c = (decide (c < 2 ^ n) && zc_cv n q c) := za_mk_tb _ _ _
theorem zc_cd_lt (n q : Nat) : zc_cd n q < 2 ^ 2 ^ n := za_mk_lt _ _
theorem zc_F1 : ∀ n, n < 5 → ∀ q, q < 3 ^ n → (zc_fr q n = 0 → zc_cd n q = 2 ^ zc_co q n ∧ zc_co q n < 2 ^ n) ∧ (zc_fr q n ≠ 0 → 2 * zc_fr q n ≤ q ∧ zc_cd n q = zc_cd n (q - zc_fr q n) ||| zc_cd n (q - 2 * zc_fr q n)) := by decide +kernel
def zc_k2 (n q s : Nat) : Bool := (zc_dg q s == 2) || (decide (q < zc_up q s) && (decide (zc_up q s < 3 ^ n) && (za_nd (zc_cd n q) (zc_cd n (zc_up q s)) == 0)))
theorem zc_F2' : ∀ n, n < 5 → ∀ q, q < 3 ^ n → ∀ s, s < n → zc_k2 n q s = true := by decide +kernel
theorem zc_F2 (n : Nat) (hn : n < 5) (q : Nat) (hq : q < 3 ^ n) (s : Nat) (hs : s < n) (h : zc_dg q s ≠ 2) : q < zc_up q s ∧ zc_up q s < 3 ^ n ∧ za_nd (zc_cd n q) (zc_cd n (zc_up q s)) = 0 := by
  have k := zc_F2' n hn q hq s hs
  unfold zc_k2 at k
  rw [beq_eq_false_iff_ne.mpr h, Bool.false_or, Bool.and_eq_true, Bool.and_eq_true, decide_eq_true_eq, decide_eq_true_eq, beq_iff_eq] at k
  exact k
def zc_k3 (n q p : Nat) : Bool := (p == q) || (za_nd (zc_cd n q) (zc_cd n p) != 0) || za_an (fun s => (zc_dg q s != 2) && (za_nd (zc_cd n (zc_up q s)) (zc_cd n p) == 0)) n
theorem zc_F3 : ∀ n, n < 5 → ∀ q, q < 3 ^ n → ∀ p, p < 3 ^ n → zc_k3 n q p = true := by decide +kernel
theorem zc_F4 : ∀ n, n < 5 → ∀ c, c < 2 ^ n → za_an (fun q => zc_cd n q == 2 ^ c) (3 ^ n) = true := by decide +kernel
def zc_ip (n Z q : Nat) : Bool := (zc_cd n q &&& Z) == 0
def zc_gw (n Z q : Nat) : Bool := za_an (fun s => (zc_dg q s != 2) && zc_ip n Z (zc_up q s)) n
def zc_lg (n Z q : Nat) : Bool := za_an (fun p => (p != q) && zc_ip n Z p && (za_nd (zc_cd n q) (zc_cd n p) == 0)) (3 ^ n)
def zc_pr (n Z O q : Nat) : Bool := zc_ip n Z q && (zc_cd n q &&& O != 0) && !zc_gw n Z q
theorem zc_ip_t {n Z q : Nat} : zc_ip n Z q = true ↔ ∀ c, (zc_cd n q).testBit c = true → Z.testBit c = false := by
  unfold zc_ip
  rw [beq_iff_eq, za_0]
  constructor
  · intro h c hc
    have := h c
    rw [Nat.testBit_and, hc] at this
    exact this
  · intro h c
    rw [Nat.testBit_and]
    cases e : (zc_cd n q).testBit c
    · rfl
    · rw [h c e]; rfl
theorem zc_ip_mono {n Z p q : Nat} (h : za_nd (zc_cd n q) (zc_cd n p) = 0) (hp : zc_ip n Z p = true) : zc_ip n Z q = true :=
  zc_ip_t.mpr (fun c hc => zc_ip_t.mp hp c (za_nd0.mp h c hc))
theorem zc_lg_gw {n Z q : Nat} (hn : n < 5) (hq : q < 3 ^ n) : zc_lg n Z q = zc_gw n Z q := by
  apply za_beq
  unfold zc_lg zc_gw
  rw [za_an_t, za_an_t]
  constructor
  · rintro ⟨p, hp, h⟩
    rw [Bool.and_eq_true, Bool.and_eq_true, bne_iff_ne, beq_iff_eq] at h
    have k := zc_F3 n hn q hq p hp
    unfold zc_k3 at k
    rw [Bool.or_eq_true, Bool.or_eq_true, beq_iff_eq, bne_iff_ne] at k
    rcases k with (k | k) | k
    · exact absurd k h.1.1
    · exact absurd h.2 k
    · obtain ⟨s, hs, hk⟩ := za_an_t.mp k
      rw [Bool.and_eq_true, beq_iff_eq] at hk
      exact ⟨s, hs, by rw [Bool.and_eq_true]; exact ⟨hk.1, zc_ip_mono hk.2 h.1.2⟩⟩
  · rintro ⟨s, hs, h⟩
    rw [Bool.and_eq_true, bne_iff_ne] at h
    obtain ⟨a, b, c⟩ := zc_F2 n hn q hq s hs h.1
    refine ⟨zc_up q s, b, ?_⟩
    rw [Bool.and_eq_true, Bool.and_eq_true, bne_iff_ne, beq_iff_eq]
    exact ⟨⟨by omega, h.2⟩, c⟩
/-! the primes in ascending order -/
def zc_L (n Z O k : Nat) : List Nat := (List.range k).filter (zc_pr n Z O)
theorem zc_L_s (n Z O k : Nat) : zc_L n Z O (k + 1) = if zc_pr n Z O k = true then zc_L n Z O k ++ [k] else zc_L n Z O k := by
  unfold zc_L
  rw [List.range_succ, List.filter_append]
  by_cases h : zc_pr n Z O k = true
  · rw [if_pos h, List.filter_cons_of_pos h, List.filter_nil]
  · rw [if_neg h, List.filter_cons_of_neg h, List.filter_nil, List.append_nil]
theorem zc_L_len (n Z O : Nat) : ∀ k, (zc_L n Z O k).length = za_c (zc_pr n Z O) k
  | 0 => rfl
  | k + 1 => by
    rw [zc_L_s]
    show _ = za_c (zc_pr n Z O) k + (zc_pr n Z O k).toNat
    rw [← zc_L_len n Z O k]
    split
    · rename_i h; rw [h, List.length_append]; rfl
    · rename_i h; rw [za_f h]; rfl
theorem zc_L_le (n Z O k : Nat) : (zc_L n Z O k).length ≤ k := by rw [zc_L_len]; exact za_c_le _ _
theorem zc_L_mem {n Z O k q : Nat} (h : q ∈ zc_L n Z O k) : q < k ∧ zc_pr n Z O q = true := by
  unfold zc_L at h
  rw [List.mem_filter, List.mem_range] at h
  exact h
theorem zc_L_get {n Z O k i : Nat} (h : i < (zc_L n Z O k).length) : (zc_L n Z O k).getD i 0 < k ∧ zc_pr n Z O ((zc_L n Z O k).getD i 0) = true := by
  apply zc_L_mem
  rw [List.getD_eq_getElem?_getD, List.getElem?_eq_getElem h]
  exact List.getElem_mem h
/-! every one is in a prime -/
theorem zc_top {n Z : Nat} (hn : n < 5) (c : Nat) : ∀ d q, q + d = 3 ^ n → q < 3 ^ n → zc_ip n Z q = true → (zc_cd n q).testBit c = true → ∃ p, p < 3 ^ n ∧ zc_ip n Z p = true ∧ zc_gw n Z p = false ∧ (zc_cd n p).testBit c = true := by
  intro d
  induction d using Nat.strongRecOn with
  | _ d ih =>
    intro q hd hq hi hc
    cases e : zc_gw n Z q
    · exact ⟨q, hq, hi, e, hc⟩
    · unfold zc_gw at e
      obtain ⟨s, hs, h⟩ := za_an_t.mp e
      rw [Bool.and_eq_true, bne_iff_ne] at h
      obtain ⟨a, b, k⟩ := zc_F2 n hn q hq s hs h.1
      exact ih (3 ^ n - zc_up q s) (by omega) (zc_up q s) (by omega) b h.2 (za_nd0.mp k c hc)
theorem zc_all {n Z O : Nat} (hn : n < 5) (hO : O < 2 ^ 2 ^ n) (hd : ∀ c, O.testBit c = true → Z.testBit c = false) (c : Nat) (hc : O.testBit c = true) : ∃ k, k < (zc_L n Z O (3 ^ n)).length ∧ (zc_cd n ((zc_L n Z O (3 ^ n)).getD k 0)).testBit c = true := by
  obtain ⟨q, hq, e⟩ := za_an_t.mp (zc_F4 n hn c (za_lo hO hc))
  rw [beq_iff_eq] at e
  have i1 : zc_ip n Z q = true := zc_ip_t.mpr (fun j hj => by
    rw [e, Nat.testBit_two_pow, decide_eq_true_eq] at hj
    rw [← hj]; exact hd c hc)
  obtain ⟨p, hp, hi, hg, hpc⟩ := zc_top hn c (3 ^ n - q) q (by omega) hq i1 (by rw [e]; exact Nat.testBit_two_pow_self)
  have hpr : zc_pr n Z O p = true := by
    unfold zc_pr
    rw [Bool.and_eq_true, Bool.and_eq_true, hg, bne_iff_ne]
    exact ⟨⟨hi, za_n0.mpr ⟨c, by rw [Nat.testBit_and, hpc, hc]; rfl⟩⟩, rfl⟩
  have hm : p ∈ zc_L n Z O (3 ^ n) := by
    unfold zc_L
    rw [List.mem_filter, List.mem_range]
    exact ⟨hp, hpr⟩
  obtain ⟨k, hk, he⟩ := List.mem_iff_getElem.mp hm
  exact ⟨k, hk, by rw [List.getD_eq_getElem?_getD, List.getElem?_eq_getElem hk, Option.getD_some, he]; exact hpc⟩
/-! at most 16 primes: all 2^16 sets of zeros at once, a lane a set -/
def zc_nc : Nat → Nat → Nat
  | 0, _ => 0
  | k + 1, c => if c = k then 2 ^ 2 ^ k - 1 else zc_nc k c ||| (zc_nc k c <<< 2 ^ k)
theorem zc_nc_s : ∀ k c, c < k → zc_nc k c < 2 ^ 2 ^ k ∧ ∀ Z, Z < 2 ^ k → (zc_nc k c).testBit Z = !Z.testBit c
  | 0, c, h => by omega
  | k + 1, c, h => by
    have hp : 2 ^ 2 ^ k < 2 ^ 2 ^ (k + 1) := Nat.pow_lt_pow_right (by omega) (Nat.pow_lt_pow_right (by omega) (by omega))
    by_cases e : c = k
    · subst e
      have e1 : zc_nc (c + 1) c = 2 ^ 2 ^ c - 1 := by show (if c = c then _ else _) = _; rw [if_pos rfl]
      rw [e1]
      have hpos : 0 < 2 ^ 2 ^ c := Nat.pow_pos (by omega)
      refine ⟨by omega, fun Z hZ => ?_⟩
      rw [Nat.testBit_two_pow_sub_one]
      rcases Nat.lt_or_ge Z (2 ^ c) with z | z
      · rw [decide_eq_true z, Nat.testBit_lt_two_pow z]; rfl
      · rw [decide_eq_false (by omega), Nat.testBit_of_two_pow_le_and_two_pow_add_one_gt z hZ]; rfl
    · have hc : c < k := by omega
      obtain ⟨h1, h2⟩ := zc_nc_s k c hc
      have e1 : zc_nc (k + 1) c = zc_nc k c ||| (zc_nc k c <<< 2 ^ k) := by show (if c = k then _ else _) = _; rw [if_neg e]
      rw [e1]
      have hs : 2 ^ (k + 1) = 2 ^ k + 2 ^ k := by rw [Nat.pow_succ]; omega
      refine ⟨Nat.or_lt_two_pow (by omega) ?_, fun Z hZ => ?_⟩
      · rw [hs, Nat.pow_add, Nat.shiftLeft_eq]
        exact Nat.mul_lt_mul_of_pos_right h1 (Nat.pow_pos (by omega))
      · rw [Nat.testBit_or, Nat.testBit_shiftLeft]
        rcases Nat.lt_or_ge Z (2 ^ k) with z | z
        · rw [h2 Z z, decide_eq_false (by omega)]; simp
        · rw [za_hi h1 z, h2 (Z - 2 ^ k) (by omega), decide_eq_true z]
          have : Z = 2 ^ k + (Z - 2 ^ k) := by omega
          have t := Nat.testBit_two_pow_add_gt hc (Z - 2 ^ k)
          rw [← this] at t
          rw [t]; simp
def zc_im (k C : Nat) : Nat → Nat
  | 0 => 2 ^ 2 ^ k - 1
  | j + 1 => if C.testBit j = true then zc_im k C j &&& zc_nc k j else zc_im k C j
theorem zc_im_s {k C Z : Nat} (hZ : Z < 2 ^ k) : ∀ j, j ≤ k → ((zc_im k C j).testBit Z = true ↔ ∀ c, c < j → C.testBit c = true → Z.testBit c = false)
  | 0, _ => by
    show (2 ^ 2 ^ k - 1).testBit Z = true ↔ _
    rw [Nat.testBit_two_pow_sub_one, decide_eq_true hZ]
    exact ⟨fun _ c hc => by omega, fun _ => rfl⟩
  | j + 1, h => by
    have ih := zc_im_s (C := C) hZ j (by omega)
    show (if C.testBit j = true then zc_im k C j &&& zc_nc k j else zc_im k C j).testBit Z = true ↔ _
    split
    · rename_i hC
      rw [Nat.testBit_and, Bool.and_eq_true, ih, (zc_nc_s k j (by omega)).2 Z hZ]
      constructor
      · rintro ⟨a, b⟩ c hc hcc
        rcases Nat.lt_or_ge c j with z | z
        · exact a c z hcc
        · have : c = j := by omega
          subst this
          cases e : Z.testBit c
          · rfl
          · rw [e] at b; exact absurd b (by decide)
      · intro a
        exact ⟨fun c hc => a c (by omega), by rw [a j (by omega) hC]; rfl⟩
    · rename_i hC
      rw [ih]
      constructor
      · intro a c hc hcc
        rcases Nat.lt_or_ge c j with z | z
        · exact a c z hcc
        · have : c = j := by omega
          subst this
          exact absurd hcc hC
      · intro a c hc; exact a c (by omega)
theorem zc_im_ip {n Z q : Nat} (hZ : Z < 2 ^ 2 ^ n) : (zc_im (2 ^ n) (zc_cd n q) (2 ^ n)).testBit Z = zc_ip n Z q := by
  apply za_beq
  rw [zc_im_s hZ _ (Nat.le_refl _), zc_ip_t]
  exact ⟨fun h c hc => h c (za_lo (zc_cd_lt n q) hc) hc, fun h c _ hc => h c hc⟩
def zc_gm (n q : Nat) : Nat → Nat
  | 0 => 0
  | s + 1 => if zc_dg q s = 2 then zc_gm n q s else zc_gm n q s ||| zc_im (2 ^ n) (zc_cd n (zc_up q s)) (2 ^ n)
theorem zc_gm_s {n Z q : Nat} (hZ : Z < 2 ^ 2 ^ n) : ∀ k, (zc_gm n q k).testBit Z = za_an (fun s => (zc_dg q s != 2) && zc_ip n Z (zc_up q s)) k
  | 0 => Nat.zero_testBit _
  | k + 1 => by
    show (if zc_dg q k = 2 then zc_gm n q k else zc_gm n q k ||| zc_im (2 ^ n) (zc_cd n (zc_up q k)) (2 ^ n)).testBit Z = (za_an (fun s => (zc_dg q s != 2) && zc_ip n Z (zc_up q s)) k || ((zc_dg q k != 2) && zc_ip n Z (zc_up q k)))
    split
    · rename_i h
      rw [zc_gm_s hZ k, h]; simp
    · rename_i h
      rw [Nat.testBit_or, zc_gm_s hZ k, zc_im_ip hZ]
      have : (zc_dg q k != 2) = true := bne_iff_ne.mpr h
      rw [this]; simp
def zc_pm (n q : Nat) : Nat := za_nd (zc_im (2 ^ n) (zc_cd n q) (2 ^ n)) (zc_gm n q n)
theorem zc_pm_s {n Z q : Nat} (hZ : Z < 2 ^ 2 ^ n) : (zc_pm n q).testBit Z = (zc_ip n Z q && !zc_gw n Z q) := by
  unfold zc_pm zc_gw
  rw [za_nd_tb, zc_im_ip hZ, zc_gm_s hZ]
def zc_st (b : Nat) : Nat → List Nat → List Nat
  | _, [] => []
  | v, t :: ts => (t ||| (v &&& b)) :: zc_st b t ts
def zc_rw (n : Nat) : Nat → List Nat
  | 0 => [0, 0, 0, 0, 0, 0, 0, 0, 0, 0, 0, 0, 0, 0, 0, 0, 0]
  | q + 1 => zc_st (zc_pm n q) (2 ^ 2 ^ 2 ^ n - 1) (zc_rw n q)
def zc_ok (Z : Nat) : Nat → Nat → List Nat → Prop
  | _, _, [] => True
  | k, c, t :: ts => t.testBit Z = decide (k + 1 ≤ c) ∧ zc_ok Z (k + 1) c ts
theorem zc_st_ok {Z b : Nat} : ∀ (ts : List Nat) (k c v : Nat), v.testBit Z = decide (k ≤ c) → zc_ok Z k c ts → zc_ok Z k (c + (b.testBit Z).toNat) (zc_st b v ts)
  | [], _, _, _, _, _ => trivial
  | t :: ts, k, c, v, hv, h => by
    refine ⟨?_, ?_⟩
    · show (t ||| (v &&& b)).testBit Z = _
      rw [Nat.testBit_or, Nat.testBit_and, h.1, hv]
      cases b.testBit Z
      · simp
      · have e : (true : Bool).toNat = 1 := rfl
        rw [e, Bool.and_true]
        by_cases z : k ≤ c
        · have a : decide (k ≤ c) = true := decide_eq_true z
          have b : decide (k + 1 ≤ c + 1) = true := decide_eq_true (by omega)
          rw [a, b, Bool.or_true]
        · have a : decide (k ≤ c) = false := decide_eq_false z
          have b : decide (k + 1 ≤ c + 1) = false := decide_eq_false (by omega)
          have d : decide (k + 1 ≤ c) = false := decide_eq_false (by omega)
          rw [a, b, d]; rfl
    · exact zc_st_ok ts (k + 1) c t h.1 h.2
theorem zc_ok_get {Z : Nat} : ∀ (ts : List Nat) (k c i : Nat), zc_ok Z k c ts → i < ts.length → (ts.getD i 0).testBit Z = decide (k + i + 1 ≤ c)
  | [], _, _, i, _, h => absurd h (by show ¬ i < 0; omega)
  | t :: ts, k, c, 0, h, _ => h.1
  | t :: ts, k, c, i + 1, h, hi => by
    have := zc_ok_get ts (k + 1) c i h.2 (by
      have : i + 1 < ts.length + 1 := hi
      omega)
    rw [show k + (i + 1) + 1 = k + 1 + i + 1 by omega]
    exact this
theorem zc_st_len (b : Nat) : ∀ (ts : List Nat) (v : Nat), (zc_st b v ts).length = ts.length
  | [], _ => rfl
  | t :: ts, _ => congrArg (· + 1) (zc_st_len b ts t)
theorem zc_rw_len (n : Nat) : ∀ q, (zc_rw n q).length = 17
  | 0 => rfl
  | q + 1 => by show (zc_st _ _ _).length = 17; rw [zc_st_len, zc_rw_len n q]
theorem zc_rw_ok {n Z : Nat} (hZ : Z < 2 ^ 2 ^ n) : ∀ q, zc_ok Z 0 (za_c (fun q => zc_ip n Z q && !zc_gw n Z q) q) (zc_rw n q)
  | 0 => by
    have z : (0 : Nat).testBit Z = false := Nat.zero_testBit Z
    exact ⟨z, z, z, z, z, z, z, z, z, z, z, z, z, z, z, z, z, trivial⟩
  | q + 1 => by
    have := zc_st_ok (Z := Z) (b := zc_pm n q) (zc_rw n q) 0 _ (2 ^ 2 ^ 2 ^ n - 1) (by rw [Nat.testBit_two_pow_sub_one, decide_eq_true hZ, decide_eq_true (Nat.zero_le _)]) (zc_rw_ok hZ q)
    rw [zc_pm_s hZ] at this
    exact this
def zc_ck (n : Nat) : Bool := (zc_rw n (3 ^ n)).getD 16 0 == 0
theorem zc_ck0 : zc_ck 0 = true := by decide +kernel
theorem zc_ck1 : zc_ck 1 = true := by decide +kernel
theorem zc_ck2 : zc_ck 2 = true := by decide +kernel
theorem zc_ck3 : zc_ck 3 = true := by decide +kernel
theorem zc_ck4 : zc_ck 4 = true := by decide +kernel
theorem zc_16 {n Z : Nat} (O : Nat) (hn : n < 5) (hZ : Z < 2 ^ 2 ^ n) : (zc_L n Z O (3 ^ n)).length ≤ 16 := by
  have hk : zc_ck n = true := by
    rcases (show n = 0 ∨ n = 1 ∨ n = 2 ∨ n = 3 ∨ n = 4 by omega) with h | h | h | h | h <;> subst h
    · exact zc_ck0
    · exact zc_ck1
    · exact zc_ck2
    · exact zc_ck3
    · exact zc_ck4
  have h0 : (zc_rw n (3 ^ n)).getD 16 0 = 0 := beq_iff_eq.mp hk
  have h := zc_ok_get (zc_rw n (3 ^ n)) 0 _ 16 (zc_rw_ok hZ (3 ^ n)) (by rw [zc_rw_len]; omega)
  rw [h0, Nat.zero_testBit] at h
  have h2 := of_decide_eq_false h.symm
  rw [zc_L_len]
  have m := za_c_mono (p := zc_pr n Z O) (q := fun q => zc_ip n Z q && !zc_gw n Z q) (n := 3 ^ n) (fun i _ hi => by
    unfold zc_pr at hi
    rw [Bool.and_eq_true, Bool.and_eq_true] at hi
    show (zc_ip n Z i && !zc_gw n Z i) = true
    rw [hi.1.1, hi.2]; rfl)
  omega
end
section
/-! ===== sets of primes as masks: bit r stands for the prime P - 1 - r; the best cover ===== -/
def zf_un (P : Nat) (C : Nat → Nat) (M : Nat) : Nat → Nat
  | 0 => 0
  | r + 1 => if M.testBit r = true then zf_un P C M r ||| C (P - 1 - r) else zf_un P C M r
def zf_pc (M r : Nat) : Nat := za_c (fun j => M.testBit j) r
def zf_ls (P M : Nat) : Nat → List Nat
  | 0 => []
  | r + 1 => if M.testBit r = true then (P - 1 - r) :: zf_ls P M r else zf_ls P M r
def zf_ta (P : Nat) (C : Nat → Nat) : Nat → Nat
  | 0 => 0
  | r + 1 => zf_ta P C r ||| C (P - 1 - r)
theorem zf_pc_s (M r : Nat) : zf_pc M (r + 1) = zf_pc M r + (M.testBit r).toNat := rfl
theorem zf_ls_len (P M : Nat) : ∀ r, (zf_ls P M r).length = zf_pc M r
  | 0 => rfl
  | r + 1 => by
    rw [zf_pc_s, ← zf_ls_len P M r]
    show (if M.testBit r = true then (P - 1 - r) :: zf_ls P M r else zf_ls P M r).length = _
    split
    · rename_i h; rw [h]; rfl
    · rename_i h; rw [za_f h]; rfl
theorem zf_un_tb {P : Nat} {C : Nat → Nat} {M c : Nat} : ∀ {r : Nat}, (zf_un P C M r).testBit c = true ↔ ∃ j, j < r ∧ M.testBit j = true ∧ (C (P - 1 - j)).testBit c = true
  | 0 => ⟨fun h => absurd h (by show ¬ (0 : Nat).testBit c = true; rw [Nat.zero_testBit]; decide), fun ⟨j, hj, _⟩ => by omega⟩
  | r + 1 => by
    have ih := zf_un_tb (P := P) (C := C) (M := M) (c := c) (r := r)
    show (if M.testBit r = true then zf_un P C M r ||| C (P - 1 - r) else zf_un P C M r).testBit c = true ↔ _
    split
    · rename_i h
      rw [Nat.testBit_or, Bool.or_eq_true, ih]
      constructor
      · rintro (⟨j, a, b, d⟩ | d)
        · exact ⟨j, by omega, b, d⟩
        · exact ⟨r, by omega, h, d⟩
      · rintro ⟨j, a, b, d⟩
        rcases Nat.lt_or_ge j r with z | z
        · exact Or.inl ⟨j, z, b, d⟩
        · have : j = r := by omega
          subst this; exact Or.inr d
    · rename_i h
      rw [ih]
      constructor
      · rintro ⟨j, a, b, d⟩; exact ⟨j, by omega, b, d⟩
      · rintro ⟨j, a, b, d⟩
        rcases Nat.lt_or_ge j r with z | z
        · exact ⟨j, z, b, d⟩
        · have : j = r := by omega
          subst this; exact absurd b h
theorem zf_ta_tb {P : Nat} {C : Nat → Nat} {c : Nat} : ∀ {r : Nat}, (zf_ta P C r).testBit c = true ↔ ∃ j, j < r ∧ (C (P - 1 - j)).testBit c = true
  | 0 => ⟨fun h => absurd h (by show ¬ (0 : Nat).testBit c = true; rw [Nat.zero_testBit]; decide), fun ⟨j, hj, _⟩ => by omega⟩
  | r + 1 => by
    have ih := zf_ta_tb (P := P) (C := C) (c := c) (r := r)
    show (zf_ta P C r ||| C (P - 1 - r)).testBit c = true ↔ _
    rw [Nat.testBit_or, Bool.or_eq_true, ih]
    constructor
    · rintro (⟨j, a, d⟩ | d)
      · exact ⟨j, by omega, d⟩
      · exact ⟨r, by omega, d⟩
    · rintro ⟨j, a, d⟩
      rcases Nat.lt_or_ge j r with z | z
      · exact Or.inl ⟨j, z, d⟩
      · have : j = r := by omega
        subst this; exact Or.inr d
theorem zf_un_lt {P k : Nat} {C : Nat → Nat} (h : ∀ i, C i < 2 ^ k) (M : Nat) : ∀ r, zf_un P C M r < 2 ^ k
  | 0 => Nat.pow_pos (by omega)
  | r + 1 => by
    show (if M.testBit r = true then zf_un P C M r ||| C (P - 1 - r) else zf_un P C M r) < 2 ^ k
    split
    · exact Nat.or_lt_two_pow (zf_un_lt h M r) (h _)
    · exact zf_un_lt h M r
theorem zf_ta_lt {P k : Nat} {C : Nat → Nat} (h : ∀ i, C i < 2 ^ k) : ∀ r, zf_ta P C r < 2 ^ k
  | 0 => Nat.pow_pos (by omega)
  | r + 1 => Nat.or_lt_two_pow (zf_ta_lt h r) (h _)
theorem zf_un_eq {P : Nat} {C : Nat → Nat} {M N r : Nat} (h : ∀ j, j < r → M.testBit j = N.testBit j) : zf_un P C M r = zf_un P C N r := by
  induction r with
  | zero => rfl
  | succ r ih =>
    show (if M.testBit r = true then zf_un P C M r ||| C (P - 1 - r) else zf_un P C M r) = (if N.testBit r = true then zf_un P C N r ||| C (P - 1 - r) else zf_un P C N r)
    rw [ih (fun j hj => h j (by omega)), h r (by omega)]
theorem zf_pc_eq {M N r : Nat} (h : ∀ j, j < r → M.testBit j = N.testBit j) : zf_pc M r = zf_pc N r := za_c_eq h
theorem zf_ls_eq {P M N r : Nat} (h : ∀ j, j < r → M.testBit j = N.testBit j) : zf_ls P M r = zf_ls P N r := by
  induction r with
  | zero => rfl
  | succ r ih =>
    show (if M.testBit r = true then (P - 1 - r) :: zf_ls P M r else zf_ls P M r) = (if N.testBit r = true then (P - 1 - r) :: zf_ls P N r else zf_ls P N r)
    rw [ih (fun j hj => h j (by omega)), h r (by omega)]
theorem zf_hb {M r : Nat} (h : M < 2 ^ r) : (2 ^ r + M).testBit r = true := by rw [Nat.testBit_two_pow_add_eq, Nat.testBit_lt_two_pow h]; rfl
theorem zf_lb {M r j : Nat} (hj : j < r) : (2 ^ r + M).testBit j = M.testBit j := Nat.testBit_two_pow_add_gt hj M
theorem zf_un_hi {P : Nat} {C : Nat → Nat} {M r : Nat} (h : M < 2 ^ r) : zf_un P C (2 ^ r + M) (r + 1) = zf_un P C M r ||| C (P - 1 - r) := by
  show (if (2 ^ r + M).testBit r = true then _ else _) = _
  rw [if_pos (zf_hb h), zf_un_eq (fun j hj => zf_lb hj)]
theorem zf_pc_hi {M r : Nat} (h : M < 2 ^ r) : zf_pc (2 ^ r + M) (r + 1) = zf_pc M r + 1 := by
  rw [zf_pc_s, zf_hb h, zf_pc_eq (fun j hj => zf_lb hj)]; rfl
theorem zf_ls_hi {P M r : Nat} (h : M < 2 ^ r) : zf_ls P (2 ^ r + M) (r + 1) = (P - 1 - r) :: zf_ls P M r := by
  show (if (2 ^ r + M).testBit r = true then _ else _) = _
  rw [if_pos (zf_hb h), zf_ls_eq (fun j hj => zf_lb hj)]
theorem zf_un_lo {P : Nat} {C : Nat → Nat} {M r : Nat} (h : M < 2 ^ r) : zf_un P C M (r + 1) = zf_un P C M r := by
  show (if M.testBit r = true then _ else _) = _
  rw [if_neg (by rw [Nat.testBit_lt_two_pow h]; decide)]
theorem zf_pc_lo {M r : Nat} (h : M < 2 ^ r) : zf_pc M (r + 1) = zf_pc M r := by
  rw [zf_pc_s, Nat.testBit_lt_two_pow h]; rfl
theorem zf_ls_lo {P M r : Nat} (h : M < 2 ^ r) : zf_ls P M (r + 1) = zf_ls P M r := by
  show (if M.testBit r = true then _ else _) = _
  rw [if_neg (by rw [Nat.testBit_lt_two_pow h]; decide)]
theorem zf_pc0 {M r : Nat} (h : M < 2 ^ r) (h0 : zf_pc M r = 0) : M = 0 :=
  za_0.mpr (fun i => by
    rcases Nat.lt_or_ge i r with z | z
    · exact za_c_0.mp h0 i z
    · exact za_hi h z)
theorem zf_un0 (P : Nat) (C : Nat → Nat) : ∀ r, zf_un P C 0 r = 0
  | 0 => rfl
  | r + 1 => by
    show (if (0 : Nat).testBit r = true then _ else _) = _
    rw [if_neg (by rw [Nat.zero_testBit]; decide), zf_un0 P C r]
theorem zf_pc00 : ∀ r, zf_pc 0 r = 0 := fun r => za_c_0.mpr (fun i _ => Nat.zero_testBit i)
theorem zf_ls0 (P : Nat) : ∀ r, zf_ls P 0 r = []
  | 0 => rfl
  | r + 1 => by
    show (if (0 : Nat).testBit r = true then _ else _) = _
    rw [if_neg (by rw [Nat.zero_testBit]; decide), zf_ls0 P r]
/-! found, none, none less -/
def zf_Fd (P : Nat) (C : Nat → Nat) (O r k U M : Nat) : Prop := M < 2 ^ r ∧ zf_pc M r = k ∧ za_nd O (U ||| zf_un P C M r) = 0 ∧ ∀ N, N < 2 ^ r → zf_pc N r = k → za_nd O (U ||| zf_un P C N r) = 0 → N ≤ M
def zf_No (P : Nat) (C : Nat → Nat) (O r k U : Nat) : Prop := ∀ N, N < 2 ^ r → zf_pc N r = k → ¬ za_nd O (U ||| zf_un P C N r) = 0
def zf_Nl (P : Nat) (C : Nat → Nat) (O r k U : Nat) : Prop := ∀ N, N < 2 ^ r → za_nd O (U ||| zf_un P C N r) = 0 → k ≤ zf_pc N r
section
variable {P O r k U M : Nat} {C : Nat → Nat}
theorem zf_sp {N : Nat} (h : N < 2 ^ (r + 1)) : N < 2 ^ r ∨ ∃ K, K < 2 ^ r ∧ N = 2 ^ r + K := by
  rcases Nat.lt_or_ge N (2 ^ r) with z | z
  · exact Or.inl z
  · refine Or.inr ⟨N - 2 ^ r, ?_, by omega⟩
    rw [Nat.pow_succ] at h; omega
theorem zf_as (a b c : Nat) : a ||| (b ||| c) = (a ||| c) ||| b := by rw [Nat.or_comm b c, Nat.or_assoc]
theorem zf_lt2 (h : M < 2 ^ r) : 2 ^ r + M < 2 ^ (r + 1) ∧ M < 2 ^ (r + 1) := by rw [Nat.pow_succ]; omega
theorem zf_No_s (h1 : zf_No P C O r k (U ||| C (P - 1 - r))) (h2 : zf_No P C O r (k + 1) U) : zf_No P C O (r + 1) (k + 1) U := by
  intro N hN hk hc
  rcases zf_sp hN with z | ⟨K, hK, rfl⟩
  · rw [zf_pc_lo z] at hk
    rw [zf_un_lo z] at hc
    exact h2 N z hk hc
  · rw [zf_pc_hi hK] at hk
    rw [zf_un_hi hK, zf_as] at hc
    exact h1 K hK (by omega) hc
theorem zf_Fd_hi (h : zf_Fd P C O r k (U ||| C (P - 1 - r)) M) : zf_Fd P C O (r + 1) (k + 1) U (2 ^ r + M) := by
  obtain ⟨a, b, c, d⟩ := h
  refine ⟨(zf_lt2 a).1, by rw [zf_pc_hi a, b], by rw [zf_un_hi a, zf_as]; exact c, ?_⟩
  intro N hN hk hc
  rcases zf_sp hN with z | ⟨K, hK, rfl⟩
  · omega
  · rw [zf_pc_hi hK] at hk
    rw [zf_un_hi hK, zf_as] at hc
    have := d K hK (by omega) hc
    omega
theorem zf_Fd_lo (h1 : zf_No P C O r k (U ||| C (P - 1 - r))) (h : zf_Fd P C O r (k + 1) U M) : zf_Fd P C O (r + 1) (k + 1) U M := by
  obtain ⟨a, b, c, d⟩ := h
  refine ⟨(zf_lt2 a).2, by rw [zf_pc_lo a, b], by rw [zf_un_lo a]; exact c, ?_⟩
  intro N hN hk hc
  rcases zf_sp hN with z | ⟨K, hK, rfl⟩
  · rw [zf_pc_lo z] at hk
    rw [zf_un_lo z] at hc
    exact d N z hk hc
  · rw [zf_pc_hi hK] at hk
    rw [zf_un_hi hK, zf_as] at hc
    exact absurd hc (h1 K hK (by omega))
theorem zf_Fd_0 (h : za_nd O U = 0) : zf_Fd P C O r 0 U 0 :=
  ⟨Nat.pow_pos (by omega), zf_pc00 r, by rw [zf_un0, Nat.or_zero]; exact h, fun N hN hk _ => by rw [zf_pc0 hN hk]; exact Nat.le_refl _⟩
theorem zf_No_0 (h : ¬ za_nd O U = 0) : zf_No P C O r 0 U := fun N hN hk hc => h (by
  rw [zf_pc0 hN hk, zf_un0, Nat.or_zero] at hc; exact hc)
theorem zf_No_r : zf_No P C O 0 (k + 1) U := fun N hN hk hc => by
  have : zf_pc N 0 = 0 := rfl
  omega
theorem zf_No_ta (h : ¬ za_nd O (U ||| zf_ta P C r) = 0) : zf_No P C O r k U := fun N hN hk hc => h (by
  rw [za_nd0] at hc ⊢
  intro i hi
  have := hc i hi
  rw [Nat.testBit_or, Bool.or_eq_true] at this ⊢
  rcases this with z | z
  · exact Or.inl z
  · obtain ⟨j, a, _, d⟩ := zf_un_tb.mp z
    exact Or.inr (zf_ta_tb.mpr ⟨j, a, d⟩))
theorem zf_Nl_hi (h : zf_Nl P C O (r + 1) (k + 1) U) : zf_Nl P C O r k (U ||| C (P - 1 - r)) := fun N hN hc => by
  have := h (2 ^ r + N) (zf_lt2 hN).1 (by rw [zf_un_hi hN, zf_as]; exact hc)
  rw [zf_pc_hi hN] at this
  omega
theorem zf_Nl_lo (h : zf_Nl P C O (r + 1) k U) : zf_Nl P C O r k U := fun N hN hc => by
  have := h N (zf_lt2 hN).2 (by rw [zf_un_lo hN]; exact hc)
  rw [zf_pc_lo hN] at this
  exact this
theorem zf_No_us (hn : zf_Nl P C O (r + 1) (k + 1) U) (h : za_nd (C (P - 1 - r) &&& O) U = 0) : zf_No P C O r k (U ||| C (P - 1 - r)) := fun N hN hk hc => by
  have e : za_nd O (U ||| zf_un P C N r) = 0 := by
    rw [za_nd0] at h hc ⊢
    intro i hi
    have := hc i hi
    rw [Nat.testBit_or, Bool.or_eq_true, Nat.testBit_or, Bool.or_eq_true] at this
    rw [Nat.testBit_or, Bool.or_eq_true]
    rcases this with (z | z) | z
    · exact Or.inl z
    · exact Or.inl (h i (by rw [Nat.testBit_and, z, hi]; rfl))
    · exact Or.inr z
  have := zf_Nl_lo hn N hN e
  omega
theorem zf_Nl_No (h : ∀ j, j < k → zf_No P C O r j U) : zf_Nl P C O r k U := fun N hN hc => by
  rcases Nat.lt_or_ge (zf_pc N r) k with z | z
  · exact absurd hc (h _ z N hN rfl)
  · exact z
end
/-! the best cover -/
def zf_Cm (P : Nat) (C : Nat → Nat) (O M : Nat) : Prop := M < 2 ^ P ∧ za_nd O (zf_un P C M P) = 0 ∧ ∀ N, N < 2 ^ P → za_nd O (zf_un P C N P) = 0 → zf_pc M P < zf_pc N P ∨ (zf_pc M P = zf_pc N P ∧ N ≤ M)
theorem zf_Cm_u {P O M N : Nat} {C : Nat → Nat} (h : zf_Cm P C O M) (g : zf_Cm P C O N) : M = N := by
  have a := h.2.2 N g.1 g.2.1
  have b := g.2.2 M h.1 h.2.1
  omega
theorem zf_Cm_of {P O M k : Nat} {C : Nat → Nat} (h : zf_Fd P C O P k 0 M) (hn : ∀ j, j < k → zf_No P C O P j 0) : zf_Cm P C O M := by
  obtain ⟨a, b, c, d⟩ := h
  rw [Nat.zero_or] at c
  refine ⟨a, c, fun N hN hc => ?_⟩
  have hc' : za_nd O (0 ||| zf_un P C N P) = 0 := by rw [Nat.zero_or]; exact hc
  rcases Nat.lt_trichotomy (zf_pc N P) k with z | z | z
  · exact absurd hc' (hn _ z N hN rfl)
  · exact Or.inr ⟨by omega, d N hN z hc'⟩
  · exact Or.inl (by omega)
def zf_yl (P : Nat) (C : Nat → Nat) (O : Nat) : Nat → Nat × Nat → Nat × Nat
  | 0, s => s
  | k + 1, s => zf_yl P C O k (if zf_pc k P < s.2 ∧ za_nd O (zf_un P C k P) = 0 then (k, zf_pc k P) else s)
def zf_In (P : Nat) (C : Nat → Nat) (O k : Nat) (s : Nat × Nat) : Prop :=
  (s = (0, 100) ∧ ∀ N, k ≤ N → N < 2 ^ P → za_nd O (zf_un P C N P) = 0 → 100 ≤ zf_pc N P) ∨
  (k ≤ s.1 ∧ s.1 < 2 ^ P ∧ s.2 = zf_pc s.1 P ∧ za_nd O (zf_un P C s.1 P) = 0 ∧ ∀ N, k ≤ N → N < 2 ^ P → za_nd O (zf_un P C N P) = 0 → zf_pc s.1 P < zf_pc N P ∨ (zf_pc s.1 P = zf_pc N P ∧ N ≤ s.1))
theorem zf_yl_in {P O : Nat} {C : Nat → Nat} : ∀ k s, k ≤ 2 ^ P → zf_In P C O k s → zf_In P C O 0 (zf_yl P C O k s)
  | 0, s, _, h => h
  | k + 1, s, hk, h => by
    show zf_In P C O 0 (zf_yl P C O k (if zf_pc k P < s.2 ∧ za_nd O (zf_un P C k P) = 0 then (k, zf_pc k P) else s))
    apply zf_yl_in k _ (by omega)
    split
    · rename_i hc
      refine Or.inr ⟨Nat.le_refl _, by show k < 2 ^ P; omega, rfl, hc.2, fun N hN hN2 hcN => ?_⟩
      show zf_pc k P < zf_pc N P ∨ (zf_pc k P = zf_pc N P ∧ N ≤ k)
      by_cases e : N = k
      · subst e; exact Or.inr ⟨rfl, Nat.le_refl _⟩
      · rcases h with ⟨h1, h2⟩ | ⟨h1, h2, h3, h4, h5⟩
        · have := h2 N (by omega) hN2 hcN
          rw [h1] at hc
          have : zf_pc k P < 100 := hc.1
          exact Or.inl (by omega)
        · have := h5 N (by omega) hN2 hcN
          have := hc.1
          exact Or.inl (by omega)
    · rename_i hc
      rcases h with ⟨h1, h2⟩ | ⟨h1, h2, h3, h4, h5⟩
      · refine Or.inl ⟨h1, fun N hN hN2 hcN => ?_⟩
        by_cases e : N = k
        · subst e
          rcases Nat.lt_or_ge (zf_pc N P) 100 with z | z
          · exact absurd ⟨by rw [h1]; exact z, hcN⟩ hc
          · exact z
        · exact h2 N (by omega) hN2 hcN
      · refine Or.inr ⟨by omega, h2, h3, h4, fun N hN hN2 hcN => ?_⟩
        by_cases e : N = k
        · subst e
          rcases Nat.lt_or_ge (zf_pc N P) s.2 with z | z
          · exact absurd ⟨z, hcN⟩ hc
          · rw [h3] at z
            rcases Nat.lt_or_ge (zf_pc s.1 P) (zf_pc N P) with y | y
            · exact Or.inl y
            · exact Or.inr ⟨by omega, by omega⟩
        · exact h5 N (by omega) hN2 hcN
theorem zf_full {P O : Nat} {C : Nat → Nat} (h : ∀ c, O.testBit c = true → ∃ k, k < P ∧ (C k).testBit c = true) : za_nd O (zf_un P C (2 ^ P - 1) P) = 0 := by
  rw [za_nd0]
  intro c hc
  obtain ⟨k, hk, hkc⟩ := h c hc
  refine zf_un_tb.mpr ⟨P - 1 - k, by omega, ?_, ?_⟩
  · rw [Nat.testBit_two_pow_sub_one, decide_eq_true (by omega)]
  · rw [show P - 1 - (P - 1 - k) = k by omega]; exact hkc
theorem zf_pc_le (M r : Nat) : zf_pc M r ≤ r := za_c_le _ _
def zf_bm (P : Nat) (C : Nat → Nat) (O : Nat) : Nat := (zf_yl P C O (2 ^ P) (0, 100)).1
theorem zf_bm_s {P O : Nat} {C : Nat → Nat} (hP : P ≤ 16) (h : ∀ c, O.testBit c = true → ∃ k, k < P ∧ (C k).testBit c = true) : zf_Cm P C O (zf_bm P C O) ∧ zf_yl P C O (2 ^ P) (0, 100) = (zf_bm P C O, zf_pc (zf_bm P C O) P) := by
  have hp : 0 < 2 ^ P := Nat.pow_pos (by omega)
  have i0 : zf_In P C O (2 ^ P) (0, 100) := Or.inl ⟨rfl, fun N a b => by omega⟩
  have i1 := zf_yl_in (P := P) (C := C) (O := O) (2 ^ P) (0, 100) (Nat.le_refl _) i0
  rcases i1 with ⟨h1, h2⟩ | ⟨h1, h2, h3, h4, h5⟩
  · have := h2 (2 ^ P - 1) (by omega) (by omega) (zf_full h)
    have := zf_pc_le (2 ^ P - 1) P
    omega
  · refine ⟨⟨h2, h4, fun N hN hc => h5 N (by omega) hN hc⟩, ?_⟩
    exact Prod.ext rfl h3
end
section
/-! ===== the net in naturals; least closed sets; values; sweeps ===== -/
theorem za_fin {c : Prop} {post : Int32 → Prop} (b : Bool) (e : c ↔ b = true) (h : post (za_b b)) : (c → post 1) ∧ (¬ c → post 0) :=
  za_if b e (fun z => by rw [z] at h; exact h) (fun z => by rw [z] at h; exact h)
theorem za_fin' {c : Prop} {post : Int32 → Prop} (b : Bool) (e : c ↔ b = false) (h : post (za_b b)) : (c → post 0) ∧ (¬ c → post 1) :=
  ⟨fun z => by rw [e.mp z] at h; exact h, fun z => by
    have : b = true := za_t (fun y => z (e.mpr y))
    rw [this] at h; exact h⟩
theorem za_if0 {c A B : Prop} (b : Bool) (e : c ↔ b = false) (f : b = false → A) (g : b = true → B) : (c → A) ∧ (¬ c → B) :=
  ⟨fun h => f (e.mp h), fun h => g (za_t (fun y => h (e.mpr y)))⟩
def zn_N (ns nt : Nat) (sg : Nat → Nat) (dr : Nat → Bool) (pr po : Nat → Nat) (b_sig b_dir b_pre b_post : Nat → Int32) : Prop :=
  (1 ≤ ns ∧ ns ≤ 4) ∧ nt ≤ 12 ∧ ∀ t, t < nt → (b_sig t = nI (sg t) ∧ b_dir t = za_b (dr t) ∧ b_pre t = nI (pr t) ∧ b_post t = nI (po t)) ∧ sg t < ns ∧ pr t < 64 ∧ po t < 64
def zn_en (pr : Nat → Nat) (m t : Nat) : Bool := (m &&& pr t) == pr t
def zn_us (pr po : Nat → Nat) (m t : Nat) : Bool := (za_nd m (pr t) &&& po t) != 0
def zn_ic (sg : Nat → Nat) (dr : Nat → Bool) (c t : Nat) : Bool := c.testBit (sg t) == dr t
def zn_nm (pr po : Nat → Nat) (m t : Nat) : Nat := za_nd m (pr t) ||| po t
def zn_nc (sg : Nat → Nat) (c t : Nat) : Nat := c ^^^ 2 ^ sg t
def zn_yc (sg : Nat → Nat) (dr : Nat → Bool) (c t : Nat) : Nat := if dr t = true then c ||| 2 ^ sg t else za_nd c (2 ^ sg t)
def zn_k (sg : Nat → Nat) (dr : Nat → Bool) (pr po : Nat → Nat) (m c t : Nat) : Bool := zn_en pr m t && (!zn_us pr po m t && !zn_ic sg dr c t)
def zn_g (sg : Nat → Nat) (dr : Nat → Bool) (pr po : Nat → Nat) (st t : Nat) : Bool := zn_k sg dr pr po (st / 16) (st % 16) t
def zn_t (sg pr po : Nat → Nat) (st t : Nat) : Nat := 16 * zn_nm pr po (st / 16) t + zn_nc sg (st % 16) t
theorem zn_yc_eq {sg : Nat → Nat} {dr : Nat → Bool} {c t : Nat} (h : zn_ic sg dr c t = false) : zn_yc sg dr c t = zn_nc sg c t := by
  unfold zn_ic at h
  unfold zn_yc zn_nc
  have h' : c.testBit (sg t) ≠ dr t := fun z => by rw [z] at h; simp at h
  apply Nat.eq_of_testBit_eq
  intro i
  by_cases e : i = sg t
  · subst e
    split
    · rename_i z
      rw [z] at h'
      rw [Nat.testBit_or, Nat.testBit_xor, Nat.testBit_two_pow_self, za_f h']; rfl
    · rename_i z
      rw [za_f z] at h'
      rw [za_nd_tb, Nat.testBit_xor, Nat.testBit_two_pow_self, za_t h']; rfl
  · split
    · rw [Nat.testBit_or, Nat.testBit_xor, Nat.testBit_two_pow_of_ne (fun z => e z.symm)]; simp
    · rw [za_nd_tb, Nat.testBit_xor, Nat.testBit_two_pow_of_ne (fun z => e z.symm)]; simp
theorem zn_nc_lt {sg : Nat → Nat} {c t k : Nat} (hc : c < 2 ^ k) (hs : sg t < k) : zn_nc sg c t < 2 ^ k :=
  Nat.xor_lt_two_pow hc (Nat.pow_lt_pow_right (by omega) hs)
theorem zn_yc_lt {sg : Nat → Nat} {dr : Nat → Bool} {c t k : Nat} (hc : c < 2 ^ k) (hs : sg t < k) : zn_yc sg dr c t < 2 ^ k := by
  unfold zn_yc
  split
  · exact Nat.or_lt_two_pow hc (Nat.pow_lt_pow_right (by omega) hs)
  · exact za_ndlt hc
theorem zn_nm_lt {pr po : Nat → Nat} {m t : Nat} (hm : m < 64) (hp : po t < 64) : zn_nm pr po m t < 64 :=
  Nat.or_lt_two_pow (n := 6) (za_ndlt hm) hp
/-! closed sets over 1024 states -/
def zn_Cl (g : Nat → Nat → Bool) (τ : Nat → Nat → Nat) (nt : Nat) (Q : Nat → Prop) : Prop := ∀ st t, st < 1024 → t < nt → Q st → g st t = true → Q (τ st t)
def zn_Ls (g : Nat → Nat → Bool) (τ : Nat → Nat → Nat) (nt s0 : Nat) (V : Nat → Bool) : Prop := V s0 = true ∧ zn_Cl g τ nt (fun st => V st = true) ∧ ∀ Q : Nat → Prop, Q s0 → zn_Cl g τ nt Q → ∀ st, st < 1024 → V st = true → Q st
theorem zn_Ls_u {g : Nat → Nat → Bool} {τ : Nat → Nat → Nat} {nt s0 : Nat} {V W : Nat → Bool} (h : zn_Ls g τ nt s0 V) (k : zn_Ls g τ nt s0 W) : ∀ st, st < 1024 → V st = W st := fun st hs =>
  za_beq ⟨fun z => h.2.2 (fun st => W st = true) k.1 k.2.1 st hs z, fun z => k.2.2 (fun st => V st = true) h.1 h.2.1 st hs z⟩
theorem zn_Cl_c {g g' : Nat → Nat → Bool} {τ τ' : Nat → Nat → Nat} {nt : Nat} {Q I : Nat → Prop} (hI : ∀ st t, st < 1024 → t < nt → I st → g st t = g' st t ∧ (g st t = true → τ st t = τ' st t)) (hQ : ∀ st, Q st → I st) (h : zn_Cl g τ nt Q) : zn_Cl g' τ' nt Q := by
  intro st t hs ht q hg
  obtain ⟨a, b⟩ := hI st t hs ht (hQ st q)
  rw [← a] at hg
  rw [← b hg]
  exact h st t hs ht q hg
def zn_rep (b : Nat → Int32) (V : Nat → Bool) : Prop := ∀ st, st < 1024 → b st = za_b (V st)
def zn_ad (V : Nat → Bool) (a : Nat) : Nat → Bool := fun j => V j || decide (j = a)
theorem zn_ad_s (V : Nat → Bool) (a : Nat) : zn_ad V a a = true := by show (V a || decide (a = a)) = true; rw [decide_eq_true rfl, Bool.or_true]
theorem zn_ad_i {V : Nat → Bool} {a j : Nat} (h : V j = true) : zn_ad V a j = true := by show (V j || decide (j = a)) = true; rw [h]; rfl
theorem zn_ad_n {V : Nat → Bool} {a j : Nat} (h : j ≠ a) : zn_ad V a j = V j := by show (V j || decide (j = a)) = V j; rw [decide_eq_false h, Bool.or_false]
theorem zn_ad_e {V : Nat → Bool} {a j : Nat} (h : zn_ad V a j = true) : V j = true ∨ j = a := by
  by_cases e : j = a
  · exact Or.inr e
  · rw [zn_ad_n e] at h; exact Or.inl h
theorem zn_rep_ad {b : Nat → Int32} {V : Nat → Bool} (a : Nat) (h : zn_rep b V) : zn_rep (upd b a (za_b true)) (zn_ad V a) := by
  intro st hs
  by_cases e : st = a
  · subst e; rw [pk_us, zn_ad_s]
  · rw [pk_un e, zn_ad_n e]; exact h st hs
theorem zn_rep_sm {b : Nat → Int32} {V : Nat → Bool} {a : Nat} (hv : V a = true) (h : zn_rep b V) : zn_rep (upd b a (za_b true)) V := by
  intro st hs
  by_cases e : st = a
  · subst e; rw [pk_us, hv]
  · rw [pk_un e]; exact h st hs
/-! one sweep -/
def zn_I (g : Nat → Nat → Bool) (τ : Nat → Nat → Nat) (nt : Nat) (V0 : Nat → Bool) (s k : Nat) (x : Bool) (V : Nat → Bool) : Prop :=
  (∀ st, V0 st = true → V st = true) ∧
  (∀ Q : Nat → Prop, (∀ st, st < 1024 → V0 st = true → Q st) → zn_Cl g τ nt Q → ∀ st, st < 1024 → V st = true → Q st) ∧
  (x = false → (∀ st, V st = V0 st) ∧ ∀ st t, st < 1024 → t < nt → (st < s ∨ (st = s ∧ t < k)) → V0 st = true → g st t = true → V0 (τ st t) = true) ∧
  (x = true → za_c V0 1024 < za_c V 1024)
theorem zn_I_0 {g : Nat → Nat → Bool} {τ : Nat → Nat → Nat} {nt : Nat} {V0 : Nat → Bool} : zn_I g τ nt V0 0 0 false V0 :=
  ⟨fun _ h => h, fun Q h _ st hs hv => h st hs hv, fun _ => ⟨fun _ => rfl, fun st t _ _ h => by omega⟩, fun h => absurd h (by decide)⟩
theorem zn_I_row {g : Nat → Nat → Bool} {τ : Nat → Nat → Nat} {nt s : Nat} {V0 V : Nat → Bool} {x : Bool} (h : zn_I g τ nt V0 s nt x V) : zn_I g τ nt V0 (s + 1) 0 x V :=
  ⟨h.1, h.2.1, fun z => ⟨(h.2.2.1 z).1, fun st t a b c => (h.2.2.1 z).2 st t a b (by omega)⟩, h.2.2.2⟩
theorem zn_I_no {g : Nat → Nat → Bool} {τ : Nat → Nat → Nat} {nt s k : Nat} {V0 V : Nat → Bool} {x : Bool} (h : zn_I g τ nt V0 s k x V) (hn : ¬ (V s = true ∧ g s k = true)) : zn_I g τ nt V0 s (k + 1) x V :=
  ⟨h.1, h.2.1, fun z => ⟨(h.2.2.1 z).1, fun st t a b c hv hg => by
    by_cases e : st = s ∧ t = k
    · obtain ⟨rfl, rfl⟩ := e
      exact absurd ⟨h.1 _ hv, hg⟩ hn
    · exact (h.2.2.1 z).2 st t a b (by omega) hv hg⟩, h.2.2.2⟩
theorem zn_I_old {g : Nat → Nat → Bool} {τ : Nat → Nat → Nat} {nt s k : Nat} {V0 V : Nat → Bool} {x : Bool} (h : zn_I g τ nt V0 s k x V) (hn : V (τ s k) = true) : zn_I g τ nt V0 s (k + 1) x V :=
  ⟨h.1, h.2.1, fun z => ⟨(h.2.2.1 z).1, fun st t a b c hv hg => by
    by_cases e : st = s ∧ t = k
    · obtain ⟨rfl, rfl⟩ := e
      rw [← (h.2.2.1 z).1]; exact hn
    · exact (h.2.2.1 z).2 st t a b (by omega) hv hg⟩, h.2.2.2⟩
theorem zn_I_new {g : Nat → Nat → Bool} {τ : Nat → Nat → Nat} {nt s k : Nat} {V0 V : Nat → Bool} {x : Bool} (h : zn_I g τ nt V0 s k x V) (hs : s < 1024) (hk : k < nt) (hv : V s = true) (hg : g s k = true) (ht : τ s k < 1024) (hn : V (τ s k) = false) : zn_I g τ nt V0 s (k + 1) true (zn_ad V (τ s k)) := by
  refine ⟨fun st hst => zn_ad_i (h.1 st hst), fun Q q0 qc st hst hvt => ?_, fun z => absurd z (by decide), fun _ => ?_⟩
  · rcases zn_ad_e hvt with z | z
    · exact h.2.1 Q q0 qc st hst z
    · rw [z]; exact qc s k hs hk (h.2.1 Q q0 qc s hs hv) hg
  · have h1 : za_c V0 1024 ≤ za_c V 1024 := za_c_mono (fun i _ z => h.1 i z)
    have h2 : za_c V 1024 < za_c (zn_ad V (τ s k)) 1024 := za_c_lt hn (zn_ad_s _ _) (fun i _ z => zn_ad_i z) ht
    omega
/-! the rounds -/
def zn_B (g : Nat → Nat → Bool) (τ : Nat → Nat → Nat) (nt s0 k : Nat) (x : Bool) (V : Nat → Bool) : Prop :=
  V s0 = true ∧ (∀ Q : Nat → Prop, Q s0 → zn_Cl g τ nt Q → ∀ st, st < 1024 → V st = true → Q st) ∧
  (x = true → k < za_c V 1024) ∧ (x = false → zn_Cl g τ nt (fun st => V st = true))
theorem zn_B_0 {g : Nat → Nat → Bool} {τ : Nat → Nat → Nat} {nt s0 : Nat} {V : Nat → Bool} (h0 : s0 < 1024) (hs : V s0 = true) (h : ∀ st, st < 1024 → V st = true → st = s0) : zn_B g τ nt s0 0 true V :=
  ⟨hs, fun Q q0 _ st hst hv => by rw [h st hst hv]; exact q0, fun _ => by
    rcases Nat.eq_zero_or_pos (za_c V 1024) with z | z
    · rw [za_c_0.mp z s0 h0] at hs; exact absurd hs (by decide)
    · exact z, fun z => absurd z (by decide)⟩
theorem zn_B_s {g : Nat → Nat → Bool} {τ : Nat → Nat → Nat} {nt s0 k : Nat} {V V' : Nat → Bool} {x : Bool} (h : zn_B g τ nt s0 k true V) (hi : zn_I g τ nt V 1024 0 x V') : zn_B g τ nt s0 (k + 1) x V' := by
  refine ⟨hi.1 _ h.1, fun Q q0 qc st hst hv => hi.2.1 Q (fun st hs z => h.2.1 Q q0 qc st hs z) qc st hst hv, fun z => ?_, fun z => ?_⟩
  · have := hi.2.2.2 z
    have := h.2.2.1 rfl
    omega
  · obtain ⟨a, b⟩ := hi.2.2.1 z
    intro st t hs ht hv hg
    have hv' : V' st = true := hv
    show V' (τ st t) = true
    rw [a] at hv' ⊢
    exact b st t hs ht (Or.inl hs) hv' hg
theorem zn_B_e {g : Nat → Nat → Bool} {τ : Nat → Nat → Nat} {nt s0 k : Nat} {V : Nat → Bool} {x : Bool} (h : zn_B g τ nt s0 k x V) (hx : x = false ∨ 1024 ≤ k) : zn_Ls g τ nt s0 V := by
  have : x = false := by
    rcases hx with z | z
    · exact z
    · cases e : x
      · rfl
      · have := h.2.2.1 e
        have := za_c_le V 1024
        omega
  exact ⟨h.1, h.2.2.2 this, h.2.1⟩
/-! values -/
def zn_ex (sg : Nat → Nat) (dr : Nat → Bool) (pr po : Nat → Nat) (nt s m c : Nat) : Bool := za_an (fun t => (sg t == s) && zn_k sg dr pr po m c t) nt
def zn_val (A E b : Nat) : Nat := if A = 0 then 2 else if E = A then 1 - b else if E = 0 then b else 3
def zn_A (R : Nat → Bool) (c : Nat) : Nat := za_c (fun m => R (16 * m + c)) 64
def zn_E (sg : Nat → Nat) (dr : Nat → Bool) (pr po : Nat → Nat) (nt : Nat) (R : Nat → Bool) (s c : Nat) : Nat := za_c (fun m => R (16 * m + c) && zn_ex sg dr pr po nt s m c) 64
def zn_vl (sg : Nat → Nat) (dr : Nat → Bool) (pr po : Nat → Nat) (nt : Nat) (R : Nat → Bool) (s c : Nat) : Nat := zn_val (zn_A R c) (zn_E sg dr pr po nt R s c) (c.testBit s).toNat
theorem zn_vl_lt (sg : Nat → Nat) (dr : Nat → Bool) (pr po : Nat → Nat) (nt : Nat) (R : Nat → Bool) (s c : Nat) : zn_vl sg dr pr po nt R s c < 4 := by
  unfold zn_vl zn_val
  have : (c.testBit s).toNat ≤ 1 := by cases c.testBit s <;> decide
  split
  · omega
  · split
    · omega
    · split <;> omega
/-! the first conflict, the least state that shows something -/
def zn_Cf (ns : Nat) (p : Nat → Nat → Prop) (x : Int32) : Prop :=
  (x = -1 ∧ ∀ s c, s < ns → c < 2 ^ ns → ¬ p s c) ∨ ∃ s c, s < ns ∧ c < 2 ^ ns ∧ x = nI (16 * s + c) ∧ p s c ∧ (∀ s' c', s' < s → c' < 2 ^ ns → ¬ p s' c') ∧ ∀ c', c' < c → ¬ p s c'
theorem zn_Cf_u {ns : Nat} {p : Nat → Nat → Prop} {x y : Int32} (h : zn_Cf ns p x) (k : zn_Cf ns p y) : x = y := by
  rcases h with ⟨rfl, h⟩ | ⟨s, c, hs, hc, rfl, hp, h1, h2⟩
  · rcases k with ⟨rfl, _⟩ | ⟨s, c, hs, hc, _, hp, _⟩
    · rfl
    · exact absurd hp (h s c hs hc)
  · rcases k with ⟨rfl, k⟩ | ⟨s', c', hs', hc', rfl, hp', k1, k2⟩
    · exact absurd hp (k s c hs hc)
    · have e : s = s' := by
        rcases Nat.lt_trichotomy s s' with z | z | z
        · exact absurd hp (k1 s c z hc)
        · exact z
        · exact absurd hp' (h1 s' c' z hc')
      subst e
      have e2 : c = c' := by
        rcases Nat.lt_trichotomy c c' with z | z | z
        · exact absurd hp (k2 c z)
        · exact z
        · exact absurd hp' (h2 c' z)
      rw [e2]
def zn_Lf (p : Nat → Prop) (x : Int32) : Prop := (x = -1 ∧ ∀ st, st < 1024 → ¬ p st) ∨ ∃ st, st < 1024 ∧ x = nI st ∧ p st ∧ ∀ j, j < st → ¬ p j
theorem zn_Lf_u {p q : Nat → Prop} (e : ∀ st, st < 1024 → (p st ↔ q st)) {x y : Int32} (h : zn_Lf p x) (k : zn_Lf q y) : x = y := by
  rcases h with ⟨rfl, h⟩ | ⟨s, hs, rfl, hp, h1⟩
  · rcases k with ⟨rfl, _⟩ | ⟨s, hs, _, hp, _⟩
    · rfl
    · exact absurd ((e s hs).mpr hp) (h s hs)
  · rcases k with ⟨rfl, k⟩ | ⟨s', hs', rfl, hp', k1⟩
    · exact absurd ((e s hs).mp hp) (k s hs)
    · have : s = s' := by
        rcases Nat.lt_trichotomy s s' with z | z | z
        · exact absurd ((e s hs).mp hp) (k1 s z)
        · exact z
        · exact absurd ((e s' hs').mpr hp') (h1 s' z)
      rw [this]
end
section
/-! ===== the reference: tests of a transition, the sweep, the scans over reached states ===== -/
section
variable {ns nt sm sc : Nat} {sg : Nat → Nat} {dr : Nat → Bool} {pr po : Nat → Nat} {R : Nat → Bool}
variable {g_places g_signals g_startMarking g_startCode g_count g_verdict g_primeCount g_coverMask g_coverCount : Int32} {b_sig b_dir b_pre b_post b_isInput b_table b_reach b_met b_next b_implicant b_prime b_value : Nat → Int32}
theorem zy_enabled {post : Int32 → Prop} {t m : Nat} (H : zn_N ns nt sg dr pr po b_sig b_dir b_pre b_post) (ht : t < nt) (h : post (za_b (zn_en pr m t))) : wpY_enabled post (g_places, (nI ns), (nI sm), (nI sc), (nI nt), g_verdict, g_primeCount, g_coverMask, g_coverCount, b_sig, b_dir, b_pre, b_post, b_isInput, b_table, b_reach, b_met, b_next, b_implicant, b_prime, b_value) (nI t) (nI m) := by
  have h12 := H.2.1
  obtain ⟨⟨_, _, e, _⟩, _, hp, _⟩ := H.2.2 t ht
  have v : vp_in (nI t) 12 := vp_in_nI (by omega) (by omega)
  have ce : (nI t).toNatClampNeg = t := nI_clamp (by omega)
  have hle : m &&& pr t ≤ pr t := Nat.and_le_right
  refine And.intro v (And.intro v ?_)
  rw [ce, e, nx_and]
  refine za_fin (zn_en pr m t) ?_ h
  unfold zn_en
  rw [nI_eq (by omega) (by omega), beq_iff_eq]
theorem zy_unsafe {post : Int32 → Prop} {t m : Nat} (H : zn_N ns nt sg dr pr po b_sig b_dir b_pre b_post) (ht : t < nt) (h : post (za_b (zn_us pr po m t))) : wpY_unsafe post (g_places, (nI ns), (nI sm), (nI sc), (nI nt), g_verdict, g_primeCount, g_coverMask, g_coverCount, b_sig, b_dir, b_pre, b_post, b_isInput, b_table, b_reach, b_met, b_next, b_implicant, b_prime, b_value) (nI t) (nI m) := by
  have h12 := H.2.1
  obtain ⟨⟨_, _, e, e2⟩, _, hp, hq⟩ := H.2.2 t ht
  have v : vp_in (nI t) 12 := vp_in_nI (by omega) (by omega)
  have ce : (nI t).toNatClampNeg = t := nI_clamp (by omega)
  have hle : za_nd m (pr t) &&& po t ≤ po t := Nat.and_le_right
  refine And.intro v (And.intro v ?_)
  rw [ce, e, e2, za_ndI, nx_and]
  refine za_fin' (zn_us pr po m t) ?_ h
  unfold zn_us
  rw [← nI_0, nI_eq (by omega) (by omega), bne_eq_false_iff_eq]
theorem zy_inconsistent {post : Int32 → Prop} {t c : Nat} (H : zn_N ns nt sg dr pr po b_sig b_dir b_pre b_post) (ht : t < nt) (hc : c < 16) (h : post (za_b (zn_ic sg dr c t))) : wpY_inconsistent post (g_places, (nI ns), (nI sm), (nI sc), (nI nt), g_verdict, g_primeCount, g_coverMask, g_coverCount, b_sig, b_dir, b_pre, b_post, b_isInput, b_table, b_reach, b_met, b_next, b_implicant, b_prime, b_value) (nI t) (nI c) := by
  have h12 := H.2.1
  have h4 := H.1
  obtain ⟨⟨e, e2, _⟩, hs, _⟩ := H.2.2 t ht
  have v : vp_in (nI t) 12 := vp_in_nI (by omega) (by omega)
  have ce : (nI t).toNatClampNeg = t := nI_clamp (by omega)
  refine And.intro v (And.intro v ?_)
  rw [ce, e, e2, za_rd (by omega) (by omega)]
  refine za_fin (zn_ic sg dr c t) ?_ h
  unfold zn_ic
  rw [za_bb, beq_iff_eq]
theorem zy_cellAfter {post : Int32 → Prop} {t m c : Nat} (H : zn_N ns nt sg dr pr po b_sig b_dir b_pre b_post) (ht : t < nt) (h : post (nI (16 * zn_nm pr po m t + zn_yc sg dr c t))) : wpY_cellAfter post (g_places, (nI ns), (nI sm), (nI sc), (nI nt), g_verdict, g_primeCount, g_coverMask, g_coverCount, b_sig, b_dir, b_pre, b_post, b_isInput, b_table, b_reach, b_met, b_next, b_implicant, b_prime, b_value) (nI t) (nI m) (nI c) := by
  have h12 := H.2.1
  have h4 := H.1
  obtain ⟨⟨e, e2, e3, e4⟩, hs, _⟩ := H.2.2 t ht
  have v : vp_in (nI t) 12 := vp_in_nI (by omega) (by omega)
  have ce : (nI t).toNatClampNeg = t := nI_clamp (by omega)
  refine And.intro v (nm_r (e' := nI (2 ^ sg t)) (by rw [ce, e]; exact za_1l _ (by omega)) (And.intro v (And.intro v (nm_r (e' := nI (zn_nm pr po m t)) (by rw [ce, e3, e4, za_ndI, za_or]; rfl) (And.intro v ?_)))))
  refine za_br1 (dr t) (by rw [ce, e2]) (fun hd => nm_r (e' := nI (c ||| 2 ^ sg t)) (za_or _ _) ?_) (fun hd => nm_r (e' := nI (za_nd c (2 ^ sg t))) (za_ndI _ _) ?_)
  · rw [za_16]
    unfold zn_yc at h
    rw [if_pos hd] at h
    exact h
  · rw [za_16]
    unfold zn_yc at h
    rw [if_neg (by rw [hd]; decide)] at h
    exact h
theorem zy_ya_lt {st t : Nat} (H : zn_N ns nt sg dr pr po b_sig b_dir b_pre b_post) (ht : t < nt) (hs : st < 1024) : 16 * zn_nm pr po (st / 16) t + zn_yc sg dr (st % 16) t < 1024 := by
  have h4 := H.1
  obtain ⟨_, a, _, c⟩ := H.2.2 t ht
  have h1 := zn_nm_lt (pr := pr) (po := po) (m := st / 16) (t := t) (by omega) c
  have h2 := zn_yc_lt (sg := sg) (dr := dr) (c := st % 16) (t := t) (k := 4) (by omega) (by omega)
  omega
/-- the body of the sweep at (st, t) -/
theorem zy_sr_b {post : Int32 → SY → Prop} {J : Int32 → Int32 → (Nat → Int32) → (Nat → Int32) → (Nat → Int32) → (Nat → Int32) → (Nat → Int32) → (Nat → Int32) → (Nat → Int32) → (Nat → Int32) → (Nat → Int32) → (Nat → Int32) → (Nat → Int32) → (Nat → Int32) → Prop} {st t n : Nat} {x1 : Int32} {V : Nat → Bool} (H : zn_N ns nt sg dr pr po b_sig b_dir b_pre b_post) (hs : st < 1024) (ht : t < nt) (hr : zn_rep b_reach V)
    (h1 : ¬ (V st = true ∧ zn_g sg dr pr po st t = true) → wY_sweepReach_13 post J (nI st) g_places (nI ns) (nI sm) (nI sc) (nI nt) g_verdict g_primeCount g_coverMask g_coverCount n x1 (nI (t + 1)) b_sig b_dir b_pre b_post b_isInput b_table b_reach b_met b_next b_implicant b_prime b_value)
    (h2 : V st = true → zn_g sg dr pr po st t = true → V (zn_t sg pr po st t) = true → wY_sweepReach_13 post J (nI st) g_places (nI ns) (nI sm) (nI sc) (nI nt) g_verdict g_primeCount g_coverMask g_coverCount n x1 (nI (t + 1)) b_sig b_dir b_pre b_post b_isInput b_table (upd b_reach (zn_t sg pr po st t) (za_b true)) b_met b_next b_implicant b_prime b_value)
    (h3 : V st = true → zn_g sg dr pr po st t = true → V (zn_t sg pr po st t) = false → wY_sweepReach_13 post J (nI st) g_places (nI ns) (nI sm) (nI sc) (nI nt) g_verdict g_primeCount g_coverMask g_coverCount n (za_b true) (nI (t + 1)) b_sig b_dir b_pre b_post b_isInput b_table (upd b_reach (zn_t sg pr po st t) (za_b true)) b_met b_next b_implicant b_prime b_value) :
    wY_sweepReach_13 post J (nI st) g_places (nI ns) (nI sm) (nI sc) (nI nt) g_verdict g_primeCount g_coverMask g_coverCount (n + 1) x1 (nI t) b_sig b_dir b_pre b_post b_isInput b_table b_reach b_met b_next b_implicant b_prime b_value := by
  have h12 := H.2.1
  have vs : vp_in (nI st) 1024 := vp_in_nI hs (by omega)
  have cs : (nI st).toNatClampNeg = st := nI_clamp (by omega)
  refine pk_le nt t (fun z => absurd z (by omega)) (fun _ => And.intro za_16n (nm_r (za_q16 hs) (And.intro za_16n (nm_r (za_r16 hs) (And.intro vs ?_)))))
  refine za_brx (V st) (by rw [cs]; exact hr st hs) (fun hv => nm_r (nI_1 t) (h1 (fun z => by rw [hv] at z; exact absurd z.1 (by decide)))) (fun hv => ?_)
  refine zy_enabled H ht (za_br _ (fun he => nm_r (nI_1 t) (h1 (fun z => ?_))) (fun he => ?_))
  · have := z.2
    unfold zn_g zn_k at this
    rw [he] at this; exact absurd this (by simp)
  refine zy_unsafe H ht (za_br _ (fun hu => ?_) (fun hu => nm_r (nI_1 t) (h1 (fun z => ?_))))
  rotate_left
  · have := z.2
    unfold zn_g zn_k at this
    rw [hu] at this; exact absurd this (by simp)
  refine zy_inconsistent H ht (by omega) (za_br _ (fun hi => ?_) (fun hi => nm_r (nI_1 t) (h1 (fun z => ?_))))
  rotate_left
  · have := z.2
    unfold zn_g zn_k at this
    rw [hi] at this; exact absurd this (by simp)
  have hg : zn_g sg dr pr po st t = true := by unfold zn_g zn_k; rw [he, hu, hi]; rfl
  have hlt := zy_ya_lt H ht hs
  have hya : 16 * zn_nm pr po (st / 16) t + zn_yc sg dr (st % 16) t = zn_t sg pr po st t := by unfold zn_t; rw [zn_yc_eq hi]
  rw [hya] at hlt
  refine zy_cellAfter H ht ?_
  rw [hya]
  have vt : vp_in (nI (zn_t sg pr po st t)) 1024 := vp_in_nI hlt (by omega)
  have ct : (nI (zn_t sg pr po st t)).toNatClampNeg = zn_t sg pr po st t := nI_clamp (by omega)
  refine And.intro vt (za_brx (V (zn_t sg pr po st t)) (by rw [ct]; exact hr _ hlt) (fun hw => And.intro vt (nm_r (e' := upd b_reach (zn_t sg pr po st t) (za_b true)) (by rw [ct]; rfl) (nm_r (nI_1 t) (h3 hv hg hw)))) (fun hw => And.intro vt (nm_r (e' := upd b_reach (zn_t sg pr po st t) (za_b true)) (by rw [ct]; rfl) (nm_r (nI_1 t) (h2 hv hg hw)))))
theorem zy_sr_t {post : Int32 → SY → Prop} {J : Int32 → Int32 → (Nat → Int32) → (Nat → Int32) → (Nat → Int32) → (Nat → Int32) → (Nat → Int32) → (Nat → Int32) → (Nat → Int32) → (Nat → Int32) → (Nat → Int32) → (Nat → Int32) → (Nat → Int32) → (Nat → Int32) → Prop} {st : Nat} {V0 : Nat → Bool} (H : zn_N ns nt sg dr pr po b_sig b_dir b_pre b_post) (hs : st < 1024)
    (hJ : ∀ (x : Bool) (V : Nat → Bool) (b_reach : Nat → Int32), zn_rep b_reach V → zn_I (zn_g sg dr pr po) (zn_t sg pr po) nt V0 (st + 1) 0 x V → J (za_b x) (nI (st + 1)) b_sig b_dir b_pre b_post b_isInput b_table b_reach b_met b_next b_implicant b_prime b_value) :
    ∀ d t, t + d = nt → ∀ (x : Bool) (V : Nat → Bool) (b_reach : Nat → Int32), zn_rep b_reach V → zn_I (zn_g sg dr pr po) (zn_t sg pr po) nt V0 st t x V → wY_sweepReach_13 post J (nI st) g_places (nI ns) (nI sm) (nI sc) (nI nt) g_verdict g_primeCount g_coverMask g_coverCount (d + 1) (za_b x) (nI t) b_sig b_dir b_pre b_post b_isInput b_table b_reach b_met b_next b_implicant b_prime b_value := by
  have h12 := H.2.1
  intro d
  induction d with
  | zero =>
    intro t ht x V b_reach hr hi
    have : t = nt := by omega
    subst this
    exact br_t (nI_le (Nat.le_refl _) (by omega)) (nm_r (nI_1 st) (hJ x V b_reach hr (zn_I_row hi)))
  | succ d ih =>
    intro t ht x V b_reach hr hi
    refine zy_sr_b H hs (by omega) hr (fun hn => ih (t + 1) (by omega) x V b_reach hr (zn_I_no hi hn)) (fun hv hg hw => ih (t + 1) (by omega) x V _ (zn_rep_sm hw hr) (zn_I_old hi hw)) (fun hv hg hw => ih (t + 1) (by omega) true _ _ (zn_rep_ad _ hr) (zn_I_new hi hs (by omega) hv hg ?_ hw))
    have h4 := H.1
    obtain ⟨_, a, _, c⟩ := H.2.2 t (by omega)
    have h1 := zn_nm_lt (pr := pr) (po := po) (m := st / 16) (t := t) (by omega) c
    have h2 := zn_nc_lt (sg := sg) (c := st % 16) (t := t) (k := 4) (by omega) (by omega)
    unfold zn_t
    omega
theorem zy_sr_s {post : Int32 → SY → Prop} {V0 : Nat → Bool} (H : zn_N ns nt sg dr pr po b_sig b_dir b_pre b_post)
    (hp : ∀ (x : Bool) (V : Nat → Bool) (b_reach : Nat → Int32), zn_rep b_reach V → zn_I (zn_g sg dr pr po) (zn_t sg pr po) nt V0 1024 0 x V → post (za_b x) (g_places, (nI ns), (nI sm), (nI sc), (nI nt), g_verdict, g_primeCount, g_coverMask, g_coverCount, b_sig, b_dir, b_pre, b_post, b_isInput, b_table, b_reach, b_met, b_next, b_implicant, b_prime, b_value)) :
    ∀ d st, st + d = 1024 → ∀ (x : Bool) (V : Nat → Bool) (b_reach : Nat → Int32), zn_rep b_reach V → zn_I (zn_g sg dr pr po) (zn_t sg pr po) nt V0 st 0 x V → wY_sweepReach_4 post g_places (nI ns) (nI sm) (nI sc) (nI nt) g_verdict g_primeCount g_coverMask g_coverCount (d + 1) (za_b x) (nI st) b_sig b_dir b_pre b_post b_isInput b_table b_reach b_met b_next b_implicant b_prime b_value := by
  intro d
  induction d with
  | zero =>
    intro st hst x V b_reach hr hi
    have : st = 1024 := by omega
    subst this
    exact br_t (nI_le (Nat.le_refl _) (by omega)) (And.intro (za_nb x) (hp x V b_reach hr hi))
  | succ d ih =>
    intro st hst x V b_reach hr hi
    exact br_f (nI_ge (b := 1024) (by omega) (by omega)) ⟨_, zy_sr_t H (by omega) (fun x V b_reach hr hi => ih (st + 1) (by omega) x V b_reach hr hi) nt 0 (by omega) x V b_reach hr hi⟩
theorem zy_sweepReach {post : Int32 → SY → Prop} {V0 : Nat → Bool} (H : zn_N ns nt sg dr pr po b_sig b_dir b_pre b_post) (hr : zn_rep b_reach V0)
    (hp : ∀ (x : Bool) (V : Nat → Bool) (b_reach : Nat → Int32), zn_rep b_reach V → zn_I (zn_g sg dr pr po) (zn_t sg pr po) nt V0 1024 0 x V → post (za_b x) (g_places, (nI ns), (nI sm), (nI sc), (nI nt), g_verdict, g_primeCount, g_coverMask, g_coverCount, b_sig, b_dir, b_pre, b_post, b_isInput, b_table, b_reach, b_met, b_next, b_implicant, b_prime, b_value)) : wpY_sweepReach post (g_places, (nI ns), (nI sm), (nI sc), (nI nt), g_verdict, g_primeCount, g_coverMask, g_coverCount, b_sig, b_dir, b_pre, b_post, b_isInput, b_table, b_reach, b_met, b_next, b_implicant, b_prime, b_value) :=
  ⟨_, zy_sr_s H hp 1024 0 (by omega) false V0 b_reach hr zn_I_0⟩
theorem zy_someUnsafe {post : Int32 → Prop} (H : zn_N ns nt sg dr pr po b_sig b_dir b_pre b_post) (hr : zn_rep b_reach R) (h : post (za_b (za_an (fun st => za_an (fun t => R st && (zn_en pr (st / 16) t && zn_us pr po (st / 16) t)) nt) 1024))) : wpY_someUnsafe post (g_places, (nI ns), (nI sm), (nI sc), (nI nt), g_verdict, g_primeCount, g_coverMask, g_coverCount, b_sig, b_dir, b_pre, b_post, b_isInput, b_table, b_reach, b_met, b_next, b_implicant, b_prime, b_value) := by
  have h12 := H.2.1
  refine za_any (fun n i => wY_someUnsafe_2 post g_places (nI ns) (nI sm) (nI sc) (nI nt) g_verdict g_primeCount g_coverMask g_coverCount b_sig b_dir b_pre b_post b_isInput b_table b_reach b_met b_next b_implicant b_prime b_value n (nI i)) 1024 _ post h (fun n h0 => br_t (nI_le (Nat.le_refl _) (by omega)) h0) ?_
  intro n st hst ht hf
  refine br_f (nI_ge (b := 1024) hst (by omega)) ?_
  refine za_scan (fun k t => wY_someUnsafe_11 post (wY_someUnsafe_2 post g_places (nI ns) (nI sm) (nI sc) (nI nt) g_verdict g_primeCount g_coverMask g_coverCount b_sig b_dir b_pre b_post b_isInput b_table b_reach b_met b_next b_implicant b_prime b_value n) (nI st) g_places (nI ns) (nI sm) (nI sc) (nI nt) g_verdict g_primeCount g_coverMask g_coverCount b_sig b_dir b_pre b_post b_isInput b_table b_reach b_met b_next b_implicant b_prime b_value k (nI t)) nt (fun t => (R st && (zn_en pr (st / 16) t && zn_us pr po (st / 16) t)) = true) (fun ha k => br_t (nI_le (Nat.le_refl _) (by omega)) (nm_r (nI_1 st) (hf (za_an_f.mpr fun t ht => za_f (ha t ht))))) ?_
  intro k t htt hb hc
  have cs : (nI st).toNatClampNeg = st := nI_clamp (by omega)
  refine br_f (nI_ge htt (by omega)) (And.intro (vp_in_nI hst (by omega)) ?_)
  refine za_brx (R st) (by rw [cs]; exact hr st hst) (fun hv => nm_r (nI_1 t) (hc (by rw [hv]; simp))) (fun hv => And.intro za_16n ?_)
  rw [za_q16 hst]
  refine zy_enabled H htt (za_br _ (fun he => nm_r (nI_1 t) (hc (by rw [he]; simp))) (fun he => And.intro za_16n ?_))
  refine zy_unsafe H htt (za_br _ (fun hu => nm_r (nI_1 t) (hc (by rw [hu]; simp))) (fun hu => ht (za_an_t.mpr ⟨t, htt, ?_⟩)))
  rw [hv, he, hu]; rfl
theorem zy_someInconsistent {post : Int32 → Prop} (H : zn_N ns nt sg dr pr po b_sig b_dir b_pre b_post) (hr : zn_rep b_reach R) (h : post (za_b (za_an (fun st => za_an (fun t => R st && (zn_en pr (st / 16) t && zn_ic sg dr (st % 16) t)) nt) 1024))) : wpY_someInconsistent post (g_places, (nI ns), (nI sm), (nI sc), (nI nt), g_verdict, g_primeCount, g_coverMask, g_coverCount, b_sig, b_dir, b_pre, b_post, b_isInput, b_table, b_reach, b_met, b_next, b_implicant, b_prime, b_value) := by
  have h12 := H.2.1
  refine za_any (fun n i => wY_someInconsistent_2 post g_places (nI ns) (nI sm) (nI sc) (nI nt) g_verdict g_primeCount g_coverMask g_coverCount b_sig b_dir b_pre b_post b_isInput b_table b_reach b_met b_next b_implicant b_prime b_value n (nI i)) 1024 _ post h (fun n h0 => br_t (nI_le (Nat.le_refl _) (by omega)) h0) ?_
  intro n st hst ht hf
  refine br_f (nI_ge (b := 1024) hst (by omega)) ?_
  refine za_scan (fun k t => wY_someInconsistent_11 post (wY_someInconsistent_2 post g_places (nI ns) (nI sm) (nI sc) (nI nt) g_verdict g_primeCount g_coverMask g_coverCount b_sig b_dir b_pre b_post b_isInput b_table b_reach b_met b_next b_implicant b_prime b_value n) (nI st) g_places (nI ns) (nI sm) (nI sc) (nI nt) g_verdict g_primeCount g_coverMask g_coverCount b_sig b_dir b_pre b_post b_isInput b_table b_reach b_met b_next b_implicant b_prime b_value k (nI t)) nt (fun t => (R st && (zn_en pr (st / 16) t && zn_ic sg dr (st % 16) t)) = true) (fun ha k => br_t (nI_le (Nat.le_refl _) (by omega)) (nm_r (nI_1 st) (hf (za_an_f.mpr fun t ht => za_f (ha t ht))))) ?_
  intro k t htt hb hc
  have cs : (nI st).toNatClampNeg = st := nI_clamp (by omega)
  refine br_f (nI_ge htt (by omega)) (And.intro (vp_in_nI hst (by omega)) ?_)
  refine za_brx (R st) (by rw [cs]; exact hr st hst) (fun hv => nm_r (nI_1 t) (hc (by rw [hv]; simp))) (fun hv => And.intro za_16n ?_)
  rw [za_r16 hst, za_q16 hst]
  refine zy_enabled H htt (za_br _ (fun he => nm_r (nI_1 t) (hc (by rw [he]; simp))) (fun he => And.intro za_16n ?_))
  refine zy_inconsistent H htt (by omega) (za_br _ (fun hu => nm_r (nI_1 t) (hc (by rw [hu]; simp))) (fun hu => ht (za_an_t.mpr ⟨t, htt, ?_⟩)))
  rw [hv, he, hu]; rfl
theorem zy_excited {post : Int32 → Prop} {s m c : Nat} (H : zn_N ns nt sg dr pr po b_sig b_dir b_pre b_post) (hs : s < 4) (hc : c < 16) (h : post (za_b (zn_ex sg dr pr po nt s m c))) : wpY_excited post (g_places, (nI ns), (nI sm), (nI sc), (nI nt), g_verdict, g_primeCount, g_coverMask, g_coverCount, b_sig, b_dir, b_pre, b_post, b_isInput, b_table, b_reach, b_met, b_next, b_implicant, b_prime, b_value) (nI s) (nI m) (nI c) := by
  have h12 := H.2.1
  have h4 := H.1
  refine za_any (fun n i => wY_excited_3 post (nI s) (nI m) (nI c) g_places (nI ns) (nI sm) (nI sc) (nI nt) g_verdict g_primeCount g_coverMask g_coverCount b_sig b_dir b_pre b_post b_isInput b_table b_reach b_met b_next b_implicant b_prime b_value n (nI i)) nt _ post h (fun n h0 => br_t (nI_le (Nat.le_refl _) (by omega)) h0) ?_
  intro n t htt ht hf
  obtain ⟨⟨e, _⟩, hs', _⟩ := H.2.2 t htt
  have ce : (nI t).toNatClampNeg = t := nI_clamp (by omega)
  refine br_f (nI_ge htt (by omega)) (And.intro (vp_in_nI (by omega) (by omega)) ?_)
  refine pk_eq (sg t) s (fun z => ?_) (fun z => nm_r (nI_1 t) (hf (by rw [beq_eq_false_iff_ne.mpr z]; rfl))) (by rw [ce]; exact e) rfl
  refine zy_enabled H htt (za_br _ (fun he => nm_r (nI_1 t) (hf (by unfold zn_k; rw [he]; simp))) (fun he => ?_))
  refine zy_unsafe H htt (za_br _ (fun hu => ?_) (fun hu => nm_r (nI_1 t) (hf (by unfold zn_k; rw [hu]; simp))))
  refine zy_inconsistent H htt hc (za_br _ (fun hi => ht ?_) (fun hi => nm_r (nI_1 t) (hf (by unfold zn_k; rw [hi]; simp))))
  unfold zn_k
  rw [he, hu, hi, beq_iff_eq.mpr z]; rfl
theorem zy_valueFor {post : Int32 → Prop} {s c : Nat} (H : zn_N ns nt sg dr pr po b_sig b_dir b_pre b_post) (hr : zn_rep b_reach R) (hs : s < 4) (hc : c < 16) (h : post (nI (zn_vl sg dr pr po nt R s c))) : wpY_valueFor post (g_places, (nI ns), (nI sm), (nI sc), (nI nt), g_verdict, g_primeCount, g_coverMask, g_coverCount, b_sig, b_dir, b_pre, b_post, b_isInput, b_table, b_reach, b_met, b_next, b_implicant, b_prime, b_value) (nI s) (nI c) := by
  have key : ∀ d m, m + d = 64 → wY_valueFor_8 post (nI s) (nI c) g_places (nI ns) (nI sm) (nI sc) (nI nt) g_verdict g_primeCount g_coverMask g_coverCount b_sig b_dir b_pre b_post b_isInput b_table b_reach b_met b_next b_implicant b_prime b_value (d + 1) (nI (za_c (fun m => R (16 * m + c)) m)) (nI (za_c (fun m => R (16 * m + c) && zn_ex sg dr pr po nt s m c) m)) (nI m) := by
    intro d
    induction d with
    | zero =>
      intro m hm
      have : m = 64 := by omega
      subst this
      have hA : zn_A R c ≤ 64 := za_c_le _ _
      have hE : zn_E sg dr pr po nt R s c ≤ 64 := za_c_le _ _
      unfold zn_vl zn_val at h
      refine br_t (nI_le (Nat.le_refl _) (by omega)) (nm_r (za_rd (by omega) (by omega)) ?_)
      refine pk_eq (zn_A R c) 0 (fun z => ?_) (fun z => pk_eq (zn_E sg dr pr po nt R s c) (zn_A R c) (fun y => ?_) (fun y => pk_eq (zn_E sg dr pr po nt R s c) 0 (fun w => ?_) (fun w => ?_)))
      · rw [if_pos z] at h; exact h
      · rw [if_neg z, if_pos y] at h
        have e1 : (1 : Int32) = nI 1 := rfl
        rw [za_bn, e1, pk_sub (by cases c.testBit s <;> decide)]
        exact h
      · rw [if_neg z, if_neg y, if_pos w] at h
        rw [za_bn]; exact h
      · rw [if_neg z, if_neg y, if_neg w] at h; exact h
    | succ d ih =>
      intro m hm
      obtain ⟨hlt, e1, e2⟩ := za_st (m := m) (c := c) (by omega) hc
      have cs : (nI (16 * m + c)).toNatClampNeg = 16 * m + c := nI_clamp (by omega)
      refine br_f (nI_ge (b := 64) (by omega) (by omega)) ?_
      rw [za_16]
      refine And.intro (vp_in_nI hlt (by omega)) ?_
      have ih1 := ih (m + 1) (by omega)
      have eA : za_c (fun m => R (16 * m + c)) (m + 1) = za_c (fun m => R (16 * m + c)) m + (R (16 * m + c)).toNat := rfl
      have eE : za_c (fun m => R (16 * m + c) && zn_ex sg dr pr po nt s m c) (m + 1) = za_c (fun m => R (16 * m + c) && zn_ex sg dr pr po nt s m c) m + (R (16 * m + c) && zn_ex sg dr pr po nt s m c).toNat := rfl
      rw [eA, eE] at ih1
      refine za_brx (R (16 * m + c)) (by rw [cs]; exact hr _ hlt) (fun hv => nm_r (nI_1 m) ?_) (fun hv => nm_r (nI_1 _) ?_)
      · rw [hv] at ih1; exact ih1
      · rw [hv] at ih1
        refine zy_excited H hs hc (za_br _ (fun he => nm_r (nI_1 m) ?_) (fun he => nm_r (nI_1 _) (nm_r (nI_1 m) ?_)))
        · rw [he] at ih1; exact ih1
        · rw [he] at ih1; exact ih1
  exact ⟨65, key 64 0 (by omega)⟩
theorem zy_leastConflict {post : Int32 → Prop} {ip : Nat → Bool} (H : zn_N ns nt sg dr pr po b_sig b_dir b_pre b_post) (hr : zn_rep b_reach R) (hip : ∀ s, s < ns → b_isInput s = za_b (ip s)) (h : ∀ x, zn_Cf ns (fun s c => ip s = false ∧ zn_vl sg dr pr po nt R s c = 3) x → post x) : wpY_leastConflict post (g_places, (nI ns), (nI sm), (nI sc), (nI nt), g_verdict, g_primeCount, g_coverMask, g_coverCount, b_sig, b_dir, b_pre, b_post, b_isInput, b_table, b_reach, b_met, b_next, b_implicant, b_prime, b_value) := by
  have h4 := H.1
  have hp := za_p4 h4.2
  refine za_scan (fun n i => wY_leastConflict_2 post g_places (nI ns) (nI sm) (nI sc) (nI nt) g_verdict g_primeCount g_coverMask g_coverCount b_sig b_dir b_pre b_post b_isInput b_table b_reach b_met b_next b_implicant b_prime b_value n (nI i)) ns (fun s => ∃ c, c < 2 ^ ns ∧ (ip s = false ∧ zn_vl sg dr pr po nt R s c = 3)) (fun ha n => br_t (nI_le (Nat.le_refl _) (by omega)) (h _ (Or.inl ⟨rfl, fun s c hs hc hh => ha s hs ⟨c, hc, hh⟩⟩))) ?_
  intro n s hs hb hcont
  refine br_f (nI_ge hs (by omega)) ?_
  refine za_scan (fun k c => wY_leastConflict_12 post (wY_leastConflict_2 post g_places (nI ns) (nI sm) (nI sc) (nI nt) g_verdict g_primeCount g_coverMask g_coverCount b_sig b_dir b_pre b_post b_isInput b_table b_reach b_met b_next b_implicant b_prime b_value n) (nI s) g_places (nI ns) (nI sm) (nI sc) (nI nt) g_verdict g_primeCount g_coverMask g_coverCount b_sig b_dir b_pre b_post b_isInput b_table b_reach b_met b_next b_implicant b_prime b_value k (nI c)) (2 ^ ns) (fun c => ip s = false ∧ zn_vl sg dr pr po nt R s c = 3) (fun ha k => ?_) ?_
  · refine pk_le (2 ^ ns) (2 ^ ns) (fun _ => nm_r (nI_1 s) (hcont (fun ⟨c, hc, hh⟩ => ha c hc hh))) (fun z => absurd z (by omega)) (za_1l _ (by omega))
  · intro k c hc hb2 hc2
    have cs : (nI s).toNatClampNeg = s := nI_clamp (by omega)
    refine pk_le (2 ^ ns) c (fun z => absurd z (by omega)) (fun _ => And.intro (vp_in_nI (by omega) (by omega)) ?_) (za_1l _ (by omega))
    refine za_brx (ip s) (by rw [cs]; exact hip s hs) (fun hv => ?_) (fun hv => nm_r (nI_1 c) (hc2 (fun z => by rw [z.1] at hv; exact absurd hv (by decide))))
    have hlt := zn_vl_lt sg dr pr po nt R s c
    refine zy_valueFor H hr (by omega) (by omega) (pk_eq (zn_vl sg dr pr po nt R s c) 3 (fun z => ?_) (fun z => nm_r (nI_1 c) (hc2 (fun y => z y.2))))
    rw [za_16]
    exact h _ (Or.inr ⟨s, c, hs, hc, rfl, ⟨hv, z⟩, fun s' c' a b hh => hb s' a ⟨c', b, hh⟩, hb2⟩)
end
end
section
/-! ===== the reference: explore, counts ===== -/
def zn_U (pr po : Nat → Nat) (nt : Nat) (R : Nat → Bool) : Bool := za_an (fun st => za_an (fun t => R st && (zn_en pr (st / 16) t && zn_us pr po (st / 16) t)) nt) 1024
def zn_Q (sg : Nat → Nat) (dr : Nat → Bool) (pr : Nat → Nat) (nt : Nat) (R : Nat → Bool) : Bool := za_an (fun st => za_an (fun t => R st && (zn_en pr (st / 16) t && zn_ic sg dr (st % 16) t)) nt) 1024
def zn_Vd (U Q : Bool) (F : Int32 → Prop) (v : Nat) : Prop := (U = true ∧ v = 2) ∨ (U = false ∧ Q = true ∧ v = 3) ∨ (U = false ∧ Q = false ∧ ∃ x, F x ∧ ((x = -1 ∧ v = 1) ∨ (x ≠ -1 ∧ v = 4)))
theorem zn_Vd_u {U Q : Bool} {F : Int32 → Prop} (hF : ∀ x y, F x → F y → x = y) {v w : Nat} (h : zn_Vd U Q F v) (k : zn_Vd U Q F w) : v = w := by
  rcases h with ⟨a, rfl⟩ | ⟨a, b, rfl⟩ | ⟨a, b, x, hx, hv⟩ <;> rcases k with ⟨a', rfl⟩ | ⟨a', b', rfl⟩ | ⟨a', b', y, hy, hw⟩
  · rfl
  · rw [a] at a'; exact absurd a' (by decide)
  · rw [a] at a'; exact absurd a' (by decide)
  · rw [a] at a'; exact absurd a' (by decide)
  · rfl
  · rw [b] at b'; exact absurd b' (by decide)
  · rw [a] at a'; exact absurd a' (by decide)
  · rw [b] at b'; exact absurd b' (by decide)
  · have e := hF x y hx hy
    subst e
    rcases hv with ⟨p, rfl⟩ | ⟨p, rfl⟩ <;> rcases hw with ⟨q, rfl⟩ | ⟨q, rfl⟩
    · rfl
    · exact absurd p q
    · exact absurd q p
    · rfl
section
variable {ns nt sm sc : Nat} {sg : Nat → Nat} {dr : Nat → Bool} {pr po : Nat → Nat} {R : Nat → Bool} {ip : Nat → Bool}
variable {g_places g_signals g_startMarking g_startCode g_count g_verdict g_primeCount g_coverMask g_coverCount : Int32} {b_sig b_dir b_pre b_post b_isInput b_table b_reach b_met b_next b_implicant b_prime b_value : Nat → Int32}
theorem zy_ex78 {post : Int32 → SY → Prop} (H : zn_N ns nt sg dr pr po b_sig b_dir b_pre b_post) (hr : zn_rep b_reach R) (hip : ∀ s, s < ns → b_isInput s = za_b (ip s))
    (h : ∀ v, zn_Vd (zn_U pr po nt R) (zn_Q sg dr pr nt R) (zn_Cf ns (fun s c => ip s = false ∧ zn_vl sg dr pr po nt R s c = 3)) v → post (nI v) (g_places, (nI ns), (nI sm), (nI sc), (nI nt), nI v, g_primeCount, g_coverMask, g_coverCount, b_sig, b_dir, b_pre, b_post, b_isInput, b_table, b_reach, b_met, b_next, b_implicant, b_prime, b_value)) : wY_explore_78 post g_places (nI ns) (nI sm) (nI sc) (nI nt) g_verdict g_primeCount g_coverMask g_coverCount b_sig b_dir b_pre b_post b_isInput b_table b_reach b_met b_next b_implicant b_prime b_value := by
  unfold wY_explore_78
  refine zy_someUnsafe H hr (za_br _ (fun hu => ?_) (fun hu => h 2 (Or.inl ⟨hu, rfl⟩)))
  refine zy_someInconsistent H hr (za_br _ (fun hq => ?_) (fun hq => h 3 (Or.inr (Or.inl ⟨hu, hq, rfl⟩))))
  refine zy_leastConflict H hr hip (fun x hx => br_c (fun e => h 1 (Or.inr (Or.inr ⟨hu, hq, x, hx, Or.inl ⟨e, rfl⟩⟩))) (fun e => h 4 (Or.inr (Or.inr ⟨hu, hq, x, hx, Or.inr ⟨e, rfl⟩⟩))))
theorem zy_ex56 {post : Int32 → SY → Prop} (H : zn_N ns nt sg dr pr po b_sig b_dir b_pre b_post)
    (h : ∀ (R : Nat → Bool) (b_reach : Nat → Int32), zn_rep b_reach R → zn_Ls (zn_g sg dr pr po) (zn_t sg pr po) nt (16 * sm + sc) R → wY_explore_78 post g_places (nI ns) (nI sm) (nI sc) (nI nt) g_verdict g_primeCount g_coverMask g_coverCount b_sig b_dir b_pre b_post b_isInput b_table b_reach b_met b_next b_implicant b_prime b_value) :
    ∀ d k, k + d = 1024 → ∀ (x : Bool) (V : Nat → Bool) (b_reach : Nat → Int32), zn_rep b_reach V → zn_B (zn_g sg dr pr po) (zn_t sg pr po) nt (16 * sm + sc) k x V → wY_explore_56 post (d + 1) (za_b x) (nI k) g_places (nI ns) (nI sm) (nI sc) (nI nt) g_verdict g_primeCount g_coverMask g_coverCount b_sig b_dir b_pre b_post b_isInput b_table b_reach b_met b_next b_implicant b_prime b_value := by
  intro d
  induction d with
  | zero =>
    intro k hk x V b_reach hr hb
    have : k = 1024 := by omega
    subst this
    exact br_t (nI_le (Nat.le_refl _) (by omega)) (h V b_reach hr (zn_B_e hb (Or.inr (Nat.le_refl _))))
  | succ d ih =>
    intro k hk x V b_reach hr hb
    refine br_f (nI_ge (b := 1024) (by omega) (by omega)) (za_br x (fun hx => h V b_reach hr (zn_B_e hb (Or.inl hx))) (fun hx => ?_))
    subst hx
    exact zy_sweepReach H hr (fun x V' b_reach hr' hi => nm_r (nI_1 k) (ih (k + 1) (by omega) x V' b_reach hr' (zn_B_s hb hi)))
theorem zy_explore {post : Int32 → SY → Prop} (H : zn_N ns nt sg dr pr po b_sig b_dir b_pre b_post) (hm : sm < 64) (hc : sc < 16) (hv : g_verdict = 0) (hip : ∀ s, s < ns → b_isInput s = za_b (ip s))
    (h : ∀ (R : Nat → Bool) (b_reach : Nat → Int32), zn_rep b_reach R → zn_Ls (zn_g sg dr pr po) (zn_t sg pr po) nt (16 * sm + sc) R → ∀ v, zn_Vd (zn_U pr po nt R) (zn_Q sg dr pr nt R) (zn_Cf ns (fun s c => ip s = false ∧ zn_vl sg dr pr po nt R s c = 3)) v → post (nI v) (g_places, (nI ns), (nI sm), (nI sc), (nI nt), nI v, g_primeCount, g_coverMask, g_coverCount, b_sig, b_dir, b_pre, b_post, b_isInput, b_table, b_reach, b_met, b_next, b_implicant, b_prime, b_value)) : wpY_explore post (g_places, (nI ns), (nI sm), (nI sc), (nI nt), g_verdict, g_primeCount, g_coverMask, g_coverCount, b_sig, b_dir, b_pre, b_post, b_isInput, b_table, b_reach, b_met, b_next, b_implicant, b_prime, b_value) := by
  have h0 : 16 * sm + sc < 1024 := by omega
  have key : ∀ d k, k + d = 1024 → ∀ b_reach : Nat → Int32, (∀ j, j < k → b_reach j = za_b false) → wY_explore_14 post g_places (nI ns) (nI sm) (nI sc) (nI nt) g_verdict g_primeCount g_coverMask g_coverCount (d + 1) (nI k) b_sig b_dir b_pre b_post b_isInput b_table b_reach b_met b_next b_implicant b_prime b_value := by
    intro d
    induction d with
    | zero =>
      intro k hk b_reach hz
      have : k = 1024 := by omega
      subst this
      refine br_t (nI_le (Nat.le_refl _) (by omega)) ?_
      rw [za_16]
      refine And.intro (vp_in_nI h0 (by omega)) (nm_r (e' := upd b_reach (16 * sm + sc) (za_b true)) (by rw [nI_clamp (by omega)]; rfl) ⟨1025, ?_⟩)
      have hr : zn_rep (upd b_reach (16 * sm + sc) (za_b true)) (fun j => decide (j = 16 * sm + sc)) := by
        intro st hs
        show upd b_reach (16 * sm + sc) (za_b true) st = za_b (decide (st = 16 * sm + sc))
        by_cases e : st = 16 * sm + sc
        · rw [e, pk_us, decide_eq_true rfl]
        · rw [pk_un e, decide_eq_false e]; exact hz st hs
      exact zy_ex56 H (fun R b_reach hr hl => zy_ex78 H hr hip (fun v hv => h R b_reach hr hl v hv)) 1024 0 (by omega) true _ _ hr (zn_B_0 h0 (decide_eq_true rfl) (fun st _ z => of_decide_eq_true z))
    | succ d ih =>
      intro k hk b_reach hz
      refine br_f (nI_ge (b := 1024) (by omega) (by omega)) (And.intro (vp_in_nI (by omega) (by omega)) (nm_r (e' := upd b_reach k (za_b false)) (by rw [nI_clamp (by omega)]; rfl) (nm_r (nI_1 k) (ih (k + 1) (by omega) _ (fun j hj => ?_)))))
      by_cases e : j = k
      · rw [e, pk_us]
      · rw [pk_un e]; exact hz j (by omega)
  exact br_t hv ⟨1025, key 1024 0 (by omega) b_reach (fun j hj => absurd hj (by omega))⟩
theorem zy_states {post : Int32 → Prop} (hv : ¬ g_verdict = 0) (hr : zn_rep b_reach R) (h : post (nI (za_c R 1024))) : wpY_states post (g_places, (nI ns), (nI sm), (nI sc), (nI nt), g_verdict, g_primeCount, g_coverMask, g_coverCount, b_sig, b_dir, b_pre, b_post, b_isInput, b_table, b_reach, b_met, b_next, b_implicant, b_prime, b_value) := by
  have key : ∀ d k, k + d = 1024 → wY_states_13 post g_places (nI ns) (nI sm) (nI sc) (nI nt) g_verdict g_primeCount g_coverMask g_coverCount b_sig b_dir b_pre b_post b_isInput b_table b_reach b_met b_next b_implicant b_prime b_value (d + 1) (nI (za_c R k)) (nI k) := by
    intro d
    induction d with
    | zero =>
      intro k hk
      have : k = 1024 := by omega
      subst this
      exact br_t (nI_le (Nat.le_refl _) (by omega)) h
    | succ d ih =>
      intro k hk
      have ih1 := ih (k + 1) (by omega)
      have e : za_c R (k + 1) = za_c R k + (R k).toNat := rfl
      rw [e] at ih1
      refine br_f (nI_ge (b := 1024) (by omega) (by omega)) (And.intro (vp_in_nI (by omega) (by omega)) (za_brx (R k) (by rw [nI_clamp (by omega)]; exact hr k (by omega)) (fun z => nm_r (nI_1 k) ?_) (fun z => nm_r (nI_1 _) (nm_r (nI_1 k) ?_))))
      · rw [z] at ih1; exact ih1
      · rw [z] at ih1; exact ih1
  exact br_f hv ⟨1025, key 1024 0 (by omega)⟩
end
end
section
/-! ===== the reference: cubes, primes, the best cover ===== -/
theorem zc_nz {n q v : Nat} (vl : Nat → Nat) : ((zc_cd n q &&& za_mk (fun c => vl c == v) (2 ^ n)) != 0) = za_an (fun c => (vl c == v) && zc_cv n q c) (2 ^ n) := by
  apply za_beq
  rw [bne_iff_ne, za_n0, za_an_t]
  constructor
  · rintro ⟨c, hc⟩
    rw [Nat.testBit_and, za_mk_tb, zc_cd_tb] at hc
    simp only [Bool.and_eq_true, decide_eq_true_eq] at hc
    exact ⟨c, hc.1.1, by rw [hc.2.2, hc.1.2]; rfl⟩
  · rintro ⟨c, hc, h⟩
    rw [Bool.and_eq_true] at h
    refine ⟨c, ?_⟩
    rw [Nat.testBit_and, za_mk_tb, zc_cd_tb, h.1, h.2, decide_eq_true hc]; rfl
theorem zc_ip_an {n q : Nat} (vl : Nat → Nat) : zc_ip n (za_mk (fun c => vl c == 0) (2 ^ n)) q = !za_an (fun c => (vl c == 0) && zc_cv n q c) (2 ^ n) := by
  rw [← zc_nz]
  unfold zc_ip
  show _ = !(!((zc_cd n q &&& za_mk (fun c => vl c == 0) (2 ^ n)) == 0))
  rw [Bool.not_not]
theorem zc_sb {n q p : Nat} : (za_nd (zc_cd n q) (zc_cd n p) == 0) = !za_an (fun c => zc_cv n q c && !zc_cv n p c) (2 ^ n) := by
  apply za_beq
  rw [beq_iff_eq, za_nd0, Bool.not_eq_true', za_an_f]
  constructor
  · intro h c hc
    cases e : zc_cv n q c
    · rfl
    · have := h c (by rw [zc_cd_tb, e, decide_eq_true hc]; rfl)
      rw [zc_cd_tb, decide_eq_true hc, Bool.true_and] at this
      rw [this]; rfl
  · intro h c hc
    rw [zc_cd_tb, Bool.and_eq_true, decide_eq_true_eq] at hc
    have := h c hc.1
    rw [hc.2, Bool.true_and] at this
    rw [zc_cd_tb, decide_eq_true hc.1, Bool.true_and]
    cases e : zc_cv n p c
    · rw [e] at this; exact absurd this (by decide)
    · rfl
/-- the data of one output: zeros, ones, primes, the codes of a prime -/
def zc_Z (n : Nat) (vl : Nat → Nat) : Nat := za_mk (fun c => vl c == 0) (2 ^ n)
def zc_O (n : Nat) (vl : Nat → Nat) : Nat := za_mk (fun c => vl c == 1) (2 ^ n)
def zc_PL (n : Nat) (vl : Nat → Nat) : List Nat := zc_L n (zc_Z n vl) (zc_O n vl) (3 ^ n)
def zc_P (n : Nat) (vl : Nat → Nat) : Nat := (zc_PL n vl).length
def zc_C (n : Nat) (vl : Nat → Nat) (k : Nat) : Nat := zc_cd n ((zc_PL n vl).getD k 0)
def zc_B (n : Nat) (vl : Nat → Nat) : Nat := zf_bm (zc_P n vl) (zc_C n vl) (zc_O n vl)
theorem zc_P16 {n : Nat} (hn : n ≤ 4) (vl : Nat → Nat) : zc_P n vl ≤ 16 := zc_16 _ (by omega) (za_mk_lt _ _)
theorem zc_cov {n : Nat} (hn : n ≤ 4) (vl : Nat → Nat) (c : Nat) (hc : (zc_O n vl).testBit c = true) : ∃ k, k < zc_P n vl ∧ (zc_C n vl k).testBit c = true :=
  zc_all (by omega) (za_mk_lt _ _) (fun c h => by
    have h' : (za_mk (fun c => vl c == 1) (2 ^ n)).testBit c = true := h
    rw [za_mk_tb, Bool.and_eq_true, beq_iff_eq] at h'
    show (za_mk (fun c => vl c == 0) (2 ^ n)).testBit c = false
    rw [za_mk_tb, h'.2]; simp) c hc
theorem zc_Bs {n : Nat} (hn : n ≤ 4) (vl : Nat → Nat) : zf_Cm (zc_P n vl) (zc_C n vl) (zc_O n vl) (zc_B n vl) ∧ zf_yl (zc_P n vl) (zc_C n vl) (zc_O n vl) (2 ^ zc_P n vl) (0, 100) = (zc_B n vl, zf_pc (zc_B n vl) (zc_P n vl)) :=
  zf_bm_s (zc_P16 hn vl) (zc_cov hn vl)
theorem zc_PL_lt {n k : Nat} {vl : Nat → Nat} (h : k < zc_P n vl) : (zc_PL n vl).getD k 0 < 3 ^ n := (zc_L_get h).1
theorem zc_C_lt (n : Nat) (vl : Nat → Nat) (k : Nat) : zc_C n vl k < 2 ^ 2 ^ n := zc_cd_lt _ _
theorem zc_16b {n x : Nat} (hn : n ≤ 4) (h : x < 2 ^ 2 ^ n) : x < 2 ^ 16 := Nat.lt_of_lt_of_le h (Nat.pow_le_pow_right (by omega) (za_p4 hn))
section
variable {ns nt sm sc : Nat} {sg : Nat → Nat} {dr : Nat → Bool} {pr po : Nat → Nat} {R : Nat → Bool} {ip : Nat → Bool} {vl : Nat → Nat}
variable {g_places g_signals g_startMarking g_startCode g_count g_verdict g_primeCount g_coverMask g_coverCount : Int32} {b_sig b_dir b_pre b_post b_isInput b_table b_reach b_met b_next b_implicant b_prime b_value : Nat → Int32}
theorem zy_covers {post : Int32 → Prop} {q c : Nat} (hn : ns ≤ 4) (hq : q < 81) (hc : c < 16) (h : post (za_b (zc_cv ns q c))) : wpY_covers post (g_places, (nI ns), (nI sm), (nI sc), (nI nt), g_verdict, g_primeCount, g_coverMask, g_coverCount, b_sig, b_dir, b_pre, b_post, b_isInput, b_table, b_reach, b_met, b_next, b_implicant, b_prime, b_value) (nI q) (nI c) := by
  have key : ∀ k s q, s + k = ns → q < 81 → post (za_b (zc_cv k q (c / 2 ^ s))) → wY_covers_5 post (nI c) g_places (nI ns) (nI sm) (nI sc) (nI nt) g_verdict g_primeCount g_coverMask g_coverCount b_sig b_dir b_pre b_post b_isInput b_table b_reach b_met b_next b_implicant b_prime b_value (k + 1) (nI q) (nI s) := by
    intro k
    induction k with
    | zero =>
      intro s q hs hq hh
      have : s = ns := by omega
      subst this
      exact br_t (nI_le (Nat.le_refl _) (by omega)) hh
    | succ k ih =>
      intro s q hs hq h
      have e2 : c / 2 ^ s / 2 = c / 2 ^ (s + 1) := by rw [Nat.div_div_eq_div_mul, Nat.pow_succ]
      have h' : post (za_b ((q % 3 == 2 || q % 3 == c / 2 ^ s % 2) && zc_cv k (q / 3) (c / 2 ^ (s + 1)))) := by rw [← e2]; exact h
      refine br_f (nI_ge (by omega) (by omega)) (And.intro za_3n (nm_r (pk_rem (a := q) (d := 3) (by omega) (by omega) (by omega)) (And.intro za_3n (nm_r (pk_div (a := q) (d := 3) (by omega) (by omega) (by omega)) ?_))))
      refine pk_eq (q % 3) 2 (fun z => nm_r (nI_1 s) (ih (s + 1) (q / 3) (by omega) (by omega) ?_)) (fun z => ?_)
      · rw [beq_iff_eq.mpr z] at h'; exact h'
      · refine pk_eq (q % 3) (c / 2 ^ s % 2) (fun y => nm_r (nI_1 s) (ih (s + 1) (q / 3) (by omega) (by omega) ?_)) (fun y => ?_) rfl (by rw [za_rd (by omega) (by omega), za_bn, Nat.toNat_testBit])
        · rw [beq_iff_eq.mpr y, Bool.or_true] at h'; exact h'
        · rw [beq_eq_false_iff_ne.mpr z, beq_eq_false_iff_ne.mpr y] at h'; exact h'
  exact ⟨_, key ns 0 q (by omega) hq (by rw [Nat.pow_zero, Nat.div_one]; exact h)⟩
theorem zy_coversValue {post : Int32 → Prop} {q v : Nat} (hn : ns ≤ 4) (hq : q < 81) (hv : v < 4) (hvl : ∀ c, vl c < 4) (hx : ∀ c, c < 2 ^ ns → b_next c = nI (vl c)) (h : post (za_b (za_an (fun c => (vl c == v) && zc_cv ns q c) (2 ^ ns)))) : wpY_coversValue post (g_places, (nI ns), (nI sm), (nI sc), (nI nt), g_verdict, g_primeCount, g_coverMask, g_coverCount, b_sig, b_dir, b_pre, b_post, b_isInput, b_table, b_reach, b_met, b_next, b_implicant, b_prime, b_value) (nI q) (nI v) := by
  have hp := za_p4 hn
  refine za_any (fun n i => wY_coversValue_2 post (nI q) (nI v) g_places (nI ns) (nI sm) (nI sc) (nI nt) g_verdict g_primeCount g_coverMask g_coverCount b_sig b_dir b_pre b_post b_isInput b_table b_reach b_met b_next b_implicant b_prime b_value n (nI i)) (2 ^ ns) _ post h (fun n h0 => pk_le (2 ^ ns) (2 ^ ns) (fun _ => h0) (fun z => absurd z (by omega)) (za_1l _ (by omega))) ?_
  intro n c hc ht hf
  have hl := hvl c
  have ce : (nI c).toNatClampNeg = c := nI_clamp (by omega)
  refine pk_le (2 ^ ns) c (fun z => absurd z (by omega)) (fun _ => And.intro (vp_in_nI (by omega) (by omega)) ?_) (za_1l _ (by omega))
  refine pk_eq (vl c) v (fun z => ?_) (fun z => nm_r (nI_1 c) (hf (by rw [beq_eq_false_iff_ne.mpr z]; rfl))) (by rw [ce]; exact hx c hc) rfl
  refine zy_covers hn hq (by omega) (za_br _ (fun y => nm_r (nI_1 c) (hf (by rw [y]; simp))) (fun y => ht (by rw [beq_iff_eq.mpr z, y]; rfl)))
theorem zy_coversAllOf {post : Int32 → Prop} {p q : Nat} (hn : ns ≤ 4) (hp : p < 81) (hq : q < 81) (h : post (za_b (za_nd (zc_cd ns q) (zc_cd ns p) == 0))) : wpY_coversAllOf post (g_places, (nI ns), (nI sm), (nI sc), (nI nt), g_verdict, g_primeCount, g_coverMask, g_coverCount, b_sig, b_dir, b_pre, b_post, b_isInput, b_table, b_reach, b_met, b_next, b_implicant, b_prime, b_value) (nI p) (nI q) := by
  have h16 := za_p4 hn
  rw [zc_sb] at h
  refine za_all (fun n i => wY_coversAllOf_2 post (nI p) (nI q) g_places (nI ns) (nI sm) (nI sc) (nI nt) g_verdict g_primeCount g_coverMask g_coverCount b_sig b_dir b_pre b_post b_isInput b_table b_reach b_met b_next b_implicant b_prime b_value n (nI i)) (2 ^ ns) _ post h (fun n h0 => pk_le (2 ^ ns) (2 ^ ns) (fun _ => h0) (fun z => absurd z (by omega)) (za_1l _ (by omega))) ?_
  intro n c hc ht hf
  refine pk_le (2 ^ ns) c (fun z => absurd z (by omega)) (fun _ => ?_) (za_1l _ (by omega))
  refine zy_covers hn hq (by omega) (za_br _ (fun y => nm_r (nI_1 c) (hf (by rw [y]; rfl))) (fun y => ?_))
  refine zy_covers hn hp (by omega) (za_br _ (fun z => ht (by rw [y, z]; rfl)) (fun z => nm_r (nI_1 c) (hf (by rw [y, z]; rfl))))
theorem zy_cubes {post : Int32 → Prop} (h1 : 1 ≤ ns) (hn : ns ≤ 4) (h : post (nI (3 ^ ns))) : wpY_cubes post (g_places, (nI ns), (nI sm), (nI sc), (nI nt), g_verdict, g_primeCount, g_coverMask, g_coverCount, b_sig, b_dir, b_pre, b_post, b_isInput, b_table, b_reach, b_met, b_next, b_implicant, b_prime, b_value) := by
  refine pk_eq ns 1 (fun z => ?_) (fun z => pk_eq ns 2 (fun z => ?_) (fun z2 => pk_eq ns 3 (fun z => ?_) (fun z3 => ?_)))
  · subst z; exact h
  · subst z; exact h
  · subst z; exact h
  · have : ns = 4 := by omega
    subst this; exact h
theorem zy_inLarger {post : Int32 → Prop} {q Z : Nat} (h1 : 1 ≤ ns) (hn : ns ≤ 4) (hq : q < 3 ^ ns) (hI : ∀ p, p < 3 ^ ns → b_implicant p = za_b (zc_ip ns Z p)) (h : post (za_b (zc_gw ns Z q))) : wpY_inLarger post (g_places, (nI ns), (nI sm), (nI sc), (nI nt), g_verdict, g_primeCount, g_coverMask, g_coverCount, b_sig, b_dir, b_pre, b_post, b_isInput, b_table, b_reach, b_met, b_next, b_implicant, b_prime, b_value) (nI q) := by
  have ht4 := za_t4 hn
  rw [← zc_lg_gw (by omega) hq] at h
  refine za_any (fun n i => wY_inLarger_2 post (nI q) g_places (nI ns) (nI sm) (nI sc) (nI nt) g_verdict g_primeCount g_coverMask g_coverCount b_sig b_dir b_pre b_post b_isInput b_table b_reach b_met b_next b_implicant b_prime b_value n (nI i)) (3 ^ ns) _ post h (fun n h0 => ?_) ?_
  · rw [wY_inLarger_2]
    refine zy_cubes h1 hn ?_
    exact br_t (nI_le (Nat.le_refl _) (by omega)) h0
  intro n p hp ht hf
  have ce : (nI p).toNatClampNeg = p := nI_clamp (by omega)
  rw [wY_inLarger_2]
  refine zy_cubes h1 hn ?_
  refine br_f (nI_ge hp (by omega)) ?_
  refine pk_eq p q (fun z => nm_r (nI_1 p) (hf (by rw [z]; simp))) (fun z => And.intro (vp_in_nI (by omega) (by omega)) ?_)
  refine za_brx (zc_ip ns Z p) (by rw [ce]; exact hI p hp) (fun y => nm_r (nI_1 p) (hf (by rw [y]; simp))) (fun y => ?_)
  refine zy_coversAllOf hn (by omega) (by omega) (za_br _ (fun w => nm_r (nI_1 p) (hf (by rw [w]; simp))) (fun w => ht ?_))
  rw [bne_iff_ne.mpr z, y, w]; rfl
/-- what findPrimes leaves -/
def zy_Pm (ns : Nat) (vl : Nat → Nat) (g_primeCount : Int32) (b_next b_prime : Nat → Int32) : Prop :=
  g_primeCount = nI (zc_P ns vl) ∧ (∀ c, c < 2 ^ ns → b_next c = nI (vl c)) ∧ ∀ k, k < zc_P ns vl → b_prime k = nI ((zc_PL ns vl).getD k 0)
theorem zy_fp73 {post : SY → Prop} (h1 : 1 ≤ ns) (hn : ns ≤ 4) (hvl : ∀ c, vl c < 4) (hx : ∀ c, c < 2 ^ ns → b_next c = nI (vl c)) (hI : ∀ p, p < 3 ^ ns → b_implicant p = za_b (zc_ip ns (zc_Z ns vl) p))
    (h : ∀ (g_primeCount : Int32) (b_prime : Nat → Int32), zy_Pm ns vl g_primeCount b_next b_prime → post (g_places, (nI ns), (nI sm), (nI sc), (nI nt), g_verdict, g_primeCount, g_coverMask, g_coverCount, b_sig, b_dir, b_pre, b_post, b_isInput, b_table, b_reach, b_met, b_next, b_implicant, b_prime, b_value)) :
    ∀ d q, q + d = 3 ^ ns → ∀ b_prime : Nat → Int32, (∀ k, k < (zc_L ns (zc_Z ns vl) (zc_O ns vl) q).length → b_prime k = nI ((zc_L ns (zc_Z ns vl) (zc_O ns vl) q).getD k 0)) → wY_findPrimes_73 post g_places (nI ns) (nI sm) (nI sc) (nI nt) g_verdict g_coverMask g_coverCount (d + 1) (nI q) (nI (zc_L ns (zc_Z ns vl) (zc_O ns vl) q).length) b_sig b_dir b_pre b_post b_isInput b_table b_reach b_met b_next b_implicant b_prime b_value := by
  have ht4 := za_t4 hn
  intro d
  induction d with
  | zero =>
    intro q hq b_prime hp
    have : q = 3 ^ ns := by omega
    subst this
    rw [wY_findPrimes_73]
    refine zy_cubes h1 hn ?_
    exact br_t (nI_le (Nat.le_refl _) (by omega)) (h _ _ ⟨rfl, hx, hp⟩)
  | succ d ih =>
    intro q hq b_prime hp
    have ce : (nI q).toNatClampNeg = q := nI_clamp (by omega)
    have hlen := zc_L_le ns (zc_Z ns vl) (zc_O ns vl) q
    have ih1 := ih (q + 1) (by omega)
    rw [zc_L_s] at ih1
    have skip : ¬ zc_pr ns (zc_Z ns vl) (zc_O ns vl) q = true → wY_findPrimes_73 post g_places (nI ns) (nI sm) (nI sc) (nI nt) g_verdict g_coverMask g_coverCount (d + 1) (nI (q + 1)) (nI (zc_L ns (zc_Z ns vl) (zc_O ns vl) q).length) b_sig b_dir b_pre b_post b_isInput b_table b_reach b_met b_next b_implicant b_prime b_value := by
      intro z
      rw [if_neg z] at ih1
      exact ih1 b_prime hp
    rw [wY_findPrimes_73]
    refine zy_cubes h1 hn ?_
    refine br_f (nI_ge (by omega) (by omega)) (And.intro (vp_in_nI (by omega) (by omega)) ?_)
    refine za_brx (zc_ip ns (zc_Z ns vl) q) (by rw [ce]; exact hI q (by omega)) (fun z => nm_r (nI_1 q) (skip (fun y => ?_))) (fun z => ?_)
    · unfold zc_pr at y; rw [z] at y; exact absurd y (by simp)
    refine zy_coversValue (v := 1) hn (by omega) (by omega) hvl hx (za_br _ (fun w => nm_r (nI_1 q) (skip (fun y => ?_))) (fun w => ?_))
    · have : ((zc_cd ns q &&& zc_O ns vl) != 0) = false := by unfold zc_O; rw [zc_nz]; exact w
      unfold zc_pr at y; rw [this] at y; exact absurd y (by simp)
    refine zy_inLarger h1 hn (by omega) hI (za_br _ (fun x => ?_) (fun x => nm_r (nI_1 q) (skip (fun y => ?_))))
    · have hpr : zc_pr ns (zc_Z ns vl) (zc_O ns vl) q = true := by
        have : ((zc_cd ns q &&& zc_O ns vl) != 0) = true := by unfold zc_O; rw [zc_nz]; exact w
        unfold zc_pr; rw [z, this, x]; rfl
      rw [if_pos hpr, List.length_append, List.length_singleton] at ih1
      refine And.intro (vp_in_nI (by omega) (by omega)) (nm_r (e' := upd b_prime (zc_L ns (zc_Z ns vl) (zc_O ns vl) q).length (nI q)) (by rw [nI_clamp (by omega)]) (nm_r (nI_1 _) (nm_r (nI_1 q) (ih1 _ (fun k hk => ?_)))))
      by_cases e : k = (zc_L ns (zc_Z ns vl) (zc_O ns vl) q).length
      · rw [e, pk_us, List.getD_eq_getElem?_getD, List.getElem?_append_right (Nat.le_refl _), Nat.sub_self]; rfl
      · rw [pk_un e, List.getD_eq_getElem?_getD, List.getElem?_append_left (by omega), ← List.getD_eq_getElem?_getD]
        exact hp k (by omega)
    · unfold zc_pr at y; rw [x] at y; exact absurd y (by simp)
theorem zy_findPrimes {post : SY → Prop} {s : Nat} (H : zn_N ns nt sg dr pr po b_sig b_dir b_pre b_post) (hr : zn_rep b_reach R) (hs : s < 4)
    (h : ∀ (g_primeCount : Int32) (b_next b_implicant b_prime : Nat → Int32), zy_Pm ns (zn_vl sg dr pr po nt R s) g_primeCount b_next b_prime → post (g_places, (nI ns), (nI sm), (nI sc), (nI nt), g_verdict, g_primeCount, g_coverMask, g_coverCount, b_sig, b_dir, b_pre, b_post, b_isInput, b_table, b_reach, b_met, b_next, b_implicant, b_prime, b_value)) : wpY_findPrimes post (g_places, (nI ns), (nI sm), (nI sc), (nI nt), g_verdict, g_primeCount, g_coverMask, g_coverCount, b_sig, b_dir, b_pre, b_post, b_isInput, b_table, b_reach, b_met, b_next, b_implicant, b_prime, b_value) (nI s) := by
  have h1 := H.1.1
  have hn := H.1.2
  have hp := za_p4 hn
  have ht4 := za_t4 hn
  have hvl : ∀ c, zn_vl sg dr pr po nt R s c < 4 := fun c => zn_vl_lt sg dr pr po nt R s c
  have k32 : ∀ b_next : Nat → Int32, (∀ c, c < 2 ^ ns → b_next c = nI (zn_vl sg dr pr po nt R s c)) → ∀ d q, q + d = 3 ^ ns → ∀ b_implicant : Nat → Int32, (∀ p, p < q → b_implicant p = za_b (zc_ip ns (zc_Z ns (zn_vl sg dr pr po nt R s)) p)) → wY_findPrimes_32 post g_places (nI ns) (nI sm) (nI sc) (nI nt) g_verdict g_primeCount g_coverMask g_coverCount (d + 1) (nI q) b_sig b_dir b_pre b_post b_isInput b_table b_reach b_met b_next b_implicant b_prime b_value := by
    intro b_next hx d
    induction d with
    | zero =>
      intro q hq b_implicant hI
      have : q = 3 ^ ns := by omega
      subst this
      rw [wY_findPrimes_32]
      refine zy_cubes h1 hn ?_
      exact br_t (nI_le (Nat.le_refl _) (by omega)) ⟨_, zy_fp73 h1 hn hvl hx hI (fun g_primeCount b_prime hP => h g_primeCount b_next b_implicant b_prime hP) (3 ^ ns) 0 (by omega) b_prime (fun k hk => absurd hk (by show ¬ k < 0; omega))⟩
    | succ d ih =>
      intro q hq b_implicant hI
      have ce : (nI q).toNatClampNeg = q := nI_clamp (by omega)
      have st : ∀ b : Bool, zc_ip ns (zc_Z ns (zn_vl sg dr pr po nt R s)) q = b → ∀ p, p < q + 1 → upd b_implicant q (za_b b) p = za_b (zc_ip ns (zc_Z ns (zn_vl sg dr pr po nt R s)) p) := by
        intro b hb p hp
        by_cases e : p = q
        · rw [e, pk_us, hb]
        · rw [pk_un e]; exact hI p (by omega)
      rw [wY_findPrimes_32]
      refine zy_cubes h1 hn ?_
      refine br_f (nI_ge (by omega) (by omega)) ?_
      refine zy_coversValue (v := 0) hn (by omega) (by omega) hvl hx (za_br _ (fun w => ?_) (fun w => ?_))
      · exact And.intro (vp_in_nI (by omega) (by omega)) (nm_r (e' := upd b_implicant q (za_b true)) (by rw [ce]; rfl) (nm_r (nI_1 q) (ih (q + 1) (by omega) _ (st true (by unfold zc_Z; rw [zc_ip_an, w]; rfl)))))
      · exact And.intro (vp_in_nI (by omega) (by omega)) (nm_r (e' := upd b_implicant q (za_b false)) (by rw [ce]; rfl) (nm_r (nI_1 q) (ih (q + 1) (by omega) _ (st false (by unfold zc_Z; rw [zc_ip_an, w]; rfl)))))
  have k2 : ∀ d c, c + d = 2 ^ ns → ∀ b_next : Nat → Int32, (∀ j, j < c → b_next j = nI (zn_vl sg dr pr po nt R s j)) → wY_findPrimes_2 post (nI s) g_places (nI ns) (nI sm) (nI sc) (nI nt) g_verdict g_primeCount g_coverMask g_coverCount (d + 1) (nI c) b_sig b_dir b_pre b_post b_isInput b_table b_reach b_met b_next b_implicant b_prime b_value := by
    intro d
    induction d with
    | zero =>
      intro c hc b_next hx
      have : c = 2 ^ ns := by omega
      subst this
      exact pk_le (2 ^ ns) (2 ^ ns) (fun _ => ⟨_, k32 b_next hx (3 ^ ns) 0 (by omega) b_implicant (fun p hp => absurd hp (by omega))⟩) (fun z => absurd z (by omega)) (za_1l _ (by omega))
    | succ d ih =>
      intro c hc b_next hx
      have ce : (nI c).toNatClampNeg = c := nI_clamp (by omega)
      refine pk_le (2 ^ ns) c (fun z => absurd z (by omega)) (fun _ => ?_) (za_1l _ (by omega))
      refine zy_valueFor H hr hs (by omega) (And.intro (vp_in_nI (by omega) (by omega)) (nm_r (e' := upd b_next c (nI (zn_vl sg dr pr po nt R s c))) (by rw [ce]) (nm_r (nI_1 c) (ih (c + 1) (by omega) _ (fun j hj => ?_)))))
      by_cases e : j = c
      · rw [e, pk_us]
      · rw [pk_un e]; exact hx j (by omega)
  exact ⟨_, k2 (2 ^ ns) 0 (by omega) b_next (fun j hj => absurd hj (by omega))⟩
theorem zy_inSet {post : Int32 → Prop} {M k P : Nat} (hP : P ≤ 16) (hM : M < 2 ^ 16) (hk : k < P) (h : post (za_b (M.testBit (P - 1 - k)))) : wpY_inSet post (g_places, (nI ns), (nI sm), (nI sc), (nI nt), g_verdict, nI P, g_coverMask, g_coverCount, b_sig, b_dir, b_pre, b_post, b_isInput, b_table, b_reach, b_met, b_next, b_implicant, b_prime, b_value) (nI M) (nI k) := by
  have e : nI P - 1 - nI k = nI (P - 1 - k) := by
    have e1 : (1 : Int32) = nI 1 := rfl
    rw [e1, pk_sub (by omega), pk_sub (by omega)]
  refine za_br1 (M.testBit (P - 1 - k)) (by rw [e, za_rd (by omega) (by omega)]) (fun z => ?_) (fun z => ?_)
  · rw [z] at h; exact h
  · rw [z] at h; exact h
theorem zy_sizeOf {post : Int32 → Prop} {M P : Nat} (hP : P ≤ 16) (hM : M < 2 ^ 16) (h : post (nI (zf_pc M P))) : wpY_sizeOf post (g_places, (nI ns), (nI sm), (nI sc), (nI nt), g_verdict, nI P, g_coverMask, g_coverCount, b_sig, b_dir, b_pre, b_post, b_isInput, b_table, b_reach, b_met, b_next, b_implicant, b_prime, b_value) (nI M) := by
  have e : zf_pc M P = za_c (fun k => M.testBit (P - 1 - k)) P := (za_c_rev (fun j => M.testBit j) P).symm
  rw [e] at h
  have key : ∀ d k, k + d = P → wY_sizeOf_4 post (nI M) g_places (nI ns) (nI sm) (nI sc) (nI nt) g_verdict (nI P) g_coverMask g_coverCount b_sig b_dir b_pre b_post b_isInput b_table b_reach b_met b_next b_implicant b_prime b_value (d + 1) (nI (za_c (fun k => M.testBit (P - 1 - k)) k)) (nI k) := by
    intro d
    induction d with
    | zero =>
      intro k hk
      have : k = P := by omega
      subst this
      exact br_t (nI_le (Nat.le_refl _) (by omega)) h
    | succ d ih =>
      intro k hk
      have ih1 := ih (k + 1) (by omega)
      have e : za_c (fun k => M.testBit (P - 1 - k)) (k + 1) = za_c (fun k => M.testBit (P - 1 - k)) k + (M.testBit (P - 1 - k)).toNat := rfl
      rw [e] at ih1
      refine br_f (nI_ge (by omega) (by omega)) (zy_inSet hP hM (by omega) (za_br _ (fun z => nm_r (nI_1 k) ?_) (fun z => nm_r (nI_1 _) (nm_r (nI_1 k) ?_))))
      · rw [z] at ih1; exact ih1
      · rw [z] at ih1; exact ih1
  exact ⟨_, key P 0 (by omega)⟩
theorem zy_setCovers {post : Int32 → Prop} {M c : Nat} (hn : ns ≤ 4) (hM : M < 2 ^ 16) (hc : c < 2 ^ ns) (hp : ∀ k, k < zc_P ns vl → b_prime k = nI ((zc_PL ns vl).getD k 0)) (h : post (za_b ((zf_un (zc_P ns vl) (zc_C ns vl) M (zc_P ns vl)).testBit c))) : wpY_setCovers post (g_places, (nI ns), (nI sm), (nI sc), (nI nt), g_verdict, nI (zc_P ns vl), g_coverMask, g_coverCount, b_sig, b_dir, b_pre, b_post, b_isInput, b_table, b_reach, b_met, b_next, b_implicant, b_prime, b_value) (nI M) (nI c) := by
  have h16 := za_p4 hn
  have ht4 := za_t4 hn
  have hP := zc_P16 hn vl
  have e : (zf_un (zc_P ns vl) (zc_C ns vl) M (zc_P ns vl)).testBit c = za_an (fun k => M.testBit (zc_P ns vl - 1 - k) && zc_cv ns ((zc_PL ns vl).getD k 0) c) (zc_P ns vl) := by
    apply za_beq
    rw [zf_un_tb, za_an_t]
    constructor
    · rintro ⟨j, hj, a, b⟩
      refine ⟨zc_P ns vl - 1 - j, by omega, ?_⟩
      unfold zc_C at b
      rw [zc_cd_tb, decide_eq_true hc, Bool.true_and] at b
      rw [show zc_P ns vl - 1 - (zc_P ns vl - 1 - j) = j by omega, a, b]; rfl
    · rintro ⟨k, hk, a⟩
      rw [Bool.and_eq_true] at a
      refine ⟨zc_P ns vl - 1 - k, by omega, a.1, ?_⟩
      rw [show zc_P ns vl - 1 - (zc_P ns vl - 1 - k) = k by omega]
      unfold zc_C
      rw [zc_cd_tb, decide_eq_true hc, Bool.true_and]; exact a.2
  rw [e] at h
  refine za_any (fun n i => wY_setCovers_2 post (nI M) (nI c) g_places (nI ns) (nI sm) (nI sc) (nI nt) g_verdict (nI (zc_P ns vl)) g_coverMask g_coverCount b_sig b_dir b_pre b_post b_isInput b_table b_reach b_met b_next b_implicant b_prime b_value n (nI i)) (zc_P ns vl) _ post h (fun n h0 => br_t (nI_le (Nat.le_refl _) (by omega)) h0) ?_
  intro n k hk ht hf
  have ce : (nI k).toNatClampNeg = k := nI_clamp (by omega)
  have hlt := zc_PL_lt hk
  refine br_f (nI_ge hk (by omega)) (zy_inSet hP hM hk (za_br _ (fun z => nm_r (nI_1 k) (hf (by rw [z]; rfl))) (fun z => And.intro (vp_in_nI (by omega) (by omega)) ?_)))
  rw [ce, hp k hk]
  refine zy_covers hn (by omega) (by omega) (za_br _ (fun y => nm_r (nI_1 k) (hf (by rw [y]; simp))) (fun y => ht (by rw [z, y]; rfl)))
theorem zy_isCover {post : Int32 → Prop} {M : Nat} (hn : ns ≤ 4) (hM : M < 2 ^ 16) (hvl : ∀ c, vl c < 4) (hx : ∀ c, c < 2 ^ ns → b_next c = nI (vl c)) (hp : ∀ k, k < zc_P ns vl → b_prime k = nI ((zc_PL ns vl).getD k 0)) (h : post (za_b (za_nd (zc_O ns vl) (zf_un (zc_P ns vl) (zc_C ns vl) M (zc_P ns vl)) == 0))) : wpY_isCover post (g_places, (nI ns), (nI sm), (nI sc), (nI nt), g_verdict, nI (zc_P ns vl), g_coverMask, g_coverCount, b_sig, b_dir, b_pre, b_post, b_isInput, b_table, b_reach, b_met, b_next, b_implicant, b_prime, b_value) (nI M) := by
  have h16 := za_p4 hn
  have e : (za_nd (zc_O ns vl) (zf_un (zc_P ns vl) (zc_C ns vl) M (zc_P ns vl)) == 0) = !za_an (fun c => (vl c == 1) && !(zf_un (zc_P ns vl) (zc_C ns vl) M (zc_P ns vl)).testBit c) (2 ^ ns) := by
    apply za_beq
    rw [beq_iff_eq, za_nd0, Bool.not_eq_true', za_an_f]
    constructor
    · intro a c hc
      cases e : vl c == 1
      · rfl
      · rw [a c (by unfold zc_O; rw [za_mk_tb, e, decide_eq_true hc]; rfl)]; rfl
    · intro a c hc
      unfold zc_O at hc
      rw [za_mk_tb, Bool.and_eq_true, decide_eq_true_eq] at hc
      have := a c hc.1
      rw [hc.2, Bool.true_and] at this
      cases e : (zf_un (zc_P ns vl) (zc_C ns vl) M (zc_P ns vl)).testBit c
      · rw [e] at this; exact absurd this (by decide)
      · rfl
  rw [e] at h
  refine za_all (fun n i => wY_isCover_2 post (nI M) g_places (nI ns) (nI sm) (nI sc) (nI nt) g_verdict (nI (zc_P ns vl)) g_coverMask g_coverCount b_sig b_dir b_pre b_post b_isInput b_table b_reach b_met b_next b_implicant b_prime b_value n (nI i)) (2 ^ ns) _ post h (fun n h0 => pk_le (2 ^ ns) (2 ^ ns) (fun _ => h0) (fun z => absurd z (by omega)) (za_1l _ (by omega))) ?_
  intro n c hc ht hf
  have ce : (nI c).toNatClampNeg = c := nI_clamp (by omega)
  have hl := hvl c
  refine pk_le (2 ^ ns) c (fun z => absurd z (by omega)) (fun _ => And.intro (vp_in_nI (by omega) (by omega)) ?_) (za_1l _ (by omega))
  refine pk_eq (vl c) 1 (fun z => ?_) (fun z => nm_r (nI_1 c) (hf (by rw [beq_eq_false_iff_ne.mpr z]; rfl))) (by rw [ce]; exact hx c hc) rfl
  refine zy_setCovers hn hM hc hp (za_br _ (fun y => ht (by rw [beq_iff_eq.mpr z, y]; rfl)) (fun y => nm_r (nI_1 c) (hf (by rw [y]; simp))))
theorem zy_fc25 {post : SY → Prop} (hn : ns ≤ 4) (hvl : ∀ c, vl c < 4) (hx : ∀ c, c < 2 ^ ns → b_next c = nI (vl c)) (hp : ∀ k, k < zc_P ns vl → b_prime k = nI ((zc_PL ns vl).getD k 0)) :
    ∀ k, k ≤ 2 ^ zc_P ns vl → ∀ s : Nat × Nat, s.2 ≤ 100 → post (g_places, (nI ns), (nI sm), (nI sc), (nI nt), g_verdict, nI (zc_P ns vl), nI (zf_yl (zc_P ns vl) (zc_C ns vl) (zc_O ns vl) k s).1, nI (zf_yl (zc_P ns vl) (zc_C ns vl) (zc_O ns vl) k s).2, b_sig, b_dir, b_pre, b_post, b_isInput, b_table, b_reach, b_met, b_next, b_implicant, b_prime, b_value) → wY_findCover_25 post g_places (nI ns) (nI sm) (nI sc) (nI nt) g_verdict (nI (zc_P ns vl)) b_sig b_dir b_pre b_post b_isInput b_table b_reach b_met b_next b_implicant b_prime b_value (k + 1) (nI k + (-1)) (nI s.1) (nI s.2) := by
  have hP := zc_P16 hn vl
  have h16 : 2 ^ zc_P ns vl ≤ 2 ^ 16 := Nat.pow_le_pow_right (by omega) hP
  intro k
  induction k with
  | zero =>
    intro hk s hs h
    exact br_t (by decide) h
  | succ k ih =>
    intro hk s hs h
    have hpc := zf_pc_le k (zc_P ns vl)
    rw [pk_m1]
    refine br_f (nI_pos (by omega)) (zy_sizeOf hP (by omega) ?_)
    have h' : post (g_places, (nI ns), (nI sm), (nI sc), (nI nt), g_verdict, nI (zc_P ns vl), nI (zf_yl (zc_P ns vl) (zc_C ns vl) (zc_O ns vl) k (if zf_pc k (zc_P ns vl) < s.2 ∧ za_nd (zc_O ns vl) (zf_un (zc_P ns vl) (zc_C ns vl) k (zc_P ns vl)) = 0 then (k, zf_pc k (zc_P ns vl)) else s)).1, nI (zf_yl (zc_P ns vl) (zc_C ns vl) (zc_O ns vl) k (if zf_pc k (zc_P ns vl) < s.2 ∧ za_nd (zc_O ns vl) (zf_un (zc_P ns vl) (zc_C ns vl) k (zc_P ns vl)) = 0 then (k, zf_pc k (zc_P ns vl)) else s)).2, b_sig, b_dir, b_pre, b_post, b_isInput, b_table, b_reach, b_met, b_next, b_implicant, b_prime, b_value) := h
    refine pk_le s.2 (zf_pc k (zc_P ns vl)) (fun z => nm_e ?_) (fun z => ?_)
    · rw [if_neg (fun y => by omega)] at h'
      exact ih (by omega) s hs h'
    · refine zy_isCover hn (by omega) hvl hx hp (za_br _ (fun w => nm_e ?_) (fun w => nm_e ?_))
      · rw [if_neg (fun y => by rw [beq_iff_eq.mpr y.2] at w; exact absurd w (by decide))] at h'
        exact ih (by omega) s hs h'
      · rw [if_pos ⟨z, beq_iff_eq.mp w⟩] at h'
        exact ih (by omega) (k, zf_pc k (zc_P ns vl)) (by show zf_pc k (zc_P ns vl) ≤ 100; omega) h'
/-- what findCover leaves -/
theorem zy_findCover {post : SY → Prop} {s : Nat} (H : zn_N ns nt sg dr pr po b_sig b_dir b_pre b_post) (hr : zn_rep b_reach R) (hs : s < 4)
    (h : ∀ b_next b_implicant b_prime : Nat → Int32, (∀ k, k < zc_P ns (zn_vl sg dr pr po nt R s) → b_prime k = nI ((zc_PL ns (zn_vl sg dr pr po nt R s)).getD k 0)) → post (g_places, (nI ns), (nI sm), (nI sc), (nI nt), g_verdict, nI (zc_P ns (zn_vl sg dr pr po nt R s)), nI (zc_B ns (zn_vl sg dr pr po nt R s)), nI (zf_pc (zc_B ns (zn_vl sg dr pr po nt R s)) (zc_P ns (zn_vl sg dr pr po nt R s))), b_sig, b_dir, b_pre, b_post, b_isInput, b_table, b_reach, b_met, b_next, b_implicant, b_prime, b_value)) : wpY_findCover post (g_places, (nI ns), (nI sm), (nI sc), (nI nt), g_verdict, g_primeCount, g_coverMask, g_coverCount, b_sig, b_dir, b_pre, b_post, b_isInput, b_table, b_reach, b_met, b_next, b_implicant, b_prime, b_value) (nI s) := by
  have hn := H.1.2
  have hP := zc_P16 hn (zn_vl sg dr pr po nt R s)
  refine zy_findPrimes H hr hs (fun g_primeCount b_next b_implicant b_prime hPm => ?_)
  obtain ⟨rfl, hx, hp⟩ := hPm
  have e1 : (1 : Int32) = nI 1 := rfl
  have e : ((1 : Int32) <<< (nI (zc_P ns (zn_vl sg dr pr po nt R s)) &&& 31)) - 1 = nI (2 ^ zc_P ns (zn_vl sg dr pr po nt R s)) + (-1) := by
    rw [za_1l _ (by omega)]
    have : 0 < 2 ^ zc_P ns (zn_vl sg dr pr po nt R s) := Nat.pow_pos (by omega)
    rw [sb_m1 this, e1, pk_sub this]
  refine nm_r e ⟨_, zy_fc25 hn (fun c => zn_vl_lt sg dr pr po nt R s c) hx hp (2 ^ zc_P ns (zn_vl sg dr pr po nt R s)) (Nat.le_refl _) (0, 100) (Nat.le_refl _) ?_⟩
  rw [(zc_Bs hn (zn_vl sg dr pr po nt R s)).2]
  exact h b_next b_implicant b_prime hp
end
end
section
/-! ===== the reference: gates, the circuit beside the net ===== -/
def zg_gt (ns : Nat) (tb : Nat → Int32) (vl : Nat → Nat → Nat) (s : Nat) : Nat := if tb s < 0 then zf_un (zc_P ns (vl s)) (zc_C ns (vl s)) (zc_B ns (vl s)) (zc_P ns (vl s)) else (tb s).toNatClampNeg
def zg_T (tb : Nat → Int32) : Prop := ∀ s, s < 4 → tb s = -1 ∨ ∃ n, n < 65536 ∧ tb s = nI n
theorem zg_gt_lt {ns s : Nat} {tb : Nat → Int32} {vl : Nat → Nat → Nat} (hn : ns ≤ 4) (hT : zg_T tb) (hs : s < 4) : zg_gt ns tb vl s < 2 ^ 16 := by
  unfold zg_gt
  split
  · exact zf_un_lt (fun i => zc_16b hn (zc_C_lt _ _ _)) _ _
  · rename_i h
    rcases hT s hs with z | ⟨n, hn, z⟩
    · rw [z] at h; exact absurd (by decide) h
    · rw [z, nI_clamp (by omega)]; omega
def zg_dv (ip : Nat → Bool) (gt : Nat → Nat) (s c : Nat) : Bool := !ip s && ((gt s).testBit c != c.testBit s)
def zg_k (sg : Nat → Nat) (pr : Nat → Nat) (ip : Nat → Bool) (gt : Nat → Nat) (m c t : Nat) : Bool := zn_en pr m t && (ip (sg t) || zg_dv ip gt (sg t) c)
def zg_g (sg : Nat → Nat) (pr : Nat → Nat) (ip : Nat → Bool) (gt : Nat → Nat) (st t : Nat) : Bool := zg_k sg pr ip gt (st / 16) (st % 16) t
def zg_t (sg : Nat → Nat) (dr : Nat → Bool) (pr po : Nat → Nat) (st t : Nat) : Nat := 16 * zn_nm pr po (st / 16) t + zn_yc sg dr (st % 16) t
def zg_he (sg pr : Nat → Nat) (nt s m : Nat) : Bool := za_an (fun t => (sg t == s) && zn_en pr m t) nt
def zg_s5 (sg pr : Nat → Nat) (ip : Nat → Bool) (gt : Nat → Nat) (ns nt m c : Nat) : Bool := za_an (fun s => zg_dv ip gt s c && !zg_he sg pr nt s m) ns
def zg_s6 (sg : Nat → Nat) (dr : Nat → Bool) (pr : Nat → Nat) (ip : Nat → Bool) (gt : Nat → Nat) (ns nt m c : Nat) : Bool := za_an (fun s => za_an (fun t => zg_dv ip gt s c && ((sg t != s) && (zg_k sg pr ip gt m c t && !zg_dv ip gt s (zn_yc sg dr c t)))) nt) ns
def zg_s7 (sg pr : Nat → Nat) (ip : Nat → Bool) (gt : Nat → Nat) (ns nt m c : Nat) : Bool := !za_an (fun s => zg_dv ip gt s c || (zg_he sg pr nt s m && ip s)) ns && za_an (fun s => zg_he sg pr nt s m) ns
def zg_cd (ns : Nat) (V : Nat → Bool) : Prop := ∀ st, st < 1024 → V st = true → st % 16 < 2 ^ ns
def zg_V (ns : Nat) (ip : Nat → Bool) (gt : Nat → Nat) (b_value : Nat → Int32) : Prop := ∀ s c, s < ns → c < 2 ^ ns → ip s = false → b_value (16 * s + c) = za_b ((gt s).testBit c)
section
variable {ns nt sm sc : Nat} {sg : Nat → Nat} {dr : Nat → Bool} {pr po : Nat → Nat} {R : Nat → Bool} {ip : Nat → Bool} {vl : Nat → Nat} {gt : Nat → Nat} {M : Nat → Bool}
variable {g_places g_signals g_startMarking g_startCode g_count g_verdict g_primeCount g_coverMask g_coverCount : Int32} {b_sig b_dir b_pre b_post b_isInput b_table b_reach b_met b_next b_implicant b_prime b_value : Nat → Int32}
theorem zy_cc34 {post : Int32 → SY → Prop} {B P k : Nat} (hP : P ≤ 16) (hB : B < 2 ^ 16) (hk : k < 16) :
    ∀ r, r ≤ P → ∀ b, b ≤ k → k - b < (zf_ls P B r).length → post (b_prime ((zf_ls P B r).getD (k - b) 0)) (g_places, (nI ns), (nI sm), (nI sc), (nI nt), g_verdict, nI P, nI B, g_coverCount, b_sig, b_dir, b_pre, b_post, b_isInput, b_table, b_reach, b_met, b_next, b_implicant, b_prime, b_value) → wY_coverCube_34 post (nI k) g_places (nI ns) (nI sm) (nI sc) (nI nt) g_verdict (nI P) (nI B) g_coverCount b_sig b_dir b_pre b_post b_isInput b_table b_reach b_met b_next b_implicant b_prime b_value (r + 1) (nI b) (nI (P - r)) := by
  intro r
  induction r with
  | zero => intro _ b hb hl; exact absurd hl (by show ¬ k - b < 0; omega)
  | succ r ih =>
    intro hr b hb hl h
    have e : P - (r + 1) + 1 = P - r := by omega
    have e1 : zf_ls P B (r + 1) = if B.testBit r = true then (P - 1 - r) :: zf_ls P B r else zf_ls P B r := rfl
    refine br_f (nI_ge (by omega) (by omega)) (zy_inSet hP hB (by omega) ?_)
    rw [show P - 1 - (P - (r + 1)) = r by omega]
    refine za_br _ (fun z => nm_r (nI_1 _) ?_) (fun z => ?_)
    · rw [e1, if_neg (by rw [z]; decide)] at hl h
      rw [e]
      exact ih (by omega) b hb hl h
    · rw [e1, if_pos z] at hl h
      refine pk_eq b k (fun y => And.intro (vp_in_nI (by omega) (by omega)) ?_) (fun y => nm_r (nI_1 _) (nm_r (nI_1 _) ?_))
      · rw [nI_clamp (by omega)]
        have e2 : k - b = 0 := by omega
        rw [e2] at h
        rw [show P - (r + 1) = P - 1 - r by omega]
        exact h
      · rw [e]
        have e2 : k - b = (k - (b + 1)) + 1 := by omega
        rw [e2] at hl h
        exact ih (by omega) (b + 1) (by omega) (by
          have : k - (b + 1) + 1 < (zf_ls P B r).length + 1 := hl
          omega) h
theorem zy_fillGate {post : SY → Prop} {s : Nat} (H : zn_N ns nt sg dr pr po b_sig b_dir b_pre b_post) (hr : zn_rep b_reach R) (hs : s < ns) (hT : zg_T b_table)
    (h : ∀ (g_primeCount g_coverMask g_coverCount : Int32) (b_next b_implicant b_prime b_value' : Nat → Int32), (∀ c, c < 2 ^ ns → b_value' (16 * s + c) = za_b ((zg_gt ns b_table (zn_vl sg dr pr po nt R) s).testBit c)) → (∀ j, j < 16 * s ∨ 16 * s + 16 ≤ j → b_value' j = b_value j) → post (g_places, (nI ns), (nI sm), (nI sc), (nI nt), g_verdict, g_primeCount, g_coverMask, g_coverCount, b_sig, b_dir, b_pre, b_post, b_isInput, b_table, b_reach, b_met, b_next, b_implicant, b_prime, b_value')) : wpY_fillGate post (g_places, (nI ns), (nI sm), (nI sc), (nI nt), g_verdict, g_primeCount, g_coverMask, g_coverCount, b_sig, b_dir, b_pre, b_post, b_isInput, b_table, b_reach, b_met, b_next, b_implicant, b_prime, b_value) (nI s) := by
  have hn := H.1.2
  have h16 := za_p4 hn
  have hB := (zc_Bs hn (zn_vl sg dr pr po nt R s)).1.1
  have hP := zc_P16 hn (zn_vl sg dr pr po nt R s)
  have hB16 : zc_B ns (zn_vl sg dr pr po nt R s) < 2 ^ 16 := Nat.lt_of_lt_of_le hB (Nat.pow_le_pow_right (by omega) hP)
  refine zy_findCover H hr (by omega) (fun b_next b_implicant b_prime hp => ?_)
  have key : ∀ d c, c + d = 2 ^ ns → ∀ b_value' : Nat → Int32, (∀ j, j < c → b_value' (16 * s + j) = za_b ((zg_gt ns b_table (zn_vl sg dr pr po nt R) s).testBit j)) → (∀ j, j < 16 * s ∨ 16 * s + 16 ≤ j → b_value' j = b_value j) → wY_fillGate_7 post (nI s) g_places (nI ns) (nI sm) (nI sc) (nI nt) g_verdict (nI (zc_P ns (zn_vl sg dr pr po nt R s))) (nI (zc_B ns (zn_vl sg dr pr po nt R s))) (nI (zf_pc (zc_B ns (zn_vl sg dr pr po nt R s)) (zc_P ns (zn_vl sg dr pr po nt R s)))) (d + 1) (nI c) b_sig b_dir b_pre b_post b_isInput b_table b_reach b_met b_next b_implicant b_prime b_value' := by
    intro d
    induction d with
    | zero =>
      intro c hc b_value' hv ho
      have : c = 2 ^ ns := by omega
      subst this
      exact pk_le (2 ^ ns) (2 ^ ns) (fun _ => h _ _ _ _ _ _ _ hv ho) (fun z => absurd z (by omega)) (za_1l _ (by omega))
    | succ d ih =>
      intro c hc b_value' hv ho
      have cs : (nI s).toNatClampNeg = s := nI_clamp (by omega)
      have st : ∀ x : Int32, x = za_b ((zg_gt ns b_table (zn_vl sg dr pr po nt R) s).testBit c) → wY_fillGate_7 post (nI s) g_places (nI ns) (nI sm) (nI sc) (nI nt) g_verdict (nI (zc_P ns (zn_vl sg dr pr po nt R s))) (nI (zc_B ns (zn_vl sg dr pr po nt R s))) (nI (zf_pc (zc_B ns (zn_vl sg dr pr po nt R s)) (zc_P ns (zn_vl sg dr pr po nt R s)))) (d + 1) (nI (c + 1)) b_sig b_dir b_pre b_post b_isInput b_table b_reach b_met b_next b_implicant b_prime (upd b_value' (16 * s + c) x) := by
        intro x hx
        refine ih (c + 1) (by omega) _ (fun j hj => ?_) (fun j hj => ?_)
        · by_cases e : j = c
          · rw [e, pk_us]; exact hx
          · rw [pk_un (by omega)]; exact hv j (by omega)
        · rw [pk_un (by omega)]; exact ho j hj
      refine pk_le (2 ^ ns) c (fun z => absurd z (by omega)) (fun _ => And.intro (vp_in_nI (by omega) (by omega)) ?_) (za_1l _ (by omega))
      rw [cs, za_16]
      have v64 : vp_in (nI (16 * s + c)) 64 := vp_in_nI (by omega) (by omega)
      have c64 : (nI (16 * s + c)).toNatClampNeg = 16 * s + c := nI_clamp (by omega)
      refine br_c (fun z => ?_) (fun z => And.intro (vp_in_nI (by omega) (by omega)) (And.intro v64 (nm_r (e' := upd b_value' (16 * s + c) (za_b ((zg_gt ns b_table (zn_vl sg dr pr po nt R) s).testBit c))) ?_ (nm_r (nI_1 c) (st _ rfl)))))
      · have eg : zg_gt ns b_table (zn_vl sg dr pr po nt R) s = zf_un (zc_P ns (zn_vl sg dr pr po nt R s)) (zc_C ns (zn_vl sg dr pr po nt R s)) (zc_B ns (zn_vl sg dr pr po nt R s)) (zc_P ns (zn_vl sg dr pr po nt R s)) := by unfold zg_gt; rw [if_pos z]
        refine zy_setCovers hn hB16 (by omega) hp (za_br _ (fun y => And.intro v64 (nm_r (e' := upd b_value' (16 * s + c) 0) (by rw [c64]) (nm_r (nI_1 c) (st _ ?_)))) (fun y => And.intro v64 (nm_r (e' := upd b_value' (16 * s + c) 1) (by rw [c64]) (nm_r (nI_1 c) (st _ ?_)))))
        · rw [eg, y]; rfl
        · rw [eg, y]; rfl
      · rw [c64]
        have eg : zg_gt ns b_table (zn_vl sg dr pr po nt R) s = (b_table s).toNatClampNeg := by unfold zg_gt; rw [if_neg z]
        rcases hT s (by omega) with w | ⟨n, hn, w⟩
        · rw [w] at z; exact absurd (by decide) z
        · rw [eg, w, nI_clamp (by omega), za_rd (by omega) (by omega)]
  exact ⟨_, key (2 ^ ns) 0 (by omega) b_value (fun j hj => absurd hj (by omega)) (fun j _ => rfl)⟩
theorem zy_driven {post : Int32 → Prop} {s c : Nat} (hn : ns ≤ 4) (hip : ∀ s, s < ns → b_isInput s = za_b (ip s)) (hV : zg_V ns ip gt b_value) (hs : s < ns) (hc : c < 2 ^ ns) (h : post (za_b (zg_dv ip gt s c))) : wpY_driven post (g_places, (nI ns), (nI sm), (nI sc), (nI nt), g_verdict, g_primeCount, g_coverMask, g_coverCount, b_sig, b_dir, b_pre, b_post, b_isInput, b_table, b_reach, b_met, b_next, b_implicant, b_prime, b_value) (nI s) (nI c) := by
  have h16 := za_p4 hn
  have cs : (nI s).toNatClampNeg = s := nI_clamp (by omega)
  unfold zg_dv at h
  refine And.intro (vp_in_nI (by omega) (by omega)) (za_brx (ip s) (by rw [cs]; exact hip s hs) (fun z => ?_) (fun z => ?_))
  · rw [za_16]
    refine And.intro (vp_in_nI (by omega) (by omega)) ?_
    rw [nI_clamp (by omega), hV s c hs hc z, za_rd (by omega) (by omega)]
    refine za_fin' ((gt s).testBit c != c.testBit s) ?_ ?_
    · rw [za_bb, bne_eq_false_iff_eq]
    · rw [z] at h; exact h
  · rw [z] at h; exact h
theorem zy_isStep {post : Int32 → Prop} {t m c : Nat} (H : zn_N ns nt sg dr pr po b_sig b_dir b_pre b_post) (hip : ∀ s, s < ns → b_isInput s = za_b (ip s)) (hV : zg_V ns ip gt b_value) (ht : t < nt) (hc : c < 2 ^ ns) (h : post (za_b (zg_k sg pr ip gt m c t))) : wpY_isStep post (g_places, (nI ns), (nI sm), (nI sc), (nI nt), g_verdict, g_primeCount, g_coverMask, g_coverCount, b_sig, b_dir, b_pre, b_post, b_isInput, b_table, b_reach, b_met, b_next, b_implicant, b_prime, b_value) (nI t) (nI m) (nI c) := by
  have h12 := H.2.1
  have h4 := H.1
  obtain ⟨⟨e, _⟩, hs, _⟩ := H.2.2 t ht
  have ce : (nI t).toNatClampNeg = t := nI_clamp (by omega)
  have cs : (nI (sg t)).toNatClampNeg = sg t := nI_clamp (by omega)
  unfold zg_k at h
  unfold wpY_isStep
  dsimp only
  refine zy_enabled H ht ?_
  refine za_br _ (fun z => ?_) (fun z => And.intro (vp_in_nI (by omega) (by omega)) ?_)
  · rw [z] at h; exact h
  rw [ce, e, cs]
  refine And.intro (vp_in_nI (by omega) (by omega)) (za_brx (ip (sg t)) (hip _ hs) (fun y => And.intro (vp_in_nI (by omega) (by omega)) ?_) (fun y => ?_))
  · refine zy_driven h4.2 hip hV hs hc (za_br _ (fun w => ?_) (fun w => ?_))
    · rw [z, y, w] at h; exact h
    · rw [z, y, w] at h; exact h
  · rw [z, y] at h; exact h
theorem zy_zt_lt {st t : Nat} (H : zn_N ns nt sg dr pr po b_sig b_dir b_pre b_post) (ht : t < nt) (hs : st < 1024) (hc : st % 16 < 2 ^ ns) : zg_t sg dr pr po st t < 1024 ∧ zg_t sg dr pr po st t % 16 < 2 ^ ns := by
  have h4 := H.1
  have h16 := za_p4 h4.2
  obtain ⟨_, a, _, c⟩ := H.2.2 t ht
  have h1 := zn_nm_lt (pr := pr) (po := po) (m := st / 16) (t := t) (by omega) c
  have h2 := zn_yc_lt (sg := sg) (dr := dr) (c := st % 16) (t := t) (k := ns) hc a
  unfold zg_t
  have e : (16 * zn_nm pr po (st / 16) t + zn_yc sg dr (st % 16) t) % 16 = zn_yc sg dr (st % 16) t := by omega
  rw [e]
  omega
/-- the body of the sweep at (st, t) -/
theorem zy_sm_b {post : Int32 → SY → Prop} {J : Int32 → Int32 → (Nat → Int32) → (Nat → Int32) → (Nat → Int32) → (Nat → Int32) → (Nat → Int32) → (Nat → Int32) → (Nat → Int32) → (Nat → Int32) → (Nat → Int32) → (Nat → Int32) → (Nat → Int32) → (Nat → Int32) → Prop} {st t n : Nat} {x1 : Int32} {V : Nat → Bool} (H : zn_N ns nt sg dr pr po b_sig b_dir b_pre b_post) (hip : ∀ s, s < ns → b_isInput s = za_b (ip s)) (hV : zg_V ns ip gt b_value) (hs : st < 1024) (ht : t < nt) (hr : zn_rep b_met V) (hcd : zg_cd ns V)
    (h1 : ¬ (V st = true ∧ zg_g sg pr ip gt st t = true) → wY_sweepMet_13 post J (nI st) g_places (nI ns) (nI sm) (nI sc) (nI nt) g_verdict g_primeCount g_coverMask g_coverCount n x1 (nI (t + 1)) b_sig b_dir b_pre b_post b_isInput b_table b_reach b_met b_next b_implicant b_prime b_value)
    (h2 : V st = true → zg_g sg pr ip gt st t = true → V (zg_t sg dr pr po st t) = true → wY_sweepMet_13 post J (nI st) g_places (nI ns) (nI sm) (nI sc) (nI nt) g_verdict g_primeCount g_coverMask g_coverCount n x1 (nI (t + 1)) b_sig b_dir b_pre b_post b_isInput b_table b_reach (upd b_met (zg_t sg dr pr po st t) (za_b true)) b_next b_implicant b_prime b_value)
    (h3 : V st = true → zg_g sg pr ip gt st t = true → V (zg_t sg dr pr po st t) = false → wY_sweepMet_13 post J (nI st) g_places (nI ns) (nI sm) (nI sc) (nI nt) g_verdict g_primeCount g_coverMask g_coverCount n (za_b true) (nI (t + 1)) b_sig b_dir b_pre b_post b_isInput b_table b_reach (upd b_met (zg_t sg dr pr po st t) (za_b true)) b_next b_implicant b_prime b_value) :
    wY_sweepMet_13 post J (nI st) g_places (nI ns) (nI sm) (nI sc) (nI nt) g_verdict g_primeCount g_coverMask g_coverCount (n + 1) x1 (nI t) b_sig b_dir b_pre b_post b_isInput b_table b_reach b_met b_next b_implicant b_prime b_value := by
  have h12 := H.2.1
  have vs : vp_in (nI st) 1024 := vp_in_nI hs (by omega)
  have cs : (nI st).toNatClampNeg = st := nI_clamp (by omega)
  refine pk_le nt t (fun z => absurd z (by omega)) (fun _ => And.intro vs ?_)
  refine za_brx (V st) (by rw [cs]; exact hr st hs) (fun hv => nm_r (nI_1 t) (h1 (fun z => by rw [hv] at z; exact absurd z.1 (by decide)))) (fun hv => And.intro za_16n (And.intro za_16n ?_))
  rw [za_r16 hs, za_q16 hs]
  have hc := hcd st hs hv
  refine zy_isStep H hip hV ht hc (za_br _ (fun hg => nm_r (nI_1 t) (h1 (fun z => ?_))) (fun hg => And.intro za_16n (And.intro za_16n ?_)))
  · have := z.2
    unfold zg_g at this
    rw [hg] at this; exact absurd this (by decide)
  obtain ⟨hlt, _⟩ := zy_zt_lt H ht hs hc
  refine zy_cellAfter H ht ?_
  have hya : 16 * zn_nm pr po (st / 16) t + zn_yc sg dr (st % 16) t = zg_t sg dr pr po st t := rfl
  rw [hya]
  have vt : vp_in (nI (zg_t sg dr pr po st t)) 1024 := vp_in_nI hlt (by omega)
  have ct : (nI (zg_t sg dr pr po st t)).toNatClampNeg = zg_t sg dr pr po st t := nI_clamp (by omega)
  refine And.intro vt (za_brx (V (zg_t sg dr pr po st t)) (by rw [ct]; exact hr _ hlt) (fun hw => And.intro vt (nm_r (e' := upd b_met (zg_t sg dr pr po st t) (za_b true)) (by rw [ct]; rfl) (nm_r (nI_1 t) (h3 hv hg hw)))) (fun hw => And.intro vt (nm_r (e' := upd b_met (zg_t sg dr pr po st t) (za_b true)) (by rw [ct]; rfl) (nm_r (nI_1 t) (h2 hv hg hw)))))
theorem zg_cd_ad {V : Nat → Bool} {a : Nat} (h : zg_cd ns V) (ha : a % 16 < 2 ^ ns) : zg_cd ns (zn_ad V a) := by
  intro st hs hv
  rcases zn_ad_e hv with z | z
  · exact h st hs z
  · rw [z]; exact ha
theorem zy_sm_t {post : Int32 → SY → Prop} {J : Int32 → Int32 → (Nat → Int32) → (Nat → Int32) → (Nat → Int32) → (Nat → Int32) → (Nat → Int32) → (Nat → Int32) → (Nat → Int32) → (Nat → Int32) → (Nat → Int32) → (Nat → Int32) → (Nat → Int32) → (Nat → Int32) → Prop} {st : Nat} {V0 : Nat → Bool} (H : zn_N ns nt sg dr pr po b_sig b_dir b_pre b_post) (hip : ∀ s, s < ns → b_isInput s = za_b (ip s)) (hV : zg_V ns ip gt b_value) (hs : st < 1024)
    (hJ : ∀ (x : Bool) (V : Nat → Bool) (b_met : Nat → Int32), zn_rep b_met V → zg_cd ns V → zn_I (zg_g sg pr ip gt) (zg_t sg dr pr po) nt V0 (st + 1) 0 x V → J (za_b x) (nI (st + 1)) b_sig b_dir b_pre b_post b_isInput b_table b_reach b_met b_next b_implicant b_prime b_value) :
    ∀ d t, t + d = nt → ∀ (x : Bool) (V : Nat → Bool) (b_met : Nat → Int32), zn_rep b_met V → zg_cd ns V → zn_I (zg_g sg pr ip gt) (zg_t sg dr pr po) nt V0 st t x V → wY_sweepMet_13 post J (nI st) g_places (nI ns) (nI sm) (nI sc) (nI nt) g_verdict g_primeCount g_coverMask g_coverCount (d + 1) (za_b x) (nI t) b_sig b_dir b_pre b_post b_isInput b_table b_reach b_met b_next b_implicant b_prime b_value := by
  have h12 := H.2.1
  intro d
  induction d with
  | zero =>
    intro t ht x V b_met hr hcd hi
    have : t = nt := by omega
    subst this
    exact br_t (nI_le (Nat.le_refl _) (by omega)) (nm_r (nI_1 st) (hJ x V b_met hr hcd (zn_I_row hi)))
  | succ d ih =>
    intro t ht x V b_met hr hcd hi
    refine zy_sm_b H hip hV hs (by omega) hr hcd (fun hn => ih (t + 1) (by omega) x V b_met hr hcd (zn_I_no hi hn)) (fun hv hg hw => ih (t + 1) (by omega) x V _ (zn_rep_sm hw hr) hcd (zn_I_old hi hw)) (fun hv hg hw => ?_)
    obtain ⟨h1, h2⟩ := zy_zt_lt H (t := t) (by omega) hs (hcd st hs hv)
    exact ih (t + 1) (by omega) true _ _ (zn_rep_ad _ hr) (zg_cd_ad hcd h2) (zn_I_new hi hs (by omega) hv hg h1 hw)
theorem zy_sm_s {post : Int32 → SY → Prop} {V0 : Nat → Bool} (H : zn_N ns nt sg dr pr po b_sig b_dir b_pre b_post) (hip : ∀ s, s < ns → b_isInput s = za_b (ip s)) (hV : zg_V ns ip gt b_value)
    (hp : ∀ (x : Bool) (V : Nat → Bool) (b_met : Nat → Int32), zn_rep b_met V → zg_cd ns V → zn_I (zg_g sg pr ip gt) (zg_t sg dr pr po) nt V0 1024 0 x V → post (za_b x) (g_places, (nI ns), (nI sm), (nI sc), (nI nt), g_verdict, g_primeCount, g_coverMask, g_coverCount, b_sig, b_dir, b_pre, b_post, b_isInput, b_table, b_reach, b_met, b_next, b_implicant, b_prime, b_value)) :
    ∀ d st, st + d = 1024 → ∀ (x : Bool) (V : Nat → Bool) (b_met : Nat → Int32), zn_rep b_met V → zg_cd ns V → zn_I (zg_g sg pr ip gt) (zg_t sg dr pr po) nt V0 st 0 x V → wY_sweepMet_4 post g_places (nI ns) (nI sm) (nI sc) (nI nt) g_verdict g_primeCount g_coverMask g_coverCount (d + 1) (za_b x) (nI st) b_sig b_dir b_pre b_post b_isInput b_table b_reach b_met b_next b_implicant b_prime b_value := by
  intro d
  induction d with
  | zero =>
    intro st hst x V b_met hr hcd hi
    have : st = 1024 := by omega
    subst this
    exact br_t (nI_le (Nat.le_refl _) (by omega)) (And.intro (za_nb x) (hp x V b_met hr hcd hi))
  | succ d ih =>
    intro st hst x V b_met hr hcd hi
    exact br_f (nI_ge (b := 1024) (by omega) (by omega)) ⟨_, zy_sm_t H hip hV (by omega) (fun x V b_met hr hcd hi => ih (st + 1) (by omega) x V b_met hr hcd hi) nt 0 (by omega) x V b_met hr hcd hi⟩
theorem zy_sweepMet {post : Int32 → SY → Prop} {V0 : Nat → Bool} (H : zn_N ns nt sg dr pr po b_sig b_dir b_pre b_post) (hip : ∀ s, s < ns → b_isInput s = za_b (ip s)) (hV : zg_V ns ip gt b_value) (hr : zn_rep b_met V0) (hcd : zg_cd ns V0)
    (hp : ∀ (x : Bool) (V : Nat → Bool) (b_met : Nat → Int32), zn_rep b_met V → zg_cd ns V → zn_I (zg_g sg pr ip gt) (zg_t sg dr pr po) nt V0 1024 0 x V → post (za_b x) (g_places, (nI ns), (nI sm), (nI sc), (nI nt), g_verdict, g_primeCount, g_coverMask, g_coverCount, b_sig, b_dir, b_pre, b_post, b_isInput, b_table, b_reach, b_met, b_next, b_implicant, b_prime, b_value)) : wpY_sweepMet post (g_places, (nI ns), (nI sm), (nI sc), (nI nt), g_verdict, g_primeCount, g_coverMask, g_coverCount, b_sig, b_dir, b_pre, b_post, b_isInput, b_table, b_reach, b_met, b_next, b_implicant, b_prime, b_value) :=
  ⟨_, zy_sm_s H hip hV hp 1024 0 (by omega) false V0 b_met hr hcd zn_I_0⟩
theorem zy_fm74 {post : SY → Prop} (H : zn_N ns nt sg dr pr po b_sig b_dir b_pre b_post) (hip : ∀ s, s < ns → b_isInput s = za_b (ip s)) (hV : zg_V ns ip gt b_value)
    (h : ∀ (M : Nat → Bool) (b_met : Nat → Int32), zn_rep b_met M → zg_cd ns M → zn_Ls (zg_g sg pr ip gt) (zg_t sg dr pr po) nt (16 * sm + sc) M → post (g_places, (nI ns), (nI sm), (nI sc), (nI nt), g_verdict, g_primeCount, g_coverMask, g_coverCount, b_sig, b_dir, b_pre, b_post, b_isInput, b_table, b_reach, b_met, b_next, b_implicant, b_prime, b_value)) :
    ∀ d k, k + d = 1024 → ∀ (x : Bool) (V : Nat → Bool) (b_met : Nat → Int32), zn_rep b_met V → zg_cd ns V → zn_B (zg_g sg pr ip gt) (zg_t sg dr pr po) nt (16 * sm + sc) k x V → wY_findMet_74 post (d + 1) (za_b x) (nI k) g_places (nI ns) (nI sm) (nI sc) (nI nt) g_verdict g_primeCount g_coverMask g_coverCount b_sig b_dir b_pre b_post b_isInput b_table b_reach b_met b_next b_implicant b_prime b_value := by
  intro d
  induction d with
  | zero =>
    intro k hk x V b_met hr hcd hb
    have : k = 1024 := by omega
    subst this
    exact br_t (nI_le (Nat.le_refl _) (by omega)) (h V b_met hr hcd (zn_B_e hb (Or.inr (Nat.le_refl _))))
  | succ d ih =>
    intro k hk x V b_met hr hcd hb
    refine br_f (nI_ge (b := 1024) (by omega) (by omega)) (za_br x (fun hx => h V b_met hr hcd (zn_B_e hb (Or.inl hx))) (fun hx => ?_))
    subst hx
    exact zy_sweepMet H hip hV hr hcd (fun x V' b_met hr' hcd' hi => nm_r (nI_1 k) (ih (k + 1) (by omega) x V' b_met hr' hcd' (zn_B_s hb hi)))
theorem zy_fm32 {post : SY → Prop} (H : zn_N ns nt sg dr pr po b_sig b_dir b_pre b_post) (hip : ∀ s, s < ns → b_isInput s = za_b (ip s)) (hV : zg_V ns ip gt b_value) (hm : sm < 64) (hc : sc < 2 ^ ns)
    (h : ∀ (M : Nat → Bool) (b_met : Nat → Int32), zn_rep b_met M → zg_cd ns M → zn_Ls (zg_g sg pr ip gt) (zg_t sg dr pr po) nt (16 * sm + sc) M → post (g_places, (nI ns), (nI sm), (nI sc), (nI nt), g_verdict, g_primeCount, g_coverMask, g_coverCount, b_sig, b_dir, b_pre, b_post, b_isInput, b_table, b_reach, b_met, b_next, b_implicant, b_prime, b_value)) :
    ∀ d k, k + d = 1024 → ∀ b_met : Nat → Int32, (∀ j, j < k → b_met j = za_b false) → wY_findMet_32 post g_places (nI ns) (nI sm) (nI sc) (nI nt) g_verdict g_primeCount g_coverMask g_coverCount (d + 1) (nI k) b_sig b_dir b_pre b_post b_isInput b_table b_reach b_met b_next b_implicant b_prime b_value := by
  have h16 := za_p4 H.1.2
  have h0 : 16 * sm + sc < 1024 := by omega
  have h0' : (16 * sm + sc) % 16 = sc := by omega
  intro d
  induction d with
  | zero =>
    intro k hk b_met hz
    have : k = 1024 := by omega
    subst this
    refine br_t (nI_le (Nat.le_refl _) (by omega)) ?_
    rw [za_16]
    refine And.intro (vp_in_nI h0 (by omega)) (nm_r (e' := upd b_met (16 * sm + sc) (za_b true)) (by rw [nI_clamp (by omega)]; rfl) ⟨1025, ?_⟩)
    have hr : zn_rep (upd b_met (16 * sm + sc) (za_b true)) (fun j => decide (j = 16 * sm + sc)) := by
      intro st hs
      show upd b_met (16 * sm + sc) (za_b true) st = za_b (decide (st = 16 * sm + sc))
      by_cases e : st = 16 * sm + sc
      · rw [e, pk_us, decide_eq_true rfl]
      · rw [pk_un e, decide_eq_false e]; exact hz st hs
    exact zy_fm74 H hip hV h 1024 0 (by omega) true _ _ hr (fun st _ z => by rw [of_decide_eq_true z, h0']; exact hc) (zn_B_0 h0 (decide_eq_true rfl) (fun st _ z => of_decide_eq_true z))
  | succ d ih =>
    intro k hk b_met hz
    refine br_f (nI_ge (b := 1024) (by omega) (by omega)) (And.intro (vp_in_nI (by omega) (by omega)) (nm_r (e' := upd b_met k (za_b false)) (by rw [nI_clamp (by omega)]; rfl) (nm_r (nI_1 k) (ih (k + 1) (by omega) _ (fun j hj => ?_)))))
    by_cases e : j = k
    · rw [e, pk_us]
    · rw [pk_un e]; exact hz j (by omega)
theorem zy_findMet {post : SY → Prop} (H : zn_N ns nt sg dr pr po b_sig b_dir b_pre b_post) (hr : zn_rep b_reach R) (hT : zg_T b_table) (hip : ∀ s, s < ns → b_isInput s = za_b (ip s)) (hm : sm < 64) (hc : sc < 2 ^ ns)
    (h : ∀ (M : Nat → Bool) (g_primeCount g_coverMask g_coverCount : Int32) (b_met b_next b_implicant b_prime b_value : Nat → Int32), zg_V ns ip (zg_gt ns b_table (zn_vl sg dr pr po nt R)) b_value → zn_rep b_met M → zg_cd ns M → zn_Ls (zg_g sg pr ip (zg_gt ns b_table (zn_vl sg dr pr po nt R))) (zg_t sg dr pr po) nt (16 * sm + sc) M → post (g_places, (nI ns), (nI sm), (nI sc), (nI nt), g_verdict, g_primeCount, g_coverMask, g_coverCount, b_sig, b_dir, b_pre, b_post, b_isInput, b_table, b_reach, b_met, b_next, b_implicant, b_prime, b_value)) : wpY_findMet post (g_places, (nI ns), (nI sm), (nI sc), (nI nt), g_verdict, g_primeCount, g_coverMask, g_coverCount, b_sig, b_dir, b_pre, b_post, b_isInput, b_table, b_reach, b_met, b_next, b_implicant, b_prime, b_value) := by
  have h4 := H.1
  have h16 := za_p4 h4.2
  have key : ∀ d s, s + d = ns → ∀ (g_primeCount g_coverMask g_coverCount : Int32) (b_next b_implicant b_prime b_value : Nat → Int32), (∀ j c, j < s → c < 2 ^ ns → ip j = false → b_value (16 * j + c) = za_b ((zg_gt ns b_table (zn_vl sg dr pr po nt R) j).testBit c)) → wY_findMet_2 post (d + 1) (nI s) g_places (nI ns) (nI sm) (nI sc) (nI nt) g_verdict g_primeCount g_coverMask g_coverCount b_sig b_dir b_pre b_post b_isInput b_table b_reach b_met b_next b_implicant b_prime b_value := by
    intro d
    induction d with
    | zero =>
      intro s hs g_primeCount g_coverMask g_coverCount b_next b_implicant b_prime b_value hv
      have : s = ns := by omega
      subst this
      exact br_t (nI_le (Nat.le_refl _) (by omega)) ⟨_, zy_fm32 H hip hv hm hc (fun M b_met hr hcd hl => h M _ _ _ b_met _ _ _ _ hv hr hcd hl) 1024 0 (by omega) b_met (fun j hj => absurd hj (by omega))⟩
    | succ d ih =>
      intro s hs g_primeCount g_coverMask g_coverCount b_next b_implicant b_prime b_value hv
      have cs : (nI s).toNatClampNeg = s := nI_clamp (by omega)
      refine br_f (nI_ge (by omega) (by omega)) (And.intro (vp_in_nI (by omega) (by omega)) (za_brx (ip s) (by rw [cs]; exact hip s (by omega)) (fun z => ?_) (fun z => nm_r (nI_1 s) (ih (s + 1) (by omega) _ _ _ _ _ _ _ (fun j c hj hc hz => ?_)))))
      · refine zy_fillGate H hr (by omega) hT (fun g_primeCount g_coverMask g_coverCount b_next b_implicant b_prime b_value' h1 h2 => nm_r (nI_1 s) (ih (s + 1) (by omega) _ _ _ _ _ _ _ (fun j c hj hc hz => ?_)))
        by_cases e : j = s
        · rw [e]; exact h1 c hc
        · rw [h2 _ (by omega)]; exact hv j c (by omega) hc hz
      · by_cases e : j = s
        · rw [e, z] at hz; exact absurd hz (by decide)
        · exact hv j c (by omega) hc hz
  exact ⟨_, key ns 0 (by omega) _ _ _ _ _ _ _ (fun j c hj => absurd hj (by omega))⟩
theorem zy_hasEnabled {post : Int32 → Prop} {s m : Nat} (H : zn_N ns nt sg dr pr po b_sig b_dir b_pre b_post) (hs : s < 4) (h : post (za_b (zg_he sg pr nt s m))) : wpY_hasEnabled post (g_places, (nI ns), (nI sm), (nI sc), (nI nt), g_verdict, g_primeCount, g_coverMask, g_coverCount, b_sig, b_dir, b_pre, b_post, b_isInput, b_table, b_reach, b_met, b_next, b_implicant, b_prime, b_value) (nI s) (nI m) := by
  have h12 := H.2.1
  have h4 := H.1
  refine za_any (fun n i => wY_hasEnabled_2 post (nI s) (nI m) g_places (nI ns) (nI sm) (nI sc) (nI nt) g_verdict g_primeCount g_coverMask g_coverCount b_sig b_dir b_pre b_post b_isInput b_table b_reach b_met b_next b_implicant b_prime b_value n (nI i)) nt _ post h (fun n h0 => br_t (nI_le (Nat.le_refl _) (by omega)) h0) ?_
  intro n t htt ht hf
  obtain ⟨⟨e, _⟩, hs', _⟩ := H.2.2 t htt
  have ce : (nI t).toNatClampNeg = t := nI_clamp (by omega)
  refine br_f (nI_ge htt (by omega)) (And.intro (vp_in_nI (by omega) (by omega)) ?_)
  refine pk_eq (sg t) s (fun z => ?_) (fun z => nm_r (nI_1 t) (hf (by rw [beq_eq_false_iff_ne.mpr z]; rfl))) (by rw [ce]; exact e) rfl
  refine zy_enabled H htt (za_br _ (fun he => nm_r (nI_1 t) (hf (by rw [he]; simp))) (fun he => ht (by rw [he, beq_iff_eq.mpr z]; rfl)))
theorem zy_nonconforming {post : Int32 → Prop} {m c : Nat} (H : zn_N ns nt sg dr pr po b_sig b_dir b_pre b_post) (hip : ∀ s, s < ns → b_isInput s = za_b (ip s)) (hV : zg_V ns ip gt b_value) (hc : c < 2 ^ ns) (h : post (za_b (zg_s5 sg pr ip gt ns nt m c))) : wpY_nonconforming post (g_places, (nI ns), (nI sm), (nI sc), (nI nt), g_verdict, g_primeCount, g_coverMask, g_coverCount, b_sig, b_dir, b_pre, b_post, b_isInput, b_table, b_reach, b_met, b_next, b_implicant, b_prime, b_value) (nI m) (nI c) := by
  have h4 := H.1
  refine za_any (fun n i => wY_nonconforming_2 post (nI m) (nI c) g_places (nI ns) (nI sm) (nI sc) (nI nt) g_verdict g_primeCount g_coverMask g_coverCount b_sig b_dir b_pre b_post b_isInput b_table b_reach b_met b_next b_implicant b_prime b_value n (nI i)) ns _ post h (fun n h0 => br_t (nI_le (Nat.le_refl _) (by omega)) h0) ?_
  intro n s hs ht hf
  refine br_f (nI_ge hs (by omega)) (zy_driven h4.2 hip hV hs hc (za_br _ (fun z => nm_r (nI_1 s) (hf (by rw [z]; rfl))) (fun z => ?_)))
  refine zy_hasEnabled H (by omega) (za_br _ (fun y => ht (by rw [z, y]; rfl)) (fun y => nm_r (nI_1 s) (hf (by rw [y]; simp))))
theorem zy_hazard {post : Int32 → Prop} {m c : Nat} (H : zn_N ns nt sg dr pr po b_sig b_dir b_pre b_post) (hip : ∀ s, s < ns → b_isInput s = za_b (ip s)) (hV : zg_V ns ip gt b_value) (hm : m < 64) (hc : c < 2 ^ ns) (h : post (za_b (zg_s6 sg dr pr ip gt ns nt m c))) : wpY_hazard post (g_places, (nI ns), (nI sm), (nI sc), (nI nt), g_verdict, g_primeCount, g_coverMask, g_coverCount, b_sig, b_dir, b_pre, b_post, b_isInput, b_table, b_reach, b_met, b_next, b_implicant, b_prime, b_value) (nI m) (nI c) := by
  have h4 := H.1
  have h12 := H.2.1
  have h16 := za_p4 h4.2
  refine za_any (fun n i => wY_hazard_2 post (nI m) (nI c) g_places (nI ns) (nI sm) (nI sc) (nI nt) g_verdict g_primeCount g_coverMask g_coverCount b_sig b_dir b_pre b_post b_isInput b_table b_reach b_met b_next b_implicant b_prime b_value n (nI i)) ns _ post h (fun n h0 => br_t (nI_le (Nat.le_refl _) (by omega)) h0) ?_
  intro n s hs ht hf
  refine br_f (nI_ge hs (by omega)) ?_
  refine za_scan (fun k t => wY_hazard_13 post (wY_hazard_2 post (nI m) (nI c) g_places (nI ns) (nI sm) (nI sc) (nI nt) g_verdict g_primeCount g_coverMask g_coverCount b_sig b_dir b_pre b_post b_isInput b_table b_reach b_met b_next b_implicant b_prime b_value n) (nI m) (nI c) (nI s) g_places (nI ns) (nI sm) (nI sc) (nI nt) g_verdict g_primeCount g_coverMask g_coverCount b_sig b_dir b_pre b_post b_isInput b_table b_reach b_met b_next b_implicant b_prime b_value k (nI t)) nt (fun t => (zg_dv ip gt s c && ((sg t != s) && (zg_k sg pr ip gt m c t && !zg_dv ip gt s (zn_yc sg dr c t)))) = true) (fun ha k => br_t (nI_le (Nat.le_refl _) (by omega)) (nm_r (nI_1 s) (hf (za_an_f.mpr fun t ht => za_f (ha t ht))))) ?_
  intro k t htt hb hcn
  obtain ⟨⟨e, _⟩, hs', _, hpo⟩ := H.2.2 t htt
  have ce : (nI t).toNatClampNeg = t := nI_clamp (by omega)
  refine br_f (nI_ge htt (by omega)) (zy_driven h4.2 hip hV hs hc (za_br _ (fun z => nm_r (nI_1 t) (hcn (by rw [z]; simp))) (fun z => And.intro (vp_in_nI (by omega) (by omega)) ?_)))
  refine pk_eq (sg t) s (fun y => nm_r (nI_1 t) (hcn (by rw [y]; simp))) (fun y => ?_) (by rw [ce]; exact e) rfl
  refine zy_isStep H hip hV htt hc (za_br _ (fun w => nm_r (nI_1 t) (hcn (by rw [w]; simp))) (fun w => ?_))
  have hyc := zn_yc_lt (sg := sg) (dr := dr) (c := c) (t := t) (k := ns) hc hs'
  have hnm := zn_nm_lt (pr := pr) (po := po) (m := m) (t := t) hm hpo
  refine zy_cellAfter H htt (And.intro za_16n (nm_r (e' := nI (zn_yc sg dr c t)) ?_ ?_))
  · rw [za_r16 (by omega)]
    congr 1
    omega
  · refine zy_driven h4.2 hip hV hs hyc (za_br _ (fun v => ht (za_an_t.mpr ⟨t, htt, ?_⟩)) (fun v => nm_r (nI_1 t) (hcn (by rw [v]; simp))))
    rw [z, bne_iff_ne.mpr y, w, v]; rfl
theorem zy_stall {post : Int32 → Prop} {m c : Nat} (H : zn_N ns nt sg dr pr po b_sig b_dir b_pre b_post) (hip : ∀ s, s < ns → b_isInput s = za_b (ip s)) (hV : zg_V ns ip gt b_value) (hc : c < 2 ^ ns) (h : post (za_b (zg_s7 sg pr ip gt ns nt m c))) : wpY_stall post (g_places, (nI ns), (nI sm), (nI sc), (nI nt), g_verdict, g_primeCount, g_coverMask, g_coverCount, b_sig, b_dir, b_pre, b_post, b_isInput, b_table, b_reach, b_met, b_next, b_implicant, b_prime, b_value) (nI m) (nI c) := by
  have h4 := H.1
  unfold zg_s7 at h
  have key : ∀ d s, s + d = ns → (∀ j, j < s → (zg_dv ip gt j c || (zg_he sg pr nt j m && ip j)) = false) → wY_stall_5 post (nI m) (nI c) g_places (nI ns) (nI sm) (nI sc) (nI nt) g_verdict g_primeCount g_coverMask g_coverCount b_sig b_dir b_pre b_post b_isInput b_table b_reach b_met b_next b_implicant b_prime b_value (d + 1) (za_b (za_an (fun s => zg_he sg pr nt s m) s)) (nI s) := by
    intro d
    induction d with
    | zero =>
      intro s hs hj
      have : s = ns := by omega
      subst this
      refine br_t (nI_le (Nat.le_refl _) (by omega)) (And.intro (za_nb _) ?_)
      rw [za_an_f.mpr hj] at h
      exact h
    | succ d ih =>
      intro s hs hj
      have cs : (nI s).toNatClampNeg = s := nI_clamp (by omega)
      have bad : (zg_dv ip gt s c || (zg_he sg pr nt s m && ip s)) = true → post 0 := by
        intro z
        have : za_an (fun s => zg_dv ip gt s c || (zg_he sg pr nt s m && ip s)) ns = true := za_an_t.mpr ⟨s, by omega, z⟩
        rw [this] at h; exact h
      have good : (zg_dv ip gt s c || (zg_he sg pr nt s m && ip s)) = false → wY_stall_5 post (nI m) (nI c) g_places (nI ns) (nI sm) (nI sc) (nI nt) g_verdict g_primeCount g_coverMask g_coverCount b_sig b_dir b_pre b_post b_isInput b_table b_reach b_met b_next b_implicant b_prime b_value (d + 1) (za_b (za_an (fun s => zg_he sg pr nt s m) (s + 1))) (nI (s + 1)) := by
        intro z
        refine ih (s + 1) (by omega) (fun j hj' => ?_)
        by_cases e : j = s
        · rw [e]; exact z
        · exact hj j (by omega)
      have e2 : za_an (fun s => zg_he sg pr nt s m) (s + 1) = (za_an (fun s => zg_he sg pr nt s m) s || zg_he sg pr nt s m) := rfl
      rw [e2] at good
      refine br_f (nI_ge (by omega) (by omega)) (zy_driven h4.2 hip hV (by omega) hc (za_br _ (fun z => ?_) (fun z => bad (by rw [z]; rfl))))
      refine zy_hasEnabled H (by omega) (za_br _ (fun y => ?_) (fun y => And.intro (vp_in_nI (by omega) (by omega)) (za_brx (ip s) (by rw [cs]; exact hip s (by omega)) (fun w => ?_) (fun w => bad (by rw [y, w]; simp)))))
      · unfold wY_stall_52
        refine za_br (zg_he sg pr nt s m) (fun _ => nm_r (nI_1 s) ?_) (fun v => by rw [y] at v; exact absurd v (by decide))
        rw [z, y] at good
        rw [Bool.or_false] at good
        exact good rfl
      · unfold wY_stall_52
        refine za_br (zg_he sg pr nt s m) (fun v => by rw [y] at v; exact absurd v (by decide)) (fun _ => nm_r (nI_1 s) ?_)
        rw [z, y, w] at good
        rw [Bool.or_true] at good
        exact good rfl
  exact ⟨_, key ns 0 (by omega) (fun j hj => absurd hj (by omega))⟩
theorem zy_firstThatShows {post : Int32 → Prop} {x1 : Int32} {sh : Nat → Bool} (hr : zn_rep b_met M) (hsh : ∀ st, st < 1024 → M st = true → ∀ p : Int32 → Prop, p (za_b (sh st)) → wpY_shows p (g_places, (nI ns), (nI sm), (nI sc), (nI nt), g_verdict, g_primeCount, g_coverMask, g_coverCount, b_sig, b_dir, b_pre, b_post, b_isInput, b_table, b_reach, b_met, b_next, b_implicant, b_prime, b_value) x1 (nI (st / 16)) (nI (st % 16))) (h : ∀ x, zn_Lf (fun st => M st = true ∧ sh st = true) x → post x) : wpY_firstThatShows post (g_places, (nI ns), (nI sm), (nI sc), (nI nt), g_verdict, g_primeCount, g_coverMask, g_coverCount, b_sig, b_dir, b_pre, b_post, b_isInput, b_table, b_reach, b_met, b_next, b_implicant, b_prime, b_value) x1 := by
  refine za_scan (fun n i => wY_firstThatShows_2 post x1 g_places (nI ns) (nI sm) (nI sc) (nI nt) g_verdict g_primeCount g_coverMask g_coverCount b_sig b_dir b_pre b_post b_isInput b_table b_reach b_met b_next b_implicant b_prime b_value n (nI i)) 1024 (fun st => M st = true ∧ sh st = true) (fun ha n => br_t (nI_le (Nat.le_refl _) (by omega)) (h _ (Or.inl ⟨rfl, ha⟩))) ?_
  intro n st hst hb hcn
  have cs : (nI st).toNatClampNeg = st := nI_clamp (by omega)
  refine br_f (nI_ge (b := 1024) hst (by omega)) (And.intro (vp_in_nI hst (by omega)) (za_brx (M st) (by rw [cs]; exact hr st hst) (fun z => nm_r (nI_1 st) (hcn (fun y => by rw [z] at y; exact absurd y.1 (by decide)))) (fun z => And.intro za_16n (And.intro za_16n ?_))))
  rw [za_r16 hst, za_q16 hst]
  refine hsh st hst z _ (za_br _ (fun y => nm_r (nI_1 st) (hcn (fun w => by rw [y] at w; exact absurd w.2 (by decide)))) (fun y => h _ (Or.inr ⟨st, hst, rfl, ⟨z, y⟩, hb⟩)))
theorem zy_shows5 {post : Int32 → Prop} {m c : Nat} (H : zn_N ns nt sg dr pr po b_sig b_dir b_pre b_post) (hip : ∀ s, s < ns → b_isInput s = za_b (ip s)) (hV : zg_V ns ip gt b_value) (hc : c < 2 ^ ns) (h : post (za_b (zg_s5 sg pr ip gt ns nt m c))) : wpY_shows post (g_places, (nI ns), (nI sm), (nI sc), (nI nt), g_verdict, g_primeCount, g_coverMask, g_coverCount, b_sig, b_dir, b_pre, b_post, b_isInput, b_table, b_reach, b_met, b_next, b_implicant, b_prime, b_value) 5 (nI m) (nI c) :=
  br_t rfl (zy_nonconforming H hip hV hc (And.intro (za_nb _) h))
theorem zy_shows6 {post : Int32 → Prop} {m c : Nat} (H : zn_N ns nt sg dr pr po b_sig b_dir b_pre b_post) (hip : ∀ s, s < ns → b_isInput s = za_b (ip s)) (hV : zg_V ns ip gt b_value) (hm : m < 64) (hc : c < 2 ^ ns) (h : post (za_b (zg_s6 sg dr pr ip gt ns nt m c))) : wpY_shows post (g_places, (nI ns), (nI sm), (nI sc), (nI nt), g_verdict, g_primeCount, g_coverMask, g_coverCount, b_sig, b_dir, b_pre, b_post, b_isInput, b_table, b_reach, b_met, b_next, b_implicant, b_prime, b_value) 6 (nI m) (nI c) :=
  br_f (by decide) (br_t rfl (zy_hazard H hip hV hm hc (And.intro (za_nb _) h)))
theorem zy_shows7 {post : Int32 → Prop} {m c : Nat} (H : zn_N ns nt sg dr pr po b_sig b_dir b_pre b_post) (hip : ∀ s, s < ns → b_isInput s = za_b (ip s)) (hV : zg_V ns ip gt b_value) (hc : c < 2 ^ ns) (h : post (za_b (zg_s7 sg pr ip gt ns nt m c))) : wpY_shows post (g_places, (nI ns), (nI sm), (nI sc), (nI nt), g_verdict, g_primeCount, g_coverMask, g_coverCount, b_sig, b_dir, b_pre, b_post, b_isInput, b_table, b_reach, b_met, b_next, b_implicant, b_prime, b_value) 7 (nI m) (nI c) :=
  br_f (by decide) (br_f (by decide) (br_t rfl (zy_stall H hip hV hc (za_br _ (fun z => by rw [z] at h; exact h) (fun z => by rw [z] at h; exact h)))))
end
end
section
/-! ===== the component: reach, expand, the walk over the net ===== -/
def zx_Q (bits : Nat → Int64) (q : Nat → Int32) (e : Nat) : Prop := e = za_c (za_v bits) 1024 ∧ (∀ i, i < e → ∃ st, st < 1024 ∧ q i = nI st ∧ za_v bits st = true) ∧ ∀ st, st < 1024 → za_v bits st = true → ∃ i, i < e ∧ q i = nI st
theorem zx_Q_le {bits : Nat → Int64} {q : Nat → Int32} {e : Nat} (h : zx_Q bits q e) : e ≤ 1024 := by rw [h.1]; exact za_c_le _ _
theorem zx_Q_add {bits bits' : Nat → Int64} {q : Nat → Int32} {e st : Nat} (h : zx_Q bits q e) (hs : st < 1024) (hv : za_v bits st = false) (hb : ∀ j, za_v bits' j = zn_ad (za_v bits) st j) : zx_Q bits' (upd q e (nI st)) (e + 1) := by
  obtain ⟨h1, h2, h3⟩ := h
  refine ⟨?_, ?_, ?_⟩
  · rw [h1]
    exact (za_c_add hv (by rw [hb, zn_ad_s]) (fun i _ hi => by rw [hb, zn_ad_n hi]) hs).symm
  · intro i hi
    by_cases e2 : i = e
    · exact ⟨st, hs, by rw [e2, pk_us], by rw [hb, zn_ad_s]⟩
    · obtain ⟨s, a, b, c⟩ := h2 i (by omega)
      exact ⟨s, a, by rw [pk_un e2]; exact b, by rw [hb]; exact zn_ad_i c⟩
  · intro s hs2 hv2
    rw [hb] at hv2
    rcases zn_ad_e hv2 with z | z
    · obtain ⟨i, a, b⟩ := h3 s hs2 z
      exact ⟨i, by omega, by rw [pk_un (by omega)]; exact b⟩
    · exact ⟨e, by omega, by rw [pk_us, z]⟩
theorem zx_sh {st : Nat} (h : st < 1024) : vp_nar .short (nI st).toInt16.toInt32 = nI st := by
  rw [pk_vs]
  have e := nI_toInt (n := st) (by omega)
  exact lg_i2s_small (by rw [e]; omega) (by rw [e]; omega)
section
variable {ns nt im sm sc : Nat} {sg : Nat → Nat} {dr : Nat → Bool} {pr po : Nat → Nat} {R : Nat → Bool} {ip : Nat → Bool}
variable {b_sig b_dir b_pre b_post b_table : Nat → Int32}
variable {f_placeCount f_signalCount f_transitionCount f_inputSignals f_startMarking f_startCode f_verdictNow f_stateCount f_unsafeMet f_inconsistentMet f_queueEnd f_primeTotal f_coversDone f_circuitDone f_metCount : Int32} {a_transitionSignal a_transitionDirection a_transitionPre a_transitionPost a_queue a_codeMet a_excitedSome a_excitedAll a_implicant a_cubeCodes a_primeCube a_primeTail a_pick a_picked a_coverPrimes a_coverLength a_coverCells a_coverCodes a_givenTable a_leastFailure : Nat → Int32} {a_stateBits a_metBits : Nat → Int64}
theorem zx_reach {post : SX → Prop} {st e : Nat} (hs : st < 1024) (hq : zx_Q a_stateBits a_queue e)
    (h : ∀ (bits : Nat → Int64) (q : Nat → Int32) (e' : Nat), zx_Q bits q e' → (∀ j, za_v bits j = zn_ad (za_v a_stateBits) st j) → e ≤ e' → (∀ i, i < e → q i = a_queue i) → post (f_placeCount, (nI ns), (nI nt), (nI im), (nI sm), (nI sc), f_verdictNow, f_stateCount, f_unsafeMet, f_inconsistentMet, nI e', f_primeTotal, f_coversDone, f_circuitDone, f_metCount, b_sig, b_dir, b_pre, b_post, bits, q, a_codeMet, a_excitedSome, a_excitedAll, a_implicant, a_cubeCodes, a_primeCube, a_primeTail, a_pick, a_picked, a_coverPrimes, a_coverLength, a_coverCells, a_coverCodes, b_table, a_metBits, a_leastFailure)) : wpX_reach post (f_placeCount, (nI ns), (nI nt), (nI im), (nI sm), (nI sc), f_verdictNow, f_stateCount, f_unsafeMet, f_inconsistentMet, nI e, f_primeTotal, f_coversDone, f_circuitDone, f_metCount, b_sig, b_dir, b_pre, b_post, a_stateBits, a_queue, a_codeMet, a_excitedSome, a_excitedAll, a_implicant, a_cubeCodes, a_primeCube, a_primeTail, a_pick, a_picked, a_coverPrimes, a_coverLength, a_coverCells, a_coverCodes, b_table, a_metBits, a_leastFailure) (nI st) := by
  have v16 : vp_in (nI (st / 64)) 16 := vp_in_nI (by omega) (by omega)
  have c16 : (nI (st / 64)).toNatClampNeg = st / 64 := nI_clamp (by omega)
  have hm := za_1L (st % 64) (by omega)
  have hle := zx_Q_le hq
  refine nm_r (e' := (1 : Int64) <<< ((nI (st % 64)).toInt64 &&& 63)) (by rw [za_a63 hs]) ?_
  rw [za_s6 hs, c16]
  refine And.intro v16 (za_if0 (za_v a_stateBits st) (za_v_test _ _ _ (by omega) hm) (fun z => ?_) (fun z => ?_))
  · have hlt : e < 1024 := by rw [hq.1]; exact za_c_all z hs
    have hb : ∀ j, za_v (vp_updL a_stateBits (st / 64) (a_stateBits (st / 64) ||| (1 : Int64) <<< ((nI (st % 64)).toInt64 &&& 63))) j = zn_ad (za_v a_stateBits) st j := fun j => za_v_set a_stateBits st _ hm j
    exact And.intro v16 (And.intro v16 (nm_e (And.intro (vp_in_nI hlt (by omega)) (nm_r (e' := upd a_queue e (nI st)) (by rw [nI_clamp (by omega), zx_sh hs]) (nm_r (nI_1 e) (h _ _ (e + 1) (zx_Q_add hq hs z hb) hb (by omega) (fun i hi => pk_un (by omega))))))))
  · refine h a_stateBits a_queue e hq (fun j => ?_) (Nat.le_refl _) (fun i _ => rfl)
    by_cases e2 : j = st
    · rw [e2, zn_ad_s]; exact z
    · rw [zn_ad_n e2]
theorem zx_ex_b {post : SX → Prop} {n t m c E e : Nat} {u i : Bool} (H : zn_N ns nt sg dr pr po b_sig b_dir b_pre b_post) (ht : t < nt) (hm : m < 64) (hc : c < 16) (hq : zx_Q a_stateBits a_queue e)
    (h0 : zn_en pr m t = false → wX_expand_5 post (nI m) (nI c) n (nI E) (nI (t + 1)) f_placeCount (nI ns) (nI nt) (nI im) (nI sm) (nI sc) f_verdictNow f_stateCount (za_b u) (za_b i) (nI e) f_primeTotal f_coversDone f_circuitDone f_metCount b_sig b_dir b_pre b_post a_stateBits a_queue a_codeMet a_excitedSome a_excitedAll a_implicant a_cubeCodes a_primeCube a_primeTail a_pick a_picked a_coverPrimes a_coverLength a_coverCells a_coverCodes b_table a_metBits a_leastFailure)
    (h1 : zn_en pr m t = true → zn_k sg dr pr po m c t = false → wX_expand_5 post (nI m) (nI c) n (nI E) (nI (t + 1)) f_placeCount (nI ns) (nI nt) (nI im) (nI sm) (nI sc) f_verdictNow f_stateCount (za_b (u || zn_us pr po m t)) (za_b (i || zn_ic sg dr c t)) (nI e) f_primeTotal f_coversDone f_circuitDone f_metCount b_sig b_dir b_pre b_post a_stateBits a_queue a_codeMet a_excitedSome a_excitedAll a_implicant a_cubeCodes a_primeCube a_primeTail a_pick a_picked a_coverPrimes a_coverLength a_coverCells a_coverCodes b_table a_metBits a_leastFailure)
    (h2 : zn_k sg dr pr po m c t = true → zn_en pr m t = true → zn_us pr po m t = false → zn_ic sg dr c t = false → ∀ (bits : Nat → Int64) (q : Nat → Int32) (e' : Nat), zx_Q bits q e' → (∀ j, za_v bits j = zn_ad (za_v a_stateBits) (16 * zn_nm pr po m t + zn_nc sg c t) j) → e ≤ e' → (∀ i, i < e → q i = a_queue i) → wX_expand_5 post (nI m) (nI c) n (nI (E ||| 2 ^ sg t)) (nI (t + 1)) f_placeCount (nI ns) (nI nt) (nI im) (nI sm) (nI sc) f_verdictNow f_stateCount (za_b u) (za_b i) (nI e') f_primeTotal f_coversDone f_circuitDone f_metCount b_sig b_dir b_pre b_post bits q a_codeMet a_excitedSome a_excitedAll a_implicant a_cubeCodes a_primeCube a_primeTail a_pick a_picked a_coverPrimes a_coverLength a_coverCells a_coverCodes b_table a_metBits a_leastFailure) :
    wX_expand_5 post (nI m) (nI c) (n + 1) (nI E) (nI t) f_placeCount (nI ns) (nI nt) (nI im) (nI sm) (nI sc) f_verdictNow f_stateCount (za_b u) (za_b i) (nI e) f_primeTotal f_coversDone f_circuitDone f_metCount b_sig b_dir b_pre b_post a_stateBits a_queue a_codeMet a_excitedSome a_excitedAll a_implicant a_cubeCodes a_primeCube a_primeTail a_pick a_picked a_coverPrimes a_coverLength a_coverCells a_coverCodes b_table a_metBits a_leastFailure := by
  have h12 := H.2.1
  have h4 := H.1
  obtain ⟨⟨e1, e2, e3, e4⟩, hsg, hpr, hpo⟩ := H.2.2 t ht
  have v : vp_in (nI t) 12 := vp_in_nI (by omega) (by omega)
  have ce : (nI t).toNatClampNeg = t := nI_clamp (by omega)
  have hle : m &&& pr t ≤ pr t := Nat.and_le_right
  have hle2 : za_nd m (pr t) &&& po t ≤ po t := Nat.and_le_right
  refine br_f (nI_ge ht (by omega)) (And.intro v (nm_r (e' := nI (pr t)) (by rw [ce]; exact e3) ?_))
  refine za_if (zn_en pr m t) (by unfold zn_en; rw [nx_and, nI_eq (by omega) (by omega), beq_iff_eq]) (fun he => ?_) (fun he => nm_r (nI_1 t) (h0 he))
  refine nm_r (za_ndI m (pr t)) (And.intro v (nm_r (e' := nI (sg t)) (by rw [ce]; exact e1) (And.intro v ?_)))
  have hic : ((nI c >>> (nI (sg t) &&& 31)) &&& 1 = b_dir (nI t).toNatClampNeg) ↔ zn_ic sg dr c t = true := by
    unfold zn_ic
    rw [ce, e2, za_rd (by omega) (by omega), za_bb, beq_iff_eq]
  refine za_if0 (zn_us pr po m t) (by unfold zn_us; rw [ce, e4, nx_and, ← nI_0, nI_eq (by omega) (by omega), bne_eq_false_iff_eq]) (fun hu => ?_) (fun hu => ?_)
  · unfold wX_expand_70
    refine And.intro v (za_if (zn_ic sg dr c t) hic (fun hi => ?_) (fun hi => ?_))
    · have hk : zn_k sg dr pr po m c t = false := by unfold zn_k; rw [he, hu, hi]; rfl
      have h1' := h1 he hk
      rw [hu, hi, Bool.or_false, Bool.or_true] at h1'
      unfold wX_expand_93
      refine br_t rfl ?_
      unfold wX_expand_105
      refine br_f (by decide) ?_
      unfold wX_expand_115
      exact br_t rfl (br_f (by decide) (nm_r (nI_1 t) h1'))
    · have hk : zn_k sg dr pr po m c t = true := by unfold zn_k; rw [he, hu, hi]; rfl
      have h2' := h2 hk he hu hi
      unfold wX_expand_93
      refine br_t rfl ?_
      unfold wX_expand_105
      refine br_t rfl ?_
      unfold wX_expand_115
      have hnm := zn_nm_lt (pr := pr) (po := po) (m := m) (t := t) hm hpo
      have hnc := zn_nc_lt (sg := sg) (c := c) (t := t) (k := 4) hc (by omega)
      have eb := za_1l (sg t) (by omega)
      refine br_t rfl (br_t rfl (nm_r (e' := nI (E ||| 2 ^ sg t)) (by rw [eb, za_or]) (And.intro v (nm_r (e' := nI (16 * zn_nm pr po m t + zn_nc sg c t)) (by rw [ce, e4, eb, za_or, nx_xor, za_16]; rfl) ?_))))
      exact zx_reach (by omega) hq (fun bits q e' a b c d => nm_r (nI_1 t) (h2' bits q e' a b c d))
  · have hk : zn_k sg dr pr po m c t = false := by unfold zn_k; rw [he, hu]; rfl
    have h1' := h1 he hk
    rw [hu, Bool.or_true] at h1'
    unfold wX_expand_70
    refine And.intro v (za_if (zn_ic sg dr c t) hic (fun hi => ?_) (fun hi => ?_))
    · rw [hi, Bool.or_true] at h1'
      unfold wX_expand_93
      refine br_f (by decide) ?_
      unfold wX_expand_105
      refine br_f (by decide) ?_
      unfold wX_expand_115
      exact br_f (by decide) (nm_r (nI_1 t) h1')
    · rw [hi, Bool.or_false] at h1'
      unfold wX_expand_93
      refine br_f (by decide) ?_
      unfold wX_expand_105
      refine br_t rfl ?_
      unfold wX_expand_115
      exact br_f (by decide) (nm_r (nI_1 t) h1')
/-- what expand does to the set and the queue, up to transition k -/
def zx_Ex (sg : Nat → Nat) (dr : Nat → Bool) (pr po : Nat → Nat) (k m c : Nat) (bits : Nat → Int64) (q : Nat → Int32) (e : Nat) (bits' : Nat → Int64) (q' : Nat → Int32) (e' : Nat) : Prop :=
  zx_Q bits' q' e' ∧ e ≤ e' ∧ (∀ i, i < e → q' i = q i) ∧ (∀ j, za_v bits j = true → za_v bits' j = true) ∧ (∀ j, za_v bits' j = true → za_v bits j = true ∨ ∃ t, t < k ∧ zn_k sg dr pr po m c t = true ∧ j = 16 * zn_nm pr po m t + zn_nc sg c t) ∧ ∀ t, t < k → zn_k sg dr pr po m c t = true → za_v bits' (16 * zn_nm pr po m t + zn_nc sg c t) = true
theorem zx_Ex_0 {m c e : Nat} {bits : Nat → Int64} {q : Nat → Int32} (h : zx_Q bits q e) : zx_Ex sg dr pr po 0 m c bits q e bits q e :=
  ⟨h, Nat.le_refl _, fun _ _ => rfl, fun _ h => h, fun _ h => Or.inl h, fun t ht => absurd ht (by omega)⟩
theorem zx_Ex_no {k m c e e' : Nat} {bits bits' : Nat → Int64} {q q' : Nat → Int32} (h : zx_Ex sg dr pr po k m c bits q e bits' q' e') (hk : zn_k sg dr pr po m c k = false) : zx_Ex sg dr pr po (k + 1) m c bits q e bits' q' e' := by
  obtain ⟨h1, h2, h3, h4, h5, h6⟩ := h
  refine ⟨h1, h2, h3, h4, fun j hj => ?_, fun t ht hg => ?_⟩
  · rcases h5 j hj with z | ⟨t, a, b⟩
    · exact Or.inl z
    · exact Or.inr ⟨t, by omega, b⟩
  · by_cases e : t = k
    · rw [e, hk] at hg; exact absurd hg (by decide)
    · exact h6 t (by omega) hg
theorem zx_Ex_yes {k m c e e' e'' : Nat} {bits bits' bits'' : Nat → Int64} {q q' q'' : Nat → Int32} (h : zx_Ex sg dr pr po k m c bits q e bits' q' e') (hk : zn_k sg dr pr po m c k = true) (hq : zx_Q bits'' q'' e'') (hb : ∀ j, za_v bits'' j = zn_ad (za_v bits') (16 * zn_nm pr po m k + zn_nc sg c k) j) (he : e' ≤ e'') (hi : ∀ i, i < e' → q'' i = q' i) : zx_Ex sg dr pr po (k + 1) m c bits q e bits'' q'' e'' := by
  obtain ⟨h1, h2, h3, h4, h5, h6⟩ := h
  refine ⟨hq, by omega, fun i hi2 => by rw [hi i (by omega)]; exact h3 i hi2, fun j hj => by rw [hb]; exact zn_ad_i (h4 j hj), fun j hj => ?_, fun t ht hg => ?_⟩
  · rw [hb] at hj
    rcases zn_ad_e hj with z | z
    · rcases h5 j z with y | ⟨t, a, b⟩
      · exact Or.inl y
      · exact Or.inr ⟨t, by omega, b⟩
    · exact Or.inr ⟨k, by omega, hk, z⟩
  · rw [hb]
    by_cases e : t = k
    · rw [e]; exact zn_ad_s _ _
    · exact zn_ad_i (h6 t (by omega) hg)
theorem zx_expand {post : SX → Prop} {m c e : Nat} {u i : Bool} (H : zn_N ns nt sg dr pr po b_sig b_dir b_pre b_post) (hm : m < 64) (hc : c < 16) (hq : zx_Q a_stateBits a_queue e)
    (h : ∀ (bits : Nat → Int64) (q : Nat → Int32) (e' E : Nat), zx_Ex sg dr pr po nt m c a_stateBits a_queue e bits q e' → E < 16 → (∀ s, E.testBit s = zn_ex sg dr pr po nt s m c) → post (f_placeCount, (nI ns), (nI nt), (nI im), (nI sm), (nI sc), f_verdictNow, f_stateCount, za_b (u || za_an (fun t => zn_en pr m t && zn_us pr po m t) nt), za_b (i || za_an (fun t => zn_en pr m t && zn_ic sg dr c t) nt), nI e', f_primeTotal, f_coversDone, f_circuitDone, f_metCount, b_sig, b_dir, b_pre, b_post, bits, q, upd a_codeMet c (za_b true), upd a_excitedSome c (a_excitedSome c ||| nI E), upd a_excitedAll c (a_excitedAll c &&& nI E), a_implicant, a_cubeCodes, a_primeCube, a_primeTail, a_pick, a_picked, a_coverPrimes, a_coverLength, a_coverCells, a_coverCodes, b_table, a_metBits, a_leastFailure)) :
    wpX_expand post (f_placeCount, (nI ns), (nI nt), (nI im), (nI sm), (nI sc), f_verdictNow, f_stateCount, za_b u, za_b i, nI e, f_primeTotal, f_coversDone, f_circuitDone, f_metCount, b_sig, b_dir, b_pre, b_post, a_stateBits, a_queue, a_codeMet, a_excitedSome, a_excitedAll, a_implicant, a_cubeCodes, a_primeCube, a_primeTail, a_pick, a_picked, a_coverPrimes, a_coverLength, a_coverCells, a_coverCodes, b_table, a_metBits, a_leastFailure) (nI m) (nI c) := by
  have h12 := H.2.1
  have h4 := H.1
  have key : ∀ d t, t + d = nt → ∀ (bits : Nat → Int64) (q : Nat → Int32) (e' E : Nat), zx_Ex sg dr pr po t m c a_stateBits a_queue e bits q e' → E < 16 → (∀ s, E.testBit s = zn_ex sg dr pr po t s m c) → wX_expand_5 post (nI m) (nI c) (d + 1) (nI E) (nI t) f_placeCount (nI ns) (nI nt) (nI im) (nI sm) (nI sc) f_verdictNow f_stateCount (za_b (u || za_an (fun t => zn_en pr m t && zn_us pr po m t) t)) (za_b (i || za_an (fun t => zn_en pr m t && zn_ic sg dr c t) t)) (nI e') f_primeTotal f_coversDone f_circuitDone f_metCount b_sig b_dir b_pre b_post bits q a_codeMet a_excitedSome a_excitedAll a_implicant a_cubeCodes a_primeCube a_primeTail a_pick a_picked a_coverPrimes a_coverLength a_coverCells a_coverCodes b_table a_metBits a_leastFailure := by
    intro d
    induction d with
    | zero =>
      intro t ht bits q e' E hx hE hs
      have : t = nt := by omega
      subst this
      have v : vp_in (nI c) 16 := vp_in_nI hc (by omega)
      have ce : (nI c).toNatClampNeg = c := nI_clamp (by omega)
      refine br_t (nI_le (Nat.le_refl _) (by omega)) (And.intro v (nm_r (e' := upd a_codeMet c (za_b true)) (by rw [ce]; rfl) (And.intro v (And.intro v (nm_r (e' := upd a_excitedSome c (a_excitedSome c ||| nI E)) (by rw [ce]) (And.intro v (And.intro v (nm_r (e' := upd a_excitedAll c (a_excitedAll c &&& nI E)) (by rw [ce]) (h bits q e' E hx hE hs)))))))))
    | succ d ih =>
      intro t ht bits q e' E hx hE hs
      have eU : za_an (fun t => zn_en pr m t && zn_us pr po m t) (t + 1) = (za_an (fun t => zn_en pr m t && zn_us pr po m t) t || (zn_en pr m t && zn_us pr po m t)) := rfl
      have eI : za_an (fun t => zn_en pr m t && zn_ic sg dr c t) (t + 1) = (za_an (fun t => zn_en pr m t && zn_ic sg dr c t) t || (zn_en pr m t && zn_ic sg dr c t)) := rfl
      have eX : ∀ s, zn_ex sg dr pr po (t + 1) s m c = (zn_ex sg dr pr po t s m c || ((sg t == s) && zn_k sg dr pr po m c t)) := fun s => rfl
      have ih1 := fun bits q e' E => ih (t + 1) (by omega) bits q e' E
      rw [eU, eI] at ih1
      refine zx_ex_b H (by omega) hm hc hx.1 (fun he => ?_) (fun he hk => ?_) (fun hk he hu hi bits' q' e'' a b c' d' => ?_)
      · have hk : zn_k sg dr pr po m c t = false := by unfold zn_k; rw [he]; rfl
        have g := ih1 bits q e' E (zx_Ex_no hx hk) hE (fun s => by rw [eX, hk, hs s]; simp)
        rw [he] at g
        simp only [Bool.false_and, Bool.or_false] at g
        exact g
      · have g := ih1 bits q e' E (zx_Ex_no hx hk) hE (fun s => by rw [eX, hk, hs s]; simp)
        rw [he] at g
        simp only [Bool.true_and] at g
        rw [← Bool.or_assoc, ← Bool.or_assoc] at g
        exact g
      · have hsg := (H.2.2 t (by omega)).2.1
        have g := ih1 bits' q' e'' (E ||| 2 ^ sg t) (zx_Ex_yes hx hk a b c' d') (Nat.or_lt_two_pow (n := 4) hE (Nat.pow_lt_pow_right (by omega) (by omega))) (fun s => by
          rw [eX, hk, Nat.testBit_or, hs s, Nat.testBit_two_pow, Bool.and_true]
          by_cases e : sg t = s
          · rw [decide_eq_true e, beq_iff_eq.mpr e]
          · rw [decide_eq_false e, beq_eq_false_iff_ne.mpr e])
        rw [he, hu, hi] at g
        simp only [Bool.true_and, Bool.or_false] at g
        exact g
  have k0 := key nt 0 (by omega) a_stateBits a_queue e 0 (zx_Ex_0 hq) (by omega) (fun s => Nat.zero_testBit s)
  have z1 : za_an (fun t => zn_en pr m t && zn_us pr po m t) 0 = false := rfl
  have z2 : za_an (fun t => zn_en pr m t && zn_ic sg dr c t) 0 = false := rfl
  rw [z1, z2, Bool.or_false, Bool.or_false] at k0
  exact ⟨_, k0⟩
end
end
section
/-! ===== the component: the walk over the net, values, the first conflict ===== -/
/-- the three tables over the states in D -/
def zx_T (sg : Nat → Nat) (dr : Nat → Bool) (pr po : Nat → Nat) (nt : Nat) (D : Nat → Prop) (cm eS eA : Nat → Int32) : Prop := ∀ c, c < 16 →
  (∃ b, cm c = za_b b ∧ (b = true ↔ ∃ st, st < 1024 ∧ D st ∧ st % 16 = c)) ∧
  (∃ S, S < 16 ∧ eS c = nI S ∧ ∀ s, s < 4 → (S.testBit s = true ↔ ∃ st, st < 1024 ∧ D st ∧ st % 16 = c ∧ zn_ex sg dr pr po nt s (st / 16) c = true)) ∧
  (∃ A, A < 16 ∧ eA c = nI A ∧ ∀ s, s < 4 → (A.testBit s = true ↔ ∀ st, st < 1024 → D st → st % 16 = c → zn_ex sg dr pr po nt s (st / 16) c = true))
theorem zx_T_0 {sg : Nat → Nat} {dr : Nat → Bool} {pr po : Nat → Nat} {nt : Nat} {D : Nat → Prop} {cm eS eA : Nat → Int32} (hD : ∀ st, ¬ D st) (h1 : ∀ c, c < 16 → cm c = za_b false) (h2 : ∀ c, c < 16 → eS c = 0) (h3 : ∀ c, c < 16 → eA c = 15) : zx_T sg dr pr po nt D cm eS eA := fun c hc =>
  ⟨⟨false, h1 c hc, fun z => absurd z (by decide), fun ⟨st, _, d, _⟩ => absurd d (hD st)⟩,
   ⟨0, by omega, h2 c hc, fun s _ => ⟨fun z => by rw [Nat.zero_testBit] at z; exact absurd z (by decide), fun ⟨st, _, d, _⟩ => absurd d (hD st)⟩⟩,
   ⟨15, by omega, h3 c hc, fun s hs => ⟨fun _ st _ d => absurd d (hD st), fun _ => by
      rcases (show s = 0 ∨ s = 1 ∨ s = 2 ∨ s = 3 by omega) with z | z | z | z <;> subst z <;> decide⟩⟩⟩
theorem zx_T_s {sg : Nat → Nat} {dr : Nat → Bool} {pr po : Nat → Nat} {nt s0 E : Nat} {D D' : Nat → Prop} {cm eS eA : Nat → Int32} (h : zx_T sg dr pr po nt D cm eS eA) (hs : s0 < 1024) (hD : ∀ st, st < 1024 → (D' st ↔ D st ∨ st = s0)) (hE : E < 16) (hx : ∀ s, E.testBit s = zn_ex sg dr pr po nt s (s0 / 16) (s0 % 16)) : zx_T sg dr pr po nt D' (upd cm (s0 % 16) (za_b true)) (upd eS (s0 % 16) (eS (s0 % 16) ||| nI E)) (upd eA (s0 % 16) (eA (s0 % 16) &&& nI E)) := by
  intro c hc
  obtain ⟨⟨b, b1, b2⟩, ⟨S, S1, S2, S3⟩, ⟨A, A1, A2, A3⟩⟩ := h c hc
  by_cases e : c = s0 % 16
  · subst e
    refine ⟨⟨true, pk_us, fun _ => ⟨s0, hs, (hD s0 hs).mpr (Or.inr rfl), rfl⟩, fun _ => rfl⟩, ⟨S ||| E, Nat.or_lt_two_pow (n := 4) S1 hE, by rw [pk_us, S2, za_or], fun s hs4 => ?_⟩, ⟨A &&& E, Nat.and_lt_two_pow (n := 4) A hE, by rw [pk_us, A2, nx_and], fun s hs4 => ?_⟩⟩
    · rw [Nat.testBit_or, Bool.or_eq_true, S3 s hs4, hx]
      constructor
      · rintro (⟨st, a, d, f, g⟩ | g)
        · exact ⟨st, a, (hD st a).mpr (Or.inl d), f, g⟩
        · exact ⟨s0, hs, (hD s0 hs).mpr (Or.inr rfl), rfl, g⟩
      · rintro ⟨st, a, d, f, g⟩
        rcases (hD st a).mp d with z | z
        · exact Or.inl ⟨st, a, z, f, g⟩
        · subst z; exact Or.inr g
    · rw [Nat.testBit_and, Bool.and_eq_true, A3 s hs4, hx]
      constructor
      · rintro ⟨f, g⟩ st a d k
        rcases (hD st a).mp d with z | z
        · exact f st a z k
        · subst z; exact g
      · intro f
        exact ⟨fun st a d k => f st a ((hD st a).mpr (Or.inl d)) k, f s0 hs ((hD s0 hs).mpr (Or.inr rfl)) rfl⟩
  · have k : ∀ st, st < 1024 → st % 16 = c → (D' st ↔ D st) := fun st a f => by
      rw [hD st a]
      exact ⟨fun z => z.elim id (fun y => absurd (by rw [← f, y]) e), Or.inl⟩
    refine ⟨⟨b, by rw [pk_un e]; exact b1, ?_⟩, ⟨S, S1, by rw [pk_un e]; exact S2, fun s hs4 => ?_⟩, ⟨A, A1, by rw [pk_un e]; exact A2, fun s hs4 => ?_⟩⟩
    · rw [b2]
      exact ⟨fun ⟨st, a, d, f⟩ => ⟨st, a, (k st a f).mpr d, f⟩, fun ⟨st, a, d, f⟩ => ⟨st, a, (k st a f).mp d, f⟩⟩
    · rw [S3 s hs4]
      exact ⟨fun ⟨st, a, d, f, g⟩ => ⟨st, a, (k st a f).mpr d, f, g⟩, fun ⟨st, a, d, f, g⟩ => ⟨st, a, (k st a f).mp d, f, g⟩⟩
    · rw [A3 s hs4]
      exact ⟨fun g st a d f => g st a ((k st a f).mp d) f, fun g st a d f => g st a ((k st a f).mpr d) f⟩
theorem zx_T_c {sg : Nat → Nat} {dr : Nat → Bool} {pr po : Nat → Nat} {nt : Nat} {D D' : Nat → Prop} {cm eS eA : Nat → Int32} (h : zx_T sg dr pr po nt D cm eS eA) (k : ∀ st, st < 1024 → (D' st ↔ D st)) : zx_T sg dr pr po nt D' cm eS eA := by
  intro c hc
  obtain ⟨⟨b, b1, b2⟩, ⟨S, S1, S2, S3⟩, ⟨A, A1, A2, A3⟩⟩ := h c hc
  refine ⟨⟨b, b1, ?_⟩, ⟨S, S1, S2, fun s hs4 => ?_⟩, ⟨A, A1, A2, fun s hs4 => ?_⟩⟩
  · rw [b2]
    exact ⟨fun ⟨st, a, d, f⟩ => ⟨st, a, (k st a).mpr d, f⟩, fun ⟨st, a, d, f⟩ => ⟨st, a, (k st a).mp d, f⟩⟩
  · rw [S3 s hs4]
    exact ⟨fun ⟨st, a, d, f, g⟩ => ⟨st, a, (k st a).mpr d, f, g⟩, fun ⟨st, a, d, f, g⟩ => ⟨st, a, (k st a).mp d, f, g⟩⟩
  · rw [A3 s hs4]
    exact ⟨fun g st a d f => g st a ((k st a).mp d) f, fun g st a d f => g st a ((k st a).mpr d) f⟩
/-- the tables, read against the counts -/
theorem zx_T_v {sg : Nat → Nat} {dr : Nat → Bool} {pr po : Nat → Nat} {nt : Nat} {R : Nat → Bool} {cm eS eA : Nat → Int32} (h : zx_T sg dr pr po nt (fun st => R st = true) cm eS eA) (c : Nat) (hc : c < 16) :
    cm c = za_b (zn_A R c != 0) ∧ (∃ S, S < 16 ∧ eS c = nI S ∧ ∀ s, s < 4 → S.testBit s = (zn_E sg dr pr po nt R s c != 0)) ∧ ∃ A, A < 16 ∧ eA c = nI A ∧ ∀ s, s < 4 → A.testBit s = (zn_E sg dr pr po nt R s c == zn_A R c) := by
  obtain ⟨⟨b, b1, b2⟩, ⟨S, S1, S2, S3⟩, ⟨A, A1, A2, A3⟩⟩ := h c hc
  refine ⟨?_, ⟨S, S1, S2, fun s hs => ?_⟩, ⟨A, A1, A2, fun s hs => ?_⟩⟩
  · rw [b1]
    congr 1
    apply za_beq
    rw [b2, bne_iff_ne]
    unfold zn_A
    constructor
    · rintro ⟨st, a, d, f⟩ z
      have := za_c_0.mp z (st / 16) (by omega)
      have e : 16 * (st / 16) + c = st := by omega
      rw [e] at this
      rw [this] at d; exact absurd d (by decide)
    · intro z
      by_cases k : ∃ m, m < 64 ∧ R (16 * m + c) = true
      · obtain ⟨m, hm, hr⟩ := k
        exact ⟨16 * m + c, by omega, hr, by omega⟩
      · exact absurd (za_c_0.mpr (fun m hm => za_f (fun y => k ⟨m, hm, y⟩))) z
  · apply za_beq
    rw [S3 s hs, bne_iff_ne]
    unfold zn_E
    constructor
    · rintro ⟨st, a, d, f, g⟩ z
      have := za_c_0.mp z (st / 16) (by omega)
      have e : 16 * (st / 16) + c = st := by omega
      rw [e, g, Bool.and_true] at this
      rw [this] at d; exact absurd d (by decide)
    · intro z
      by_cases k : ∃ m, m < 64 ∧ (R (16 * m + c) && zn_ex sg dr pr po nt s m c) = true
      · obtain ⟨m, hm, hr⟩ := k
        rw [Bool.and_eq_true] at hr
        have e : (16 * m + c) / 16 = m := by omega
        exact ⟨16 * m + c, by omega, hr.1, by omega, by rw [e]; exact hr.2⟩
      · exact absurd (za_c_0.mpr (fun m hm => za_f (fun y => k ⟨m, hm, y⟩))) z
  · apply za_beq
    rw [A3 s hs, beq_iff_eq]
    unfold zn_E zn_A
    rw [za_c_same]
    constructor
    · intro g m hm hr
      have e : (16 * m + c) / 16 = m := by omega
      have := g (16 * m + c) (by omega) hr (by omega)
      rw [e] at this; exact this
    · intro g st a d f
      have e : 16 * (st / 16) + c = st := by omega
      exact g (st / 16) (by omega) (by rw [e]; exact d)
/-- the state of the walk with h states done -/
def zx_W (sg : Nat → Nat) (dr : Nat → Bool) (pr po : Nat → Nat) (nt s0 h e : Nat) (bits : Nat → Int64) (q : Nat → Int32) (u i : Bool) (cm eS eA : Nat → Int32) : Prop :=
  zx_Q bits q e ∧ h ≤ e ∧ za_v bits s0 = true ∧
  (∀ Q : Nat → Prop, Q s0 → zn_Cl (zn_g sg dr pr po) (zn_t sg pr po) nt Q → ∀ st, st < 1024 → za_v bits st = true → Q st) ∧
  (∀ j st, j < h → st < 1024 → q j = nI st → ∀ t, t < nt → zn_g sg dr pr po st t = true → za_v bits (zn_t sg pr po st t) = true) ∧
  (u = true ↔ ∃ st, st < 1024 ∧ (∃ j, j < h ∧ q j = nI st) ∧ za_an (fun t => zn_en pr (st / 16) t && zn_us pr po (st / 16) t) nt = true) ∧
  (i = true ↔ ∃ st, st < 1024 ∧ (∃ j, j < h ∧ q j = nI st) ∧ za_an (fun t => zn_en pr (st / 16) t && zn_ic sg dr (st % 16) t) nt = true) ∧
  zx_T sg dr pr po nt (fun st => ∃ j, j < h ∧ q j = nI st) cm eS eA
theorem zx_W_s {sg : Nat → Nat} {dr : Nat → Bool} {pr po : Nat → Nat} {nt s0 h e e' E st : Nat} {bits bits' : Nat → Int64} {q q' : Nat → Int32} {u i : Bool} {cm eS eA : Nat → Int32} (w : zx_W sg dr pr po nt s0 h e bits q u i cm eS eA) (hh : h < e) (hs : st < 1024) (hq : q h = nI st) (hx : zx_Ex sg dr pr po nt (st / 16) (st % 16) bits q e bits' q' e') (hE : E < 16) (hE2 : ∀ s, E.testBit s = zn_ex sg dr pr po nt s (st / 16) (st % 16)) :
    zx_W sg dr pr po nt s0 (h + 1) e' bits' q' (u || za_an (fun t => zn_en pr (st / 16) t && zn_us pr po (st / 16) t) nt) (i || za_an (fun t => zn_en pr (st / 16) t && zn_ic sg dr (st % 16) t) nt) (upd cm (st % 16) (za_b true)) (upd eS (st % 16) (eS (st % 16) ||| nI E)) (upd eA (st % 16) (eA (st % 16) &&& nI E)) := by
  obtain ⟨w1, w2, w3, w4, w5, w6, w7, w8⟩ := w
  obtain ⟨x1, x2, x3, x4, x5, x6⟩ := hx
  have vst : za_v bits st = true := by
    obtain ⟨s, a, b, c⟩ := w1.2.1 h hh
    rw [hq] at b
    rw [nI_eq (by omega) (by omega)] at b
    rw [b]; exact c
  have hD : ∀ s, s < 1024 → ((∃ j, j < h + 1 ∧ q' j = nI s) ↔ (∃ j, j < h ∧ q j = nI s) ∨ s = st) := by
    intro s hs2
    constructor
    · rintro ⟨j, a, b⟩
      rw [x3 j (by omega)] at b
      by_cases z : j = h
      · rw [z, hq, nI_eq (by omega) (by omega)] at b
        exact Or.inr b.symm
      · exact Or.inl ⟨j, by omega, b⟩
    · rintro (⟨j, a, b⟩ | z)
      · exact ⟨j, by omega, by rw [x3 j (by omega)]; exact b⟩
      · exact ⟨h, by omega, by rw [x3 h hh, z]; exact hq⟩
  refine ⟨x1, by omega, x4 _ w3, fun Q q0 qc s hs2 hv => ?_, fun j s hj hs2 hjs t ht hg => ?_, ?_, ?_, zx_T_s w8 hs hD hE hE2⟩
  · rcases x5 s hv with z | ⟨t, a, b, c⟩
    · exact w4 Q q0 qc s hs2 z
    · rw [c]; exact qc st t hs a (w4 Q q0 qc st hs vst) b
  · rcases (hD s hs2).mp ⟨j, hj, hjs⟩ with ⟨j2, a, b⟩ | z
    · exact x4 _ (w5 j2 s a hs2 b t ht hg)
    · subst z; exact x6 t ht hg
  · rw [Bool.or_eq_true, w6]
    constructor
    · rintro (⟨s, a, b, c⟩ | z)
      · exact ⟨s, a, (hD s a).mpr (Or.inl b), c⟩
      · exact ⟨st, hs, (hD st hs).mpr (Or.inr rfl), z⟩
    · rintro ⟨s, a, b, c⟩
      rcases (hD s a).mp b with z | z
      · exact Or.inl ⟨s, a, z, c⟩
      · subst z; exact Or.inr c
  · rw [Bool.or_eq_true, w7]
    constructor
    · rintro (⟨s, a, b, c⟩ | z)
      · exact ⟨s, a, (hD s a).mpr (Or.inl b), c⟩
      · exact ⟨st, hs, (hD st hs).mpr (Or.inr rfl), z⟩
    · rintro ⟨s, a, b, c⟩
      rcases (hD s a).mp b with z | z
      · exact Or.inl ⟨s, a, z, c⟩
      · subst z; exact Or.inr c
theorem zx_an2 {p : Nat → Nat → Bool} {R : Nat → Bool} {nt : Nat} : za_an (fun st => za_an (fun t => R st && p st t) nt) 1024 = true ↔ ∃ st, st < 1024 ∧ R st = true ∧ za_an (fun t => p st t) nt = true := by
  rw [za_an_t]
  constructor
  · rintro ⟨st, a, b⟩
    obtain ⟨t, c, d⟩ := za_an_t.mp b
    rw [Bool.and_eq_true] at d
    exact ⟨st, a, d.1, za_an_t.mpr ⟨t, c, d.2⟩⟩
  · rintro ⟨st, a, b, c⟩
    obtain ⟨t, d, f⟩ := za_an_t.mp c
    exact ⟨st, a, za_an_t.mpr ⟨t, d, by rw [b, f]; rfl⟩⟩
theorem zx_W_e {sg : Nat → Nat} {dr : Nat → Bool} {pr po : Nat → Nat} {nt s0 e : Nat} {bits : Nat → Int64} {q : Nat → Int32} {u i : Bool} {cm eS eA : Nat → Int32} (w : zx_W sg dr pr po nt s0 e e bits q u i cm eS eA) :
    zn_Ls (zn_g sg dr pr po) (zn_t sg pr po) nt s0 (za_v bits) ∧ u = zn_U pr po nt (za_v bits) ∧ i = zn_Q sg dr pr nt (za_v bits) ∧ zx_T sg dr pr po nt (fun st => za_v bits st = true) cm eS eA := by
  obtain ⟨w1, w2, w3, w4, w5, w6, w7, w8⟩ := w
  have hD : ∀ st, st < 1024 → (za_v bits st = true ↔ ∃ j, j < e ∧ q j = nI st) := by
    intro st hs
    constructor
    · exact w1.2.2 st hs
    · rintro ⟨j, a, b⟩
      obtain ⟨s, c, d, f⟩ := w1.2.1 j a
      rw [b, nI_eq (by omega) (by omega)] at d
      rw [d]; exact f
  refine ⟨⟨w3, fun st t hs ht hv hg => ?_, w4⟩, ?_, ?_, zx_T_c w8 hD⟩
  · obtain ⟨j, a, b⟩ := (hD st hs).mp hv
    exact w5 j st a hs b t ht hg
  · apply za_beq
    unfold zn_U
    rw [w6, zx_an2]
    exact ⟨fun ⟨st, a, b, c⟩ => ⟨st, a, (hD st a).mpr b, c⟩, fun ⟨st, a, b, c⟩ => ⟨st, a, (hD st a).mp b, c⟩⟩
  · apply za_beq
    unfold zn_Q
    rw [w7, zx_an2]
    exact ⟨fun ⟨st, a, b, c⟩ => ⟨st, a, (hD st a).mpr b, c⟩, fun ⟨st, a, b, c⟩ => ⟨st, a, (hD st a).mp b, c⟩⟩
section
variable {ns nt im sm sc : Nat} {sg : Nat → Nat} {dr : Nat → Bool} {pr po : Nat → Nat} {R : Nat → Bool} {ip : Nat → Bool}
variable {b_sig b_dir b_pre b_post b_table : Nat → Int32}
variable {f_placeCount f_signalCount f_transitionCount f_inputSignals f_startMarking f_startCode f_verdictNow f_stateCount f_unsafeMet f_inconsistentMet f_queueEnd f_primeTotal f_coversDone f_circuitDone f_metCount : Int32} {a_transitionSignal a_transitionDirection a_transitionPre a_transitionPost a_queue a_codeMet a_excitedSome a_excitedAll a_implicant a_cubeCodes a_primeCube a_primeTail a_pick a_picked a_coverPrimes a_coverLength a_coverCells a_coverCodes a_givenTable a_leastFailure : Nat → Int32} {a_stateBits a_metBits : Nat → Int64}
theorem zx_wn76 {post : SX → Prop} (H : zn_N ns nt sg dr pr po b_sig b_dir b_pre b_post)
    (hp : ∀ (bits : Nat → Int64) (q : Nat → Int32) (e : Nat) (u i : Bool) (a_codeMet a_excitedSome a_excitedAll : Nat → Int32), zx_W sg dr pr po nt (16 * sm + sc) e e bits q u i a_codeMet a_excitedSome a_excitedAll → post (f_placeCount, (nI ns), (nI nt), (nI im), (nI sm), (nI sc), f_verdictNow, nI e, za_b u, za_b i, nI e, f_primeTotal, f_coversDone, f_circuitDone, f_metCount, b_sig, b_dir, b_pre, b_post, bits, q, a_codeMet, a_excitedSome, a_excitedAll, a_implicant, a_cubeCodes, a_primeCube, a_primeTail, a_pick, a_picked, a_coverPrimes, a_coverLength, a_coverCells, a_coverCodes, b_table, a_metBits, a_leastFailure)) :
    ∀ d h, h + d = 1025 → ∀ (bits : Nat → Int64) (q : Nat → Int32) (e : Nat) (u i : Bool) (a_codeMet a_excitedSome a_excitedAll : Nat → Int32), zx_W sg dr pr po nt (16 * sm + sc) h e bits q u i a_codeMet a_excitedSome a_excitedAll → wX_walkNet_76 post (d + 1) (nI h) f_placeCount (nI ns) (nI nt) (nI im) (nI sm) (nI sc) f_verdictNow f_stateCount (za_b u) (za_b i) (nI e) f_primeTotal f_coversDone f_circuitDone f_metCount b_sig b_dir b_pre b_post bits q a_codeMet a_excitedSome a_excitedAll a_implicant a_cubeCodes a_primeCube a_primeTail a_pick a_picked a_coverPrimes a_coverLength a_coverCells a_coverCodes b_table a_metBits a_leastFailure := by
  intro d
  induction d with
  | zero =>
    intro h hh bits q e u i a_codeMet a_excitedSome a_excitedAll w
    have := zx_Q_le w.1
    have := w.2.1
    omega
  | succ d ih =>
    intro h hh bits q e u i a_codeMet a_excitedSome a_excitedAll w
    have hle := zx_Q_le w.1
    have hhe := w.2.1
    refine pk_le e h (fun z => ?_) (fun z => br_f (nI_ge (b := 1024) (by omega) (by omega)) ?_)
    · have : h = e := by omega
      subst this
      exact hp bits q h u i a_codeMet a_excitedSome a_excitedAll w
    · obtain ⟨st, hs, hq, hv⟩ := w.1.2.1 h z
      refine And.intro (vp_in_nI (by omega) (by omega)) (nm_r (e' := nI st) (by rw [nI_clamp (by omega)]; exact hq) (nm_r (nI_1 h) ?_))
      rw [za_d16 hs, za_m16 hs]
      exact zx_expand H (by omega) (by omega) w.1 (fun bits' q' e' E hx hE hE2 => ih (h + 1) (by omega) bits' q' e' _ _ _ _ _ (zx_W_s w z hs hq hx hE hE2))
theorem zx_walkNet {post : SX → Prop} (H : zn_N ns nt sg dr pr po b_sig b_dir b_pre b_post) (hm : sm < 64) (hc : sc < 16)
    (hp : ∀ (bits : Nat → Int64) (q : Nat → Int32) (e : Nat) (u i : Bool) (a_codeMet a_excitedSome a_excitedAll : Nat → Int32), zx_W sg dr pr po nt (16 * sm + sc) e e bits q u i a_codeMet a_excitedSome a_excitedAll → post (f_placeCount, (nI ns), (nI nt), (nI im), (nI sm), (nI sc), f_verdictNow, nI e, za_b u, za_b i, nI e, f_primeTotal, f_coversDone, f_circuitDone, f_metCount, b_sig, b_dir, b_pre, b_post, bits, q, a_codeMet, a_excitedSome, a_excitedAll, a_implicant, a_cubeCodes, a_primeCube, a_primeTail, a_pick, a_picked, a_coverPrimes, a_coverLength, a_coverCells, a_coverCodes, b_table, a_metBits, a_leastFailure)) :
    wpX_walkNet post (f_placeCount, (nI ns), (nI nt), (nI im), (nI sm), (nI sc), f_verdictNow, f_stateCount, f_unsafeMet, f_inconsistentMet, f_queueEnd, f_primeTotal, f_coversDone, f_circuitDone, f_metCount, b_sig, b_dir, b_pre, b_post, a_stateBits, a_queue, a_codeMet, a_excitedSome, a_excitedAll, a_implicant, a_cubeCodes, a_primeCube, a_primeTail, a_pick, a_picked, a_coverPrimes, a_coverLength, a_coverCells, a_coverCodes, b_table, a_metBits, a_leastFailure) := by
  have h0 : 16 * sm + sc < 1024 := by omega
  have key : ∀ d k, k + d = 16 → ∀ (a_stateBits : Nat → Int64) (a_codeMet a_excitedSome a_excitedAll : Nat → Int32), (∀ j, j < k → a_stateBits j = 0 ∧ a_codeMet j = za_b false ∧ a_excitedSome j = 0 ∧ a_excitedAll j = 15) → wX_walkNet_2 post f_placeCount (nI ns) (nI nt) (nI im) (nI sm) (nI sc) f_verdictNow f_stateCount f_unsafeMet f_inconsistentMet f_queueEnd f_primeTotal f_coversDone f_circuitDone f_metCount (d + 1) (nI k) b_sig b_dir b_pre b_post a_stateBits a_queue a_codeMet a_excitedSome a_excitedAll a_implicant a_cubeCodes a_primeCube a_primeTail a_pick a_picked a_coverPrimes a_coverLength a_coverCells a_coverCodes b_table a_metBits a_leastFailure := by
    intro d
    induction d with
    | zero =>
      intro k hk a_stateBits a_codeMet a_excitedSome a_excitedAll hz
      have : k = 16 := by omega
      subst this
      refine br_t (nI_le (Nat.le_refl _) (by omega)) ?_
      rw [za_16]
      have v0 : ∀ st, st < 1024 → za_v a_stateBits st = false := fun st hs => by
        unfold za_v
        rw [(hz (st / 64) (by omega)).1]
        exact BitVec.getLsbD_zero
      have q0 : zx_Q a_stateBits a_queue 0 := ⟨(za_c_0.mpr v0).symm, fun i hi => absurd hi (by omega), fun st hs hv => by rw [v0 st hs] at hv; exact absurd hv (by decide)⟩
      refine zx_reach (e := 0) h0 q0 (fun bits q e' a b c d => ⟨1026, ?_⟩)
      refine zx_wn76 H hp 1025 0 (by omega) bits q e' false false a_codeMet a_excitedSome a_excitedAll ?_
      refine ⟨a, Nat.zero_le _, by rw [b]; exact zn_ad_s _ _, fun Q q0 _ st hs hv => ?_, fun j st hj => absurd hj (by omega), ?_, ?_, zx_T_0 (fun st ⟨j, hj, _⟩ => absurd hj (by omega)) (fun c hc => (hz c hc).2.1) (fun c hc => (hz c hc).2.2.1) (fun c hc => (hz c hc).2.2.2)⟩
      · rw [b] at hv
        rcases zn_ad_e hv with z | z
        · rw [v0 st hs] at z; exact absurd z (by decide)
        · rw [z]; exact q0
      · exact ⟨fun z => absurd z (by decide), fun ⟨st, _, ⟨j, hj, _⟩, _⟩ => absurd hj (by omega)⟩
      · exact ⟨fun z => absurd z (by decide), fun ⟨st, _, ⟨j, hj, _⟩, _⟩ => absurd hj (by omega)⟩
    | succ d ih =>
      intro k hk a_stateBits a_codeMet a_excitedSome a_excitedAll hz
      have v : vp_in (nI k) 16 := vp_in_nI (by omega) (by omega)
      have ce : (nI k).toNatClampNeg = k := nI_clamp (by omega)
      refine br_f (nI_ge (b := 16) (by omega) (by omega)) (And.intro v (nm_r (e' := vp_updL a_stateBits k 0) (by rw [ce]) (And.intro v (nm_r (e' := upd a_codeMet k (za_b false)) (by rw [ce]; rfl) (And.intro v (nm_r (e' := upd a_excitedSome k 0) (by rw [ce]) (And.intro v (nm_r (e' := upd a_excitedAll k 15) (by rw [ce]) (nm_r (nI_1 k) (ih (k + 1) (by omega) _ _ _ _ (fun j hj => ?_)))))))))))
      by_cases e : j = k
      · rw [e, pk_uLs, pk_us, pk_us, pk_us]; exact ⟨rfl, rfl, rfl, rfl⟩
      · rw [pk_uLn e, pk_un e, pk_un e, pk_un e]; exact hz j (by omega)
  exact ⟨_, key 16 0 (by omega) a_stateBits a_codeMet a_excitedSome a_excitedAll (fun j hj => absurd hj (by omega))⟩
theorem zx_valueAfter {post : Int32 → Prop} {s c : Nat} (hT : zx_T sg dr pr po nt (fun st => R st = true) a_codeMet a_excitedSome a_excitedAll) (hs : s < 4) (hc : c < 16) (h : post (nI (zn_vl sg dr pr po nt R s c))) : wpX_valueAfter post (f_placeCount, (nI ns), (nI nt), (nI im), (nI sm), (nI sc), f_verdictNow, f_stateCount, f_unsafeMet, f_inconsistentMet, f_queueEnd, f_primeTotal, f_coversDone, f_circuitDone, f_metCount, b_sig, b_dir, b_pre, b_post, a_stateBits, a_queue, a_codeMet, a_excitedSome, a_excitedAll, a_implicant, a_cubeCodes, a_primeCube, a_primeTail, a_pick, a_picked, a_coverPrimes, a_coverLength, a_coverCells, a_coverCodes, b_table, a_metBits, a_leastFailure) (nI s) (nI c) := by
  obtain ⟨h1, ⟨S, S1, S2, S3⟩, ⟨A, A1, A2, A3⟩⟩ := zx_T_v hT c hc
  have v : vp_in (nI c) 16 := vp_in_nI hc (by omega)
  have ce : (nI c).toNatClampNeg = c := nI_clamp (by omega)
  unfold zn_vl zn_val at h
  refine And.intro v (za_brx (zn_A R c != 0) (by rw [ce]; exact h1) (fun z => ?_) (fun z => nm_r (za_rd (by omega) (by omega)) (And.intro v ?_)))
  · rw [if_pos (bne_eq_false_iff_eq.mp z)] at h; exact h
  rw [ce, A2, S2, za_rd (by omega) (by omega), za_rd (by omega) (by omega), A3 s hs, S3 s hs]
  rw [if_neg (bne_iff_ne.mp z)] at h
  refine za_br _ (fun y => And.intro v (za_br _ (fun w => ?_) (fun w => ?_))) (fun y => ?_)
  · rw [if_neg (beq_eq_false_iff_ne.mp y), if_pos (bne_eq_false_iff_eq.mp w)] at h
    rw [za_bn]; exact h
  · rw [if_neg (beq_eq_false_iff_ne.mp y), if_neg (bne_iff_ne.mp w)] at h; exact h
  · rw [if_pos (beq_iff_eq.mp y)] at h
    have e1 : (1 : Int32) = nI 1 := rfl
    rw [za_bn, e1, pk_sub (by cases c.testBit s <;> decide)]; exact h
theorem zx_v3 {s c : Nat} : zn_vl sg dr pr po nt R s c = 3 ↔ zn_A R c ≠ 0 ∧ zn_E sg dr pr po nt R s c ≠ zn_A R c ∧ zn_E sg dr pr po nt R s c ≠ 0 := by
  unfold zn_vl zn_val
  have : (c.testBit s).toNat ≤ 1 := by cases c.testBit s <;> decide
  split
  · exact ⟨fun z => absurd z (by omega), fun z => absurd (by assumption) z.1⟩
  · split
    · exact ⟨fun z => absurd z (by omega), fun z => absurd (by assumption) z.2.1⟩
    · split
      · exact ⟨fun z => absurd z (by omega), fun z => absurd (by assumption) z.2.2⟩
      · exact ⟨fun _ => ⟨by assumption, by assumption, by assumption⟩, fun _ => rfl⟩
theorem zx_firstConflict {post : Int32 → Prop} (H : zn_N ns nt sg dr pr po b_sig b_dir b_pre b_post) (hT : zx_T sg dr pr po nt (fun st => R st = true) a_codeMet a_excitedSome a_excitedAll) (hi : im < 16) (hip : ∀ s, s < ns → im.testBit s = ip s) (h : ∀ x, zn_Cf ns (fun s c => ip s = false ∧ zn_vl sg dr pr po nt R s c = 3) x → post x) : wpX_firstConflict post (f_placeCount, (nI ns), (nI nt), (nI im), (nI sm), (nI sc), f_verdictNow, f_stateCount, f_unsafeMet, f_inconsistentMet, f_queueEnd, f_primeTotal, f_coversDone, f_circuitDone, f_metCount, b_sig, b_dir, b_pre, b_post, a_stateBits, a_queue, a_codeMet, a_excitedSome, a_excitedAll, a_implicant, a_cubeCodes, a_primeCube, a_primeTail, a_pick, a_picked, a_coverPrimes, a_coverLength, a_coverCells, a_coverCodes, b_table, a_metBits, a_leastFailure) := by
  have h4 := H.1
  have hp := za_p4 h4.2
  have hpos : 0 < 2 ^ ns := Nat.pow_pos (by omega)
  have e0 : (nI im ^^^ (-1)) &&& (((1 : Int32) <<< (nI ns &&& 31)) - 1) = nI (za_nd (2 ^ ns - 1) im) := by
    have e1 : (1 : Int32) = nI 1 := rfl
    rw [za_1l _ (by omega), e1, pk_sub hpos, Int32.and_comm, ← e1, za_ndI]
  have hnd : za_nd (2 ^ ns - 1) im < 2 ^ 4 := za_ndlt (by omega)
  refine nm_r e0 ?_
  refine za_scan (fun n i => wX_firstConflict_18 post (nI (za_nd (2 ^ ns - 1) im)) f_placeCount (nI ns) (nI nt) (nI im) (nI sm) (nI sc) f_verdictNow f_stateCount f_unsafeMet f_inconsistentMet f_queueEnd f_primeTotal f_coversDone f_circuitDone f_metCount b_sig b_dir b_pre b_post a_stateBits a_queue a_codeMet a_excitedSome a_excitedAll a_implicant a_cubeCodes a_primeCube a_primeTail a_pick a_picked a_coverPrimes a_coverLength a_coverCells a_coverCodes b_table a_metBits a_leastFailure n (nI i)) ns (fun s => ∃ c, c < 2 ^ ns ∧ (ip s = false ∧ zn_vl sg dr pr po nt R s c = 3)) (fun ha n => br_t (nI_le (Nat.le_refl _) (by omega)) (h _ (Or.inl ⟨rfl, fun s c hs hc hh => ha s hs ⟨c, hc, hh⟩⟩))) ?_
  intro n s hs hb hcont
  refine br_f (nI_ge hs (by omega)) ?_
  refine za_brx (!ip s) (by
    rw [za_rd (by omega) (by omega), za_nd_tb, Nat.testBit_two_pow_sub_one, decide_eq_true hs, hip s hs]; rfl) (fun z => nm_r (nI_1 s) (hcont (fun ⟨c, _, y, _⟩ => by rw [y] at z; exact absurd z (by decide)))) (fun z => ?_)
  have hz : ip s = false := by
    cases e : ip s
    · rfl
    · rw [e] at z; exact absurd z (by decide)
  refine za_scan (fun k c => wX_firstConflict_39 post (wX_firstConflict_18 post (nI (za_nd (2 ^ ns - 1) im)) f_placeCount (nI ns) (nI nt) (nI im) (nI sm) (nI sc) f_verdictNow f_stateCount f_unsafeMet f_inconsistentMet f_queueEnd f_primeTotal f_coversDone f_circuitDone f_metCount b_sig b_dir b_pre b_post a_stateBits a_queue a_codeMet a_excitedSome a_excitedAll a_implicant a_cubeCodes a_primeCube a_primeTail a_pick a_picked a_coverPrimes a_coverLength a_coverCells a_coverCodes b_table a_metBits a_leastFailure n) (nI (za_nd (2 ^ ns - 1) im)) (nI s) f_placeCount (nI ns) (nI nt) (nI im) (nI sm) (nI sc) f_verdictNow f_stateCount f_unsafeMet f_inconsistentMet f_queueEnd f_primeTotal f_coversDone f_circuitDone f_metCount b_sig b_dir b_pre b_post a_stateBits a_queue a_codeMet a_excitedSome a_excitedAll a_implicant a_cubeCodes a_primeCube a_primeTail a_pick a_picked a_coverPrimes a_coverLength a_coverCells a_coverCodes b_table a_metBits a_leastFailure k (nI c)) (2 ^ ns) (fun c => ip s = false ∧ zn_vl sg dr pr po nt R s c = 3) (fun ha k => ?_) ?_
  · refine pk_le (2 ^ ns) (2 ^ ns) (fun _ => nm_r (nI_1 s) (hcont (fun ⟨c, hc, hh⟩ => ha c hc hh))) (fun z => absurd z (by omega)) (za_1l _ (by omega))
  · intro k c hc hb2 hc2
    obtain ⟨h1, ⟨S, S1, S2, S3⟩, ⟨A, A1, A2, A3⟩⟩ := zx_T_v hT c (by omega)
    have v : vp_in (nI c) 16 := vp_in_nI (by omega) (by omega)
    have ce : (nI c).toNatClampNeg = c := nI_clamp (by omega)
    refine pk_le (2 ^ ns) c (fun z => absurd z (by omega)) (fun _ => And.intro v (And.intro v (nm_r (e' := za_b ((zn_E sg dr pr po nt R s c != 0) && !(zn_E sg dr pr po nt R s c == zn_A R c))) ?_ (And.intro v ?_)))) (za_1l _ (by omega))
    · have hlt : za_nd S A < 2 ^ 4 := za_ndlt S1
      rw [ce, S2, A2, za_ndI, za_rd (by omega) (by omega), za_nd_tb, S3 s (by omega), A3 s (by omega)]
    · refine za_brx (zn_A R c != 0) (by rw [ce]; exact h1) (fun y => nm_r (nI_1 c) (hc2 (fun w => (zx_v3.mp w.2).1 (bne_eq_false_iff_eq.mp y)))) (fun y => ?_)
      refine za_br _ (fun w => nm_r (nI_1 c) (hc2 (fun v => ?_))) (fun w => ?_)
      · obtain ⟨a, b, d⟩ := zx_v3.mp v.2
        rw [bne_iff_ne.mpr d, beq_eq_false_iff_ne.mpr b] at w
        exact absurd w (by decide)
      · rw [Bool.and_eq_true, bne_iff_ne, Bool.not_eq_true', beq_eq_false_iff_ne] at w
        rw [za_16]
        exact h _ (Or.inr ⟨s, c, hs, hc, rfl, ⟨hz, zx_v3.mpr ⟨bne_iff_ne.mp y, w.2, w.1⟩⟩, fun s' c' a b hh => hb s' a ⟨c', b, hh⟩, hb2⟩)
end
end
section
/-! ===== the component: implicants, primes ===== -/
theorem zc_ip_or {n Z q a b : Nat} (h : zc_cd n q = zc_cd n a ||| zc_cd n b) : zc_ip n Z q = (zc_ip n Z a && zc_ip n Z b) := by
  apply za_beq
  rw [Bool.and_eq_true, zc_ip_t, zc_ip_t, zc_ip_t, h]
  constructor
  · intro k
    exact ⟨fun c hc => k c (by rw [Nat.testBit_or, hc]; rfl), fun c hc => k c (by rw [Nat.testBit_or, hc]; simp)⟩
  · rintro ⟨k1, k2⟩ c hc
    rw [Nat.testBit_or, Bool.or_eq_true] at hc
    rcases hc with z | z
    · exact k1 c z
    · exact k2 c z
theorem zc_ip_1 {n Z q c : Nat} (h : zc_cd n q = 2 ^ c) : zc_ip n Z q = !Z.testBit c := by
  apply za_beq
  rw [zc_ip_t, h, Bool.not_eq_true']
  constructor
  · intro k; exact k c Nat.testBit_two_pow_self
  · intro k j hj
    rw [Nat.testBit_two_pow, decide_eq_true_eq] at hj
    rw [← hj]; exact k
theorem zc_dg_lt (q s : Nat) : zc_dg q s < 3 := Nat.mod_lt _ (by omega)
theorem zc_fr_le (q : Nat) : ∀ s, zc_fr q s ≤ 3 ^ s
  | 0 => Nat.zero_le _
  | s + 1 => by
    have h := zc_fr_le q s
    have e : 3 ^ (s + 1) = 3 * 3 ^ s := by rw [Nat.pow_succ]; omega
    show (if zc_dg q s = 2 then 3 ^ s else zc_fr q s) ≤ 3 ^ (s + 1)
    split <;> omega
theorem zc_co_lt (q : Nat) : ∀ s, zc_co q s < 2 ^ s
  | 0 => by show 0 < 2 ^ 0; decide
  | s + 1 => by
    have h := zc_co_lt q s
    have e : 2 ^ s < 2 ^ (s + 1) := Nat.pow_lt_pow_right (by omega) (by omega)
    show (if zc_dg q s = 1 then zc_co q s ||| 2 ^ s else zc_co q s) < 2 ^ (s + 1)
    split
    · exact Nat.or_lt_two_pow (by omega) e
    · omega
theorem zc_3p {s n : Nat} (h : s ≤ n) (hn : n ≤ 4) : 3 ^ s ≤ 81 ∧ 0 < 3 ^ s := ⟨za_t4 (by omega), Nat.pow_pos (by omega)⟩
theorem zx_digit {q s n : Nat} (hq : q < 81) (h : s ≤ n) (hn : n ≤ 4) : nI q / nI (3 ^ s) - nI q / nI (3 ^ s) / 3 * 3 = nI (zc_dg q s) := by
  obtain ⟨a, b⟩ := zc_3p h hn
  have hd : q / 3 ^ s ≤ q := Nat.div_le_self _ _
  rw [pk_div (by omega) b (by omega)]
  exact pk_rem (a := q / 3 ^ s) (d := 3) (by omega) (by omega) (by omega)
theorem zx_x3 (s : Nat) : nI (3 ^ s) * 3 = nI (3 ^ (s + 1)) := by
  have e : (3 : Int32) = nI 3 := rfl
  rw [e, pk_mul, Nat.pow_succ]
section
variable {ns nt im sm sc : Nat} {sg : Nat → Nat} {dr : Nat → Bool} {pr po : Nat → Nat} {R : Nat → Bool} {ip : Nat → Bool} {vl : Nat → Nat}
variable {b_sig b_dir b_pre b_post b_table : Nat → Int32}
variable {f_placeCount f_signalCount f_transitionCount f_inputSignals f_startMarking f_startCode f_verdictNow f_stateCount f_unsafeMet f_inconsistentMet f_queueEnd f_primeTotal f_coversDone f_circuitDone f_metCount : Int32} {a_transitionSignal a_transitionDirection a_transitionPre a_transitionPost a_queue a_codeMet a_excitedSome a_excitedAll a_implicant a_cubeCodes a_primeCube a_primeTail a_pick a_picked a_coverPrimes a_coverLength a_coverCells a_coverCodes a_givenTable a_leastFailure : Nat → Int32} {a_stateBits a_metBits : Nat → Int64}
theorem zx_cubesInAll {post : Int32 → Prop} (hn : ns ≤ 4) (h : post (nI (3 ^ ns))) : wpX_cubesInAll post (f_placeCount, (nI ns), (nI nt), (nI im), (nI sm), (nI sc), f_verdictNow, f_stateCount, f_unsafeMet, f_inconsistentMet, f_queueEnd, f_primeTotal, f_coversDone, f_circuitDone, f_metCount, b_sig, b_dir, b_pre, b_post, a_stateBits, a_queue, a_codeMet, a_excitedSome, a_excitedAll, a_implicant, a_cubeCodes, a_primeCube, a_primeTail, a_pick, a_picked, a_coverPrimes, a_coverLength, a_coverCells, a_coverCodes, b_table, a_metBits, a_leastFailure) := by
  have key : ∀ d s, s + d = ns → wX_cubesInAll_4 post f_placeCount (nI ns) (nI nt) (nI im) (nI sm) (nI sc) f_verdictNow f_stateCount f_unsafeMet f_inconsistentMet f_queueEnd f_primeTotal f_coversDone f_circuitDone f_metCount b_sig b_dir b_pre b_post a_stateBits a_queue a_codeMet a_excitedSome a_excitedAll a_implicant a_cubeCodes a_primeCube a_primeTail a_pick a_picked a_coverPrimes a_coverLength a_coverCells a_coverCodes b_table a_metBits a_leastFailure (d + 1) (nI (3 ^ s)) (nI s) := by
    intro d
    induction d with
    | zero =>
      intro s hs
      have : s = ns := by omega
      subst this
      exact br_t (nI_le (Nat.le_refl _) (by omega)) h
    | succ d ih =>
      intro s hs
      exact br_f (nI_ge (by omega) (by omega)) (nm_r (zx_x3 s) (nm_r (nI_1 s) (ih (s + 1) (by omega))))
  exact ⟨_, key ns 0 (by omega)⟩
theorem zx_canGrow {post : Int32 → Prop} {q Z : Nat} (hn : ns ≤ 4) (hq : q < 3 ^ ns) (hI : ∀ p, p < 3 ^ ns → a_implicant p = za_b (zc_ip ns Z p)) (h : post (za_b (zc_gw ns Z q))) : wpX_canGrow post (f_placeCount, (nI ns), (nI nt), (nI im), (nI sm), (nI sc), f_verdictNow, f_stateCount, f_unsafeMet, f_inconsistentMet, f_queueEnd, f_primeTotal, f_coversDone, f_circuitDone, f_metCount, b_sig, b_dir, b_pre, b_post, a_stateBits, a_queue, a_codeMet, a_excitedSome, a_excitedAll, a_implicant, a_cubeCodes, a_primeCube, a_primeTail, a_pick, a_picked, a_coverPrimes, a_coverLength, a_coverCells, a_coverCodes, b_table, a_metBits, a_leastFailure) (nI q) := by
  have ht4 := za_t4 hn
  refine za_any (fun n i => wX_canGrow_4 post (nI q) f_placeCount (nI ns) (nI nt) (nI im) (nI sm) (nI sc) f_verdictNow f_stateCount f_unsafeMet f_inconsistentMet f_queueEnd f_primeTotal f_coversDone f_circuitDone f_metCount b_sig b_dir b_pre b_post a_stateBits a_queue a_codeMet a_excitedSome a_excitedAll a_implicant a_cubeCodes a_primeCube a_primeTail a_pick a_picked a_coverPrimes a_coverLength a_coverCells a_coverCodes b_table a_metBits a_leastFailure n (nI (3 ^ i)) (nI i)) ns _ post h (fun n h0 => br_t (nI_le (Nat.le_refl _) (by omega)) h0) ?_
  intro n s hs ht hf
  obtain ⟨p81, ppos⟩ := zc_3p (s := s) (n := ns) (by omega) hn
  have hd := zc_dg_lt q s
  refine br_f (nI_ge hs (by omega)) (And.intro (nI_ne0 ppos (by omega)) (And.intro za_3n (nm_r (zx_digit (n := ns) (by omega) (by omega) hn) ?_)))
  refine pk_eq (zc_dg q s) 2 (fun z => nm_r (zx_x3 s) (nm_r (nI_1 s) (hf (by rw [z]; rfl)))) (fun z => ?_)
  obtain ⟨_, u1, _⟩ := zc_F2 ns (by omega) q hq s hs z
  have e : nI q + (2 - nI (zc_dg q s)) * nI (3 ^ s) = nI (zc_up q s) := by
    have e2 : (2 : Int32) = nI 2 := rfl
    rw [e2, pk_sub (by omega), pk_mul, nI_add]; rfl
  rw [e, nI_clamp (by omega)]
  refine And.intro (vp_in_nI (by omega) (by omega)) (za_brx (zc_ip ns Z (zc_up q s)) (hI _ u1) (fun y => nm_r (zx_x3 s) (nm_r (nI_1 s) (hf (by rw [y]; simp)))) (fun y => ht (by rw [y, bne_iff_ne.mpr z]; rfl)))
/-- the tables of cubes below q -/
def zx_M (n Z q : Nat) (im cc : Nat → Int32) : Prop := ∀ p, p < q → cc p = nI (zc_cd n p) ∧ im p = za_b (zc_ip n Z p)
theorem zx_M_s {n Z q : Nat} {im cc : Nat → Int32} {x y : Int32} (h : zx_M n Z q im cc) (hx : x = za_b (zc_ip n Z q)) (hy : y = nI (zc_cd n q)) : zx_M n Z (q + 1) (upd im q x) (upd cc q y) := by
  intro p hp
  by_cases e : p = q
  · rw [e, pk_us, pk_us]; exact ⟨hy, hx⟩
  · rw [pk_un e, pk_un e]; exact h p (by omega)
theorem zx_mi24 {post : SX → Prop} {J : Int32 → (Nat → Int32) → (Nat → Int32) → (Nat → Int32) → (Nat → Int32) → (Nat → Int64) → (Nat → Int32) → (Nat → Int32) → (Nat → Int32) → (Nat → Int32) → (Nat → Int32) → (Nat → Int32) → (Nat → Int32) → (Nat → Int32) → (Nat → Int32) → (Nat → Int32) → (Nat → Int32) → (Nat → Int32) → (Nat → Int32) → (Nat → Int32) → (Nat → Int32) → (Nat → Int64) → (Nat → Int32) → Prop} {x2 : Int32} {q Z : Nat} (hn : ns ≤ 4) (hq : q < 3 ^ ns) (hZ : Z < 2 ^ 16) (hM : zx_M ns Z q a_implicant a_cubeCodes)
    (hJ : ∀ a_implicant a_cubeCodes : Nat → Int32, zx_M ns Z (q + 1) a_implicant a_cubeCodes → J (nI (q + 1)) b_sig b_dir b_pre b_post a_stateBits a_queue a_codeMet a_excitedSome a_excitedAll a_implicant a_cubeCodes a_primeCube a_primeTail a_pick a_picked a_coverPrimes a_coverLength a_coverCells a_coverCodes b_table a_metBits a_leastFailure) :
    ∀ d s, s + d = ns → wX_markImplicants_24 post J (nI Z) x2 (nI q) f_placeCount (nI ns) (nI nt) (nI im) (nI sm) (nI sc) f_verdictNow f_stateCount f_unsafeMet f_inconsistentMet f_queueEnd f_primeTotal f_coversDone f_circuitDone f_metCount b_sig b_dir b_pre b_post a_stateBits a_queue a_codeMet a_excitedSome a_excitedAll a_implicant a_cubeCodes a_primeCube a_primeTail a_pick a_picked a_coverPrimes a_coverLength a_coverCells a_coverCodes b_table a_metBits a_leastFailure (d + 1) (nI (3 ^ s)) (nI (zc_co q s)) (nI (zc_fr q s)) (nI s) := by
  have ht4 := za_t4 hn
  have h16 := za_p4 hn
  have v : vp_in (nI q) 81 := vp_in_nI (by omega) (by omega)
  have ce : (nI q).toNatClampNeg = q := nI_clamp (by omega)
  intro d
  induction d with
  | zero =>
    intro s hs
    have : s = ns := by omega
    subst this
    obtain ⟨f1, f2⟩ := zc_F1 s (by omega) q hq
    have hfr := zc_fr_le q s
    refine br_t (nI_le (Nat.le_refl _) (by omega)) ?_
    refine pk_eq (zc_fr q s) 0 (fun z => ?_) (fun z => ?_)
    · obtain ⟨g1, g2⟩ := f1 z
      have ei := zc_ip_1 (Z := Z) g1
      refine And.intro v (nm_r (e' := upd a_cubeCodes q (nI (zc_cd s q))) (by rw [ce, za_1l _ (by omega), g1]) ?_)
      refine za_brx (Z.testBit (zc_co q s)) (za_rd (by omega) (by omega)) (fun y => ?_) (fun y => ?_)
      · exact And.intro v (nm_r (e' := upd a_implicant q (za_b true)) (by rw [ce]; rfl) (nm_r (nI_1 q) (hJ _ _ (zx_M_s hM (by rw [ei, y]; rfl) rfl))))
      · exact And.intro v (nm_r (e' := upd a_implicant q (za_b false)) (by rw [ce]; rfl) (nm_r (nI_1 q) (hJ _ _ (zx_M_s hM (by rw [ei, y]; rfl) rfl))))
    · obtain ⟨g1, g2⟩ := f2 z
      have ei := zc_ip_or (Z := Z) g2
      have ea : nI q - nI (zc_fr q s) = nI (q - zc_fr q s) := pk_sub (by omega)
      have eb : nI q - 2 * nI (zc_fr q s) = nI (q - 2 * zc_fr q s) := by
        have e2 : (2 : Int32) = nI 2 := rfl
        rw [e2, pk_mul, pk_sub (by omega)]
      have va : vp_in (nI (q - zc_fr q s)) 81 := vp_in_nI (by omega) (by omega)
      have vb : vp_in (nI (q - 2 * zc_fr q s)) 81 := vp_in_nI (by omega) (by omega)
      have ca : (nI (q - zc_fr q s)).toNatClampNeg = q - zc_fr q s := nI_clamp (by omega)
      have cb : (nI (q - 2 * zc_fr q s)).toNatClampNeg = q - 2 * zc_fr q s := nI_clamp (by omega)
      obtain ⟨ma, na⟩ := hM (q - zc_fr q s) (by omega)
      obtain ⟨mb, nb⟩ := hM (q - 2 * zc_fr q s) (by omega)
      rw [ea, eb, ca, cb]
      refine And.intro va (And.intro vb (And.intro v (nm_r (e' := upd a_cubeCodes q (nI (zc_cd s q))) (by rw [ce, ma, mb, za_or, ← g2]) (And.intro va ?_))))
      refine za_brx _ na (fun y => ?_) (fun y => And.intro vb (za_brx _ nb (fun w => ?_) (fun w => ?_)))
      · exact And.intro v (nm_r (e' := upd a_implicant q (za_b false)) (by rw [ce]; rfl) (nm_r (nI_1 q) (hJ _ _ (zx_M_s hM (by rw [ei, y]; rfl) rfl))))
      · exact And.intro v (nm_r (e' := upd a_implicant q (za_b false)) (by rw [ce]; rfl) (nm_r (nI_1 q) (hJ _ _ (zx_M_s hM (by rw [ei, y, w]; rfl) rfl))))
      · exact And.intro v (nm_r (e' := upd a_implicant q (za_b true)) (by rw [ce]; rfl) (nm_r (nI_1 q) (hJ _ _ (zx_M_s hM (by rw [ei, y, w]; rfl) rfl))))
  | succ d ih =>
    intro s hs
    obtain ⟨p81, ppos⟩ := zc_3p (s := s) (n := ns) (by omega) hn
    have hd := zc_dg_lt q s
    have ih1 := ih (s + 1) (by omega)
    have e1 : zc_co q (s + 1) = if zc_dg q s = 1 then zc_co q s ||| 2 ^ s else zc_co q s := rfl
    have e2 : zc_fr q (s + 1) = if zc_dg q s = 2 then 3 ^ s else zc_fr q s := rfl
    rw [e1, e2] at ih1
    refine br_f (nI_ge (by omega) (by omega)) (And.intro (nI_ne0 ppos (by omega)) (And.intro za_3n (nm_r (zx_digit (n := ns) (by omega) (by omega) hn) ?_)))
    refine pk_eq (zc_dg q s) 2 (fun z => ?_) (fun z => ?_)
    · rw [if_neg (by omega), if_pos z] at ih1
      unfold wX_markImplicants_51
      exact pk_eq (zc_dg q s) 1 (fun y => absurd y (by omega)) (fun y => nm_r (zx_x3 s) (nm_r (nI_1 s) ih1))
    · rw [if_neg z] at ih1
      unfold wX_markImplicants_51
      refine pk_eq (zc_dg q s) 1 (fun y => ?_) (fun y => nm_r (zx_x3 s) (nm_r (nI_1 s) ?_))
      · rw [if_pos y] at ih1
        exact nm_r (e' := nI (zc_co q s ||| 2 ^ s)) (by rw [za_1l _ (by omega), za_or]) (nm_r (zx_x3 s) (nm_r (nI_1 s) ih1))
      · rw [if_neg y] at ih1; exact ih1
theorem zx_markImplicants {post : SX → Prop} {Z : Nat} (hn : ns ≤ 4) (hZ : Z < 2 ^ 16)
    (h : ∀ a_implicant a_cubeCodes : Nat → Int32, zx_M ns Z (3 ^ ns) a_implicant a_cubeCodes → post (f_placeCount, (nI ns), (nI nt), (nI im), (nI sm), (nI sc), f_verdictNow, f_stateCount, f_unsafeMet, f_inconsistentMet, f_queueEnd, f_primeTotal, f_coversDone, f_circuitDone, f_metCount, b_sig, b_dir, b_pre, b_post, a_stateBits, a_queue, a_codeMet, a_excitedSome, a_excitedAll, a_implicant, a_cubeCodes, a_primeCube, a_primeTail, a_pick, a_picked, a_coverPrimes, a_coverLength, a_coverCells, a_coverCodes, b_table, a_metBits, a_leastFailure)) : wpX_markImplicants post (f_placeCount, (nI ns), (nI nt), (nI im), (nI sm), (nI sc), f_verdictNow, f_stateCount, f_unsafeMet, f_inconsistentMet, f_queueEnd, f_primeTotal, f_coversDone, f_circuitDone, f_metCount, b_sig, b_dir, b_pre, b_post, a_stateBits, a_queue, a_codeMet, a_excitedSome, a_excitedAll, a_implicant, a_cubeCodes, a_primeCube, a_primeTail, a_pick, a_picked, a_coverPrimes, a_coverLength, a_coverCells, a_coverCodes, b_table, a_metBits, a_leastFailure) (nI Z) := by
  have ht4 := za_t4 hn
  refine zx_cubesInAll hn ?_
  have key : ∀ d q, q + d = 3 ^ ns → ∀ a_implicant a_cubeCodes : Nat → Int32, zx_M ns Z q a_implicant a_cubeCodes → wX_markImplicants_7 post (nI Z) (nI (3 ^ ns)) f_placeCount (nI ns) (nI nt) (nI im) (nI sm) (nI sc) f_verdictNow f_stateCount f_unsafeMet f_inconsistentMet f_queueEnd f_primeTotal f_coversDone f_circuitDone f_metCount (d + 1) (nI q) b_sig b_dir b_pre b_post a_stateBits a_queue a_codeMet a_excitedSome a_excitedAll a_implicant a_cubeCodes a_primeCube a_primeTail a_pick a_picked a_coverPrimes a_coverLength a_coverCells a_coverCodes b_table a_metBits a_leastFailure := by
    intro d
    induction d with
    | zero =>
      intro q hq a_implicant a_cubeCodes hM
      have : q = 3 ^ ns := by omega
      subst this
      exact br_t (nI_le (Nat.le_refl _) (by omega)) (h _ _ hM)
    | succ d ih =>
      intro q hq a_implicant a_cubeCodes hM
      exact br_f (nI_ge (by omega) (by omega)) ⟨_, zx_mi24 hn (by omega) hZ hM (fun a_implicant a_cubeCodes hM => ih (q + 1) (by omega) a_implicant a_cubeCodes hM) ns 0 (by omega)⟩
  exact ⟨_, key (3 ^ ns) 0 (by omega) a_implicant a_cubeCodes (fun p hp => absurd hp (by omega))⟩
/-- what listPrimes leaves -/
def zx_L (n : Nat) (vl : Nat → Nat) (cc pc pt : Nat → Int32) : Prop :=
  (∀ p, p < 3 ^ n → cc p = nI (zc_cd n p)) ∧ (∀ k, k < zc_P n vl → pc k = nI ((zc_PL n vl).getD k 0)) ∧ ∀ k, k ≤ zc_P n vl → pt k = nI (zf_ta (zc_P n vl) (zc_C n vl) (zc_P n vl - k))
theorem zx_lp94 {post : SX → Prop} (hn : ns ≤ 4) (hcc : ∀ p, p < 3 ^ ns → a_cubeCodes p = nI (zc_cd ns p)) (hpc : ∀ k, k < zc_P ns vl → a_primeCube k = nI ((zc_PL ns vl).getD k 0))
    (h : ∀ a_primeTail : Nat → Int32, zx_L ns vl a_cubeCodes a_primeCube a_primeTail → post (f_placeCount, (nI ns), (nI nt), (nI im), (nI sm), (nI sc), f_verdictNow, f_stateCount, f_unsafeMet, f_inconsistentMet, f_queueEnd, f_primeTotal, f_coversDone, f_circuitDone, f_metCount, b_sig, b_dir, b_pre, b_post, a_stateBits, a_queue, a_codeMet, a_excitedSome, a_excitedAll, a_implicant, a_cubeCodes, a_primeCube, a_primeTail, a_pick, a_picked, a_coverPrimes, a_coverLength, a_coverCells, a_coverCodes, b_table, a_metBits, a_leastFailure)) :
    ∀ k, k ≤ zc_P ns vl → ∀ a_primeTail : Nat → Int32, (∀ j, k ≤ j → j ≤ zc_P ns vl → a_primeTail j = nI (zf_ta (zc_P ns vl) (zc_C ns vl) (zc_P ns vl - j))) → wX_listPrimes_94 post f_placeCount (nI ns) (nI nt) (nI im) (nI sm) (nI sc) f_verdictNow f_stateCount f_unsafeMet f_inconsistentMet f_queueEnd f_primeTotal f_coversDone f_circuitDone f_metCount (k + 1) (nI k + (-1)) b_sig b_dir b_pre b_post a_stateBits a_queue a_codeMet a_excitedSome a_excitedAll a_implicant a_cubeCodes a_primeCube a_primeTail a_pick a_picked a_coverPrimes a_coverLength a_coverCells a_coverCodes b_table a_metBits a_leastFailure := by
  have hP := zc_P16 hn vl
  have ht4 := za_t4 hn
  intro k
  induction k with
  | zero =>
    intro _ a_primeTail ht
    exact br_t (by decide) (h _ ⟨hcc, hpc, fun j hj => ht j (by omega) hj⟩)
  | succ k ih =>
    intro hk a_primeTail ht
    rw [pk_m1]
    have hlt := zc_PL_lt (n := ns) (vl := vl) (k := k) (by omega)
    have ck : (nI k).toNatClampNeg = k := nI_clamp (by omega)
    have ep := hpc k (by omega)
    have e : zf_ta (zc_P ns vl) (zc_C ns vl) (zc_P ns vl - k) = zf_ta (zc_P ns vl) (zc_C ns vl) (zc_P ns vl - (k + 1)) ||| zc_C ns vl k := by
      have e1 : zc_P ns vl - k = (zc_P ns vl - (k + 1)) + 1 := by omega
      rw [e1]
      show zf_ta (zc_P ns vl) (zc_C ns vl) (zc_P ns vl - (k + 1)) ||| zc_C ns vl (zc_P ns vl - 1 - (zc_P ns vl - (k + 1))) = _
      rw [show zc_P ns vl - 1 - (zc_P ns vl - (k + 1)) = k by omega]
    refine br_f (nI_pos (by omega)) ?_
    rw [nI_1, ck, ep, nI_clamp (n := k + 1) (by omega), nI_clamp (n := (zc_PL ns vl).getD k 0) (by omega)]
    refine And.intro (vp_in_nI (by omega) (by omega)) (And.intro (vp_in_nI (by omega) (by omega)) (And.intro (vp_in_nI (by omega) (by omega)) (And.intro (vp_in_nI (by omega) (by omega)) (nm_r (e' := upd a_primeTail k (nI (zf_ta (zc_P ns vl) (zc_C ns vl) (zc_P ns vl - k)))) (by rw [ht (k + 1) (by omega) hk, hcc _ hlt, za_or, e]; rfl) (nm_e (ih (by omega) _ (fun j hj hj2 => ?_)))))))
    by_cases e2 : j = k
    · rw [e2, pk_us]
    · rw [pk_un e2]; exact ht j (by omega) hj2
theorem zx_listPrimes {post : SX → Prop} (hn : ns ≤ 4) (hM : zx_M ns (zc_Z ns vl) (3 ^ ns) a_implicant a_cubeCodes)
    (h : ∀ a_primeCube a_primeTail : Nat → Int32, zx_L ns vl a_cubeCodes a_primeCube a_primeTail → post (f_placeCount, (nI ns), (nI nt), (nI im), (nI sm), (nI sc), f_verdictNow, f_stateCount, f_unsafeMet, f_inconsistentMet, f_queueEnd, nI (zc_P ns vl), f_coversDone, f_circuitDone, f_metCount, b_sig, b_dir, b_pre, b_post, a_stateBits, a_queue, a_codeMet, a_excitedSome, a_excitedAll, a_implicant, a_cubeCodes, a_primeCube, a_primeTail, a_pick, a_picked, a_coverPrimes, a_coverLength, a_coverCells, a_coverCodes, b_table, a_metBits, a_leastFailure)) : wpX_listPrimes post (f_placeCount, (nI ns), (nI nt), (nI im), (nI sm), (nI sc), f_verdictNow, f_stateCount, f_unsafeMet, f_inconsistentMet, f_queueEnd, f_primeTotal, f_coversDone, f_circuitDone, f_metCount, b_sig, b_dir, b_pre, b_post, a_stateBits, a_queue, a_codeMet, a_excitedSome, a_excitedAll, a_implicant, a_cubeCodes, a_primeCube, a_primeTail, a_pick, a_picked, a_coverPrimes, a_coverLength, a_coverCells, a_coverCodes, b_table, a_metBits, a_leastFailure) (nI (zc_O ns vl)) := by
  have ht4 := za_t4 hn
  have hO : zc_O ns vl < 2 ^ 16 := zc_16b hn (za_mk_lt _ _)
  refine zx_cubesInAll hn ?_
  have key : ∀ d q, q + d = 3 ^ ns → ∀ a_primeCube : Nat → Int32, (∀ k, k < (zc_L ns (zc_Z ns vl) (zc_O ns vl) q).length → a_primeCube k = nI ((zc_L ns (zc_Z ns vl) (zc_O ns vl) q).getD k 0)) → wX_listPrimes_12 post (nI (zc_O ns vl)) (nI (3 ^ ns)) f_placeCount (nI ns) (nI nt) (nI im) (nI sm) (nI sc) f_verdictNow f_stateCount f_unsafeMet f_inconsistentMet f_queueEnd f_coversDone f_circuitDone f_metCount (d + 1) (nI q) (nI (zc_L ns (zc_Z ns vl) (zc_O ns vl) q).length) b_sig b_dir b_pre b_post a_stateBits a_queue a_codeMet a_excitedSome a_excitedAll a_implicant a_cubeCodes a_primeCube a_primeTail a_pick a_picked a_coverPrimes a_coverLength a_coverCells a_coverCodes b_table a_metBits a_leastFailure := by
    intro d
    induction d with
    | zero =>
      intro q hq a_primeCube hp
      have : q = 3 ^ ns := by omega
      subst this
      have hP := zc_P16 hn vl
      have e1 : (1 : Int32) = nI 1 := rfl
      refine br_t (nI_le (Nat.le_refl _) (by omega)) ?_
      show vp_in (nI (zc_P ns vl)) 82 ∧ _
      refine And.intro (vp_in_nI (by omega) (by omega)) (nm_r (e' := upd a_primeTail (zc_P ns vl) 0) (by show upd a_primeTail (nI (zc_P ns vl)).toNatClampNeg 0 = _; rw [nI_clamp (by omega)]) (nm_r (e' := nI (zc_P ns vl) + (-1)) ?_ ⟨_, zx_lp94 hn (fun p hp => (hM p hp).1) hp (fun a_primeTail hL => h a_primeCube a_primeTail hL) (zc_P ns vl) (Nat.le_refl _) _ (fun j hj hj2 => ?_)⟩))
      · exact Int32.sub_eq_add_neg _ _
      · have : j = zc_P ns vl := by omega
        rw [this, pk_us, Nat.sub_self]; rfl
    | succ d ih =>
      intro q hq a_primeCube hp
      have ce : (nI q).toNatClampNeg = q := nI_clamp (by omega)
      have v : vp_in (nI q) 81 := vp_in_nI (by omega) (by omega)
      have hlen := zc_L_le ns (zc_Z ns vl) (zc_O ns vl) q
      have hcd : zc_cd ns q &&& zc_O ns vl < 2 ^ 16 := Nat.and_lt_two_pow _ hO
      obtain ⟨m1, m2⟩ := hM q (by omega)
      have ih1 := ih (q + 1) (by omega)
      rw [zc_L_s] at ih1
      have skip : ¬ zc_pr ns (zc_Z ns vl) (zc_O ns vl) q = true → wX_listPrimes_12 post (nI (zc_O ns vl)) (nI (3 ^ ns)) f_placeCount (nI ns) (nI nt) (nI im) (nI sm) (nI sc) f_verdictNow f_stateCount f_unsafeMet f_inconsistentMet f_queueEnd f_coversDone f_circuitDone f_metCount (d + 1) (nI (q + 1)) (nI (zc_L ns (zc_Z ns vl) (zc_O ns vl) q).length) b_sig b_dir b_pre b_post a_stateBits a_queue a_codeMet a_excitedSome a_excitedAll a_implicant a_cubeCodes a_primeCube a_primeTail a_pick a_picked a_coverPrimes a_coverLength a_coverCells a_coverCodes b_table a_metBits a_leastFailure := by
        intro z
        rw [if_neg z] at ih1
        exact ih1 a_primeCube hp
      refine br_f (nI_ge (by omega) (by omega)) (And.intro v ?_)
      rw [ce]
      refine za_brx _ m2 (fun z => nm_r (nI_1 q) (skip (fun y => ?_))) (fun z => And.intro v ?_)
      · unfold zc_pr at y; rw [z] at y; exact absurd y (by simp)
      rw [m1, nx_and]
      refine pk_eq (zc_cd ns q &&& zc_O ns vl) 0 (fun w => nm_r (nI_1 q) (skip (fun y => ?_))) (fun w => ?_)
      · unfold zc_pr at y; rw [w] at y; exact absurd y (by simp)
      refine zx_canGrow hn (by omega) (fun p hp => (hM p hp).2) (za_br _ (fun x => ?_) (fun x => nm_r (nI_1 q) (skip (fun y => ?_))))
      · have hpr : zc_pr ns (zc_Z ns vl) (zc_O ns vl) q = true := by
          unfold zc_pr; rw [z, x, bne_iff_ne.mpr w]; rfl
        rw [if_pos hpr, List.length_append, List.length_singleton] at ih1
        refine And.intro (vp_in_nI (by omega) (by omega)) (nm_r (e' := upd a_primeCube (zc_L ns (zc_Z ns vl) (zc_O ns vl) q).length (nI q)) (by rw [nI_clamp (by omega)]) (nm_r (nI_1 _) (nm_r (nI_1 q) (ih1 _ (fun k hk => ?_)))))
        by_cases e : k = (zc_L ns (zc_Z ns vl) (zc_O ns vl) q).length
        · rw [e, pk_us, List.getD_eq_getElem?_getD, List.getElem?_append_right (Nat.le_refl _), Nat.sub_self]; rfl
        · rw [pk_un e, List.getD_eq_getElem?_getD, List.getElem?_append_left (by omega), ← List.getD_eq_getElem?_getD]
          exact hp k (by omega)
      · unfold zc_pr at y; rw [x] at y; exact absurd y (by simp)
  exact ⟨_, key (3 ^ ns) 0 (by omega) a_primeCube (fun k hk => absurd hk (by show ¬ k < 0; omega))⟩
end
end
section
/-! ===== the component: the search for a cover ===== -/
def zx_S : Nat → Nat
  | 0 => 1
  | r + 1 => 2 * zx_S r + 1
theorem zx_S16 : ∀ r, r < 17 → zx_S r ≤ 131071 := by decide +kernel
theorem zx_S1 : ∀ r, 1 ≤ zx_S r
  | 0 => Nat.le_refl _
  | r + 1 => by show 1 ≤ 2 * zx_S r + 1; omega
theorem zx_p1 (n : Nat) : nI n + (-1) + 1 = nI n := by
  rw [Int32.add_assoc]
  show nI n + 0 = nI n
  exact Int32.add_zero _
def zf_ol (C : Nat → Nat) : List Nat → Nat
  | [] => 0
  | p :: l => C p ||| zf_ol C l
theorem zf_ol_ls (P : Nat) (C : Nat → Nat) (M : Nat) : ∀ r, zf_ol C (zf_ls P M r) = zf_un P C M r
  | 0 => rfl
  | r + 1 => by
    have ih := zf_ol_ls P C M r
    show zf_ol C (if M.testBit r = true then (P - 1 - r) :: zf_ls P M r else zf_ls P M r) = (if M.testBit r = true then zf_un P C M r ||| C (P - 1 - r) else zf_un P C M r)
    split
    · show C (P - 1 - r) ||| zf_ol C (zf_ls P M r) = _
      rw [ih, Nat.or_comm]
    · exact ih
theorem zf_ls_lt {P M : Nat} : ∀ {r i : Nat}, r ≤ P → i < (zf_ls P M r).length → (zf_ls P M r).getD i 0 < P
  | 0, i, _, h => absurd h (by show ¬ i < 0; omega)
  | r + 1, i, hr, h => by
    have e1 : zf_ls P M (r + 1) = if M.testBit r = true then (P - 1 - r) :: zf_ls P M r else zf_ls P M r := rfl
    rw [e1] at h ⊢
    split
    · rename_i z
      rw [if_pos z] at h
      cases i with
      | zero => show P - 1 - r < P; omega
      | succ i =>
        have h' : i + 1 < (zf_ls P M r).length + 1 := h
        exact zf_ls_lt (r := r) (i := i) (by omega) (by omega)
    · rename_i z
      rw [if_neg z] at h
      exact zf_ls_lt (by omega) h
section
variable {ns nt im sm sc : Nat} {sg : Nat → Nat} {dr : Nat → Bool} {pr po : Nat → Nat} {R : Nat → Bool} {ip : Nat → Bool} {vl : Nat → Nat}
variable {b_sig b_dir b_pre b_post b_table : Nat → Int32}
variable {f_placeCount f_signalCount f_transitionCount f_inputSignals f_startMarking f_startCode f_verdictNow f_stateCount f_unsafeMet f_inconsistentMet f_queueEnd f_primeTotal f_coversDone f_circuitDone f_metCount : Int32} {a_transitionSignal a_transitionDirection a_transitionPre a_transitionPost a_queue a_codeMet a_excitedSome a_excitedAll a_implicant a_cubeCodes a_primeCube a_primeTail a_pick a_picked a_coverPrimes a_coverLength a_coverCells a_coverCodes a_givenTable a_leastFailure : Nat → Int32} {a_stateBits a_metBits : Nat → Int64}
theorem zx_cos {post : Int32 → SX → Prop} {P O sz : Nat} {C : Nat → Nat} (hP : P ≤ 16) (hO : O < 2 ^ 16) (hsz : sz ≤ 16) (hC : ∀ i, C i < 2 ^ 16)
    (hpc : ∀ p, p < P → ∃ q, q < 81 ∧ a_primeCube p = nI q ∧ a_cubeCodes q = nI (C p)) (hpt : ∀ k, k ≤ P → a_primeTail k = nI (zf_ta P C (P - k))) :
    ∀ r d U n st, r ≤ P → d ≤ sz → U < 2 ^ 16 → n + st = 200000 → st + zx_S r < 200000 → ∀ a_pick a_picked : Nat → Int32, a_pick d = nI (P - r) + (-1) → a_picked d = nI U → zf_Nl P C O r (sz - d) U →
    (zf_No P C O r (sz - d) U → ∀ (a_pick' a_picked' : Nat → Int32) (n' st' : Nat), n' + st' = 200000 → st' ≤ st + zx_S r → (∀ j, j < d → a_pick' j = a_pick j) → (∀ j, j ≤ d → a_picked' j = a_picked j) → wX_coverOfSize_19 post (nI sz) (nI O) f_placeCount (nI ns) (nI nt) (nI im) (nI sm) (nI sc) f_verdictNow f_stateCount f_unsafeMet f_inconsistentMet f_queueEnd (nI P) f_coversDone f_circuitDone f_metCount n' (nI d + (-1)) (nI st') b_sig b_dir b_pre b_post a_stateBits a_queue a_codeMet a_excitedSome a_excitedAll a_implicant a_cubeCodes a_primeCube a_primeTail a_pick' a_picked' a_coverPrimes a_coverLength a_coverCells a_coverCodes b_table a_metBits a_leastFailure) →
    (∀ M, zf_Fd P C O r (sz - d) U M → ∀ a_pick' a_picked' : Nat → Int32, (∀ j, j < d → a_pick' j = a_pick j) → (∀ i, i < sz - d → a_pick' (d + i) = nI ((zf_ls P M r).getD i 0)) → post 1 (f_placeCount, (nI ns), (nI nt), (nI im), (nI sm), (nI sc), f_verdictNow, f_stateCount, f_unsafeMet, f_inconsistentMet, f_queueEnd, nI P, f_coversDone, f_circuitDone, f_metCount, b_sig, b_dir, b_pre, b_post, a_stateBits, a_queue, a_codeMet, a_excitedSome, a_excitedAll, a_implicant, a_cubeCodes, a_primeCube, a_primeTail, a_pick', a_picked', a_coverPrimes, a_coverLength, a_coverCells, a_coverCodes, b_table, a_metBits, a_leastFailure)) →
    wX_coverOfSize_19 post (nI sz) (nI O) f_placeCount (nI ns) (nI nt) (nI im) (nI sm) (nI sc) f_verdictNow f_stateCount f_unsafeMet f_inconsistentMet f_queueEnd (nI P) f_coversDone f_circuitDone f_metCount n (nI d) (nI st) b_sig b_dir b_pre b_post a_stateBits a_queue a_codeMet a_excitedSome a_excitedAll a_implicant a_cubeCodes a_primeCube a_primeTail a_pick a_picked a_coverPrimes a_coverLength a_coverCells a_coverCodes b_table a_metBits a_leastFailure := by
  intro r
  induction r with
  | zero =>
    intro d U n st hr hd hU hn hst a_pick a_picked hp hk hNl hno hyes
    have hst' : st + 1 < 200000 := hst
    obtain ⟨n, rfl⟩ : ∃ k, n = k + 1 := ⟨n - 1, by omega⟩
    have v : vp_in (nI d) 18 := vp_in_nI (by omega) (by omega)
    have ce : (nI d).toNatClampNeg = d := nI_clamp (by omega)
    have hnd : za_nd O U < 2 ^ 16 := za_ndlt hO
    refine br_f (nI_ge (b := 200000) (by omega) (by omega)) (br_f (nI_pos (by omega)) ?_)
    rw [ce]
    refine pk_eq d sz (fun z => And.intro v ?_) (fun z => And.intro v (nm_r (e' := nI P) (by rw [hp, zx_p1]; rfl) (And.intro v (nm_e ?_))))
    · rw [hk, za_ndI]
      refine pk_eq (za_nd O U) 0 (fun y => ?_) (fun y => nm_e (nm_r (nI_1 st) (hno (by rw [show sz - d = 0 by omega]; exact zf_No_0 y) a_pick a_picked n (st + 1) (by omega) (by show st + 1 ≤ st + 1; omega) (fun _ _ => rfl) (fun _ _ => rfl))))
      exact hyes 0 (by rw [show sz - d = 0 by omega]; exact zf_Fd_0 y) a_pick a_picked (fun _ _ => rfl) (fun i hi => absurd hi (by omega))
    · refine br_t (nI_le (Nat.le_refl _) (by omega)) (nm_e (nm_r (nI_1 st) (hno ?_ _ a_picked n (st + 1) (by omega) (by show st + 1 ≤ st + 1; omega) (fun j hj => pk_un (by omega)) (fun _ _ => rfl))))
      obtain ⟨k, hk2⟩ : ∃ k, sz - d = k + 1 := ⟨sz - d - 1, by omega⟩
      rw [hk2]; exact zf_No_r
  | succ r ih =>
    intro d U n st hr hd hU hn hst a_pick a_picked hp hk hNl hno hyes
    have hS : zx_S (r + 1) = 2 * zx_S r + 1 := rfl
    have hS1 := zx_S1 r
    rw [hS] at hst
    obtain ⟨n, rfl⟩ : ∃ k, n = k + 1 := ⟨n - 1, by omega⟩
    have v : vp_in (nI d) 18 := vp_in_nI (by omega) (by omega)
    have ce : (nI d).toNatClampNeg = d := nI_clamp (by omega)
    have hnd : za_nd O U < 2 ^ 16 := za_ndlt hO
    refine br_f (nI_ge (b := 200000) (by omega) (by omega)) (br_f (nI_pos (by omega)) ?_)
    rw [ce]
    refine pk_eq d sz (fun z => And.intro v ?_) (fun z => And.intro v (nm_r (e' := nI (P - (r + 1))) (by rw [hp, zx_p1]) (And.intro v (nm_e ?_))))
    · rw [hk, za_ndI]
      refine pk_eq (za_nd O U) 0 (fun y => ?_) (fun y => nm_e (nm_r (nI_1 st) (hno (by rw [show sz - d = 0 by omega]; exact zf_No_0 y) a_pick a_picked n (st + 1) (by omega) (by omega) (fun _ _ => rfl) (fun _ _ => rfl))))
      exact hyes 0 (by rw [show sz - d = 0 by omega]; exact zf_Fd_0 y) a_pick a_picked (fun _ _ => rfl) (fun i hi => absurd hi (by omega))
    · obtain ⟨k, hk2⟩ : ∃ k, sz - d = k + 1 := ⟨sz - d - 1, by omega⟩
      have hk3 : sz - (d + 1) = k := by omega
      rw [hk2] at hNl hno hyes
      have hp1 : P - (r + 1) = P - 1 - r := by omega
      obtain ⟨q, hq81, hq1, hq2⟩ := hpc (P - (r + 1)) (by omega)
      have ht := hpt (P - (r + 1)) (by omega)
      rw [show P - (P - (r + 1)) = r + 1 by omega] at ht
      have cp : (nI (P - (r + 1))).toNatClampNeg = P - (r + 1) := nI_clamp (by omega)
      have cq : (nI q).toNatClampNeg = q := nI_clamp (by omega)
      have ptr : upd a_pick d (nI (P - (r + 1))) d = nI (P - r) + (-1) := by
        rw [pk_us, show P - r = P - (r + 1) + 1 by omega, pk_m1]
      have hta : zf_ta P C (r + 1) < 2 ^ 16 := zf_ta_lt hC _
      have hnt : za_nd O (U ||| zf_ta P C (r + 1)) < 2 ^ 16 := za_ndlt hO
      have hnu : za_nd (C (P - (r + 1)) &&& O) U < 2 ^ 16 := za_ndlt (Nat.and_lt_two_pow _ hO)
      refine br_f (nI_ge (by omega) (by omega)) (And.intro v (And.intro (vp_in_nI (by omega) (by omega)) ?_))
      rw [cp, ht, hk, za_or, za_ndI]
      refine pk_eq (za_nd O (U ||| zf_ta P C (r + 1))) 0 (fun y => ?_) (fun y => nm_e (nm_r (nI_1 st) (hno (zf_No_ta y) _ a_picked n (st + 1) (by omega) (by omega) (fun j hj => pk_un (by omega)) (fun _ _ => rfl))))
      refine And.intro (vp_in_nI (by omega) (by omega)) ?_
      rw [hq1]
      refine And.intro (vp_in_nI (by omega) (by omega)) (nm_r (e' := nI (C (P - (r + 1)))) (by rw [cq]; exact hq2) (And.intro v ?_))
      rw [nx_and, za_ndI]
      refine pk_eq (za_nd (C (P - (r + 1)) &&& O) U) 0 (fun w => nm_r (nI_1 st) ?_) (fun w => And.intro v ?_)
      · have w' : za_nd (C (P - 1 - r) &&& O) U = 0 := by rw [← hp1]; exact w
        have nos := zf_No_us hNl w'
        refine ih d U n (st + 1) (by omega) hd hU (by omega) (by omega) (upd a_pick d (nI (P - (r + 1)))) a_picked ptr hk (by rw [hk2]; exact zf_Nl_lo hNl) (fun hN a_pick' a_picked' n' st' e1 e2 e3 e4 => ?_) (fun M hM a_pick' a_picked' e3 e4 => ?_)
        · rw [hk2] at hN
          exact hno (zf_No_s nos hN) a_pick' a_picked' n' st' e1 (by omega) (fun j hj => by rw [e3 j hj]; exact pk_un (by omega)) e4
        · rw [hk2] at hM e4
          exact hyes M (zf_Fd_lo nos hM) a_pick' a_picked' (fun j hj => by rw [e3 j hj]; exact pk_un (by omega)) (fun i hi => by rw [zf_ls_lo hM.1]; exact e4 i hi)
      · rw [nI_1]
        have cd1 : (nI (d + 1)).toNatClampNeg = d + 1 := nI_clamp (by omega)
        have v1 : vp_in (nI (d + 1)) 18 := vp_in_nI (by omega) (by omega)
        rw [cd1]
        refine And.intro v1 (nm_r (e' := upd a_picked (d + 1) (nI (U ||| C (P - 1 - r)))) (by rw [za_or, hp1]) (And.intro v1 (nm_e (nm_e (nm_r (nI_1 st) ?_)))))
        refine ih (d + 1) (U ||| C (P - 1 - r)) n (st + 1) (by omega) (by omega) (Nat.or_lt_two_pow hU (hC _)) (by omega) (by omega) _ _ (by rw [pk_us, show P - r = P - (r + 1) + 1 by omega, pk_m1]) pk_us (by rw [hk3]; exact zf_Nl_hi hNl) (fun hN a_pick' a_picked' n' st' e1 e2 e3 e4 => ?_) (fun M hM a_pick' a_picked' e3 e4 => ?_)
        · rw [hk3] at hN
          rw [pk_m1]
          have k1 : a_pick' d = nI (P - (r + 1)) := by rw [e3 d (by omega), pk_un (by omega), pk_us]
          have k2 : ∀ j, j < d → a_pick' j = a_pick j := fun j hj => by rw [e3 j (by omega), pk_un (by omega), pk_un (by omega)]
          have k3 : ∀ j, j ≤ d → a_picked' j = a_picked j := fun j hj => by rw [e4 j (by omega), pk_un (by omega)]
          refine ih d U n' st' (by omega) hd hU (by omega) (by omega) a_pick' a_picked' (by rw [k1, show P - r = P - (r + 1) + 1 by omega, pk_m1]) (by rw [k3 d (Nat.le_refl _)]; exact hk) (by rw [hk2]; exact zf_Nl_lo hNl) (fun hN2 a_pick'' a_picked'' n'' st'' f1 f2 f3 f4 => ?_) (fun M hM a_pick'' a_picked'' f3 f4 => ?_)
          · rw [hk2] at hN2
            exact hno (zf_No_s hN hN2) a_pick'' a_picked'' n'' st'' f1 (by omega) (fun j hj => by rw [f3 j hj]; exact k2 j hj) (fun j hj => by rw [f4 j hj]; exact k3 j hj)
          · rw [hk2] at hM f4
            exact hyes M (zf_Fd_lo hN hM) a_pick'' a_picked'' (fun j hj => by rw [f3 j hj]; exact k2 j hj) (fun i hi => by rw [zf_ls_lo hM.1]; exact f4 i hi)
        · rw [hk3] at hM e4
          refine hyes (2 ^ r + M) (zf_Fd_hi hM) a_pick' a_picked' (fun j hj => by rw [e3 j (by omega), pk_un (by omega), pk_un (by omega)]) (fun i hi => ?_)
          rw [zf_ls_hi hM.1]
          cases i with
          | zero =>
            show a_pick' (d + 0) = nI (P - 1 - r)
            rw [Nat.add_zero, e3 d (by omega), pk_un (by omega), pk_us, hp1]
          | succ i =>
            have := e4 i (by omega)
            rw [show d + (i + 1) = d + 1 + i by omega]
            exact this
theorem zx_coverOfSize {post : Int32 → SX → Prop} {sz : Nat} (hn : ns ≤ 4) (hsz : sz ≤ 16) (hL : zx_L ns vl a_cubeCodes a_primeCube a_primeTail) (hlow : ∀ j, j < sz → zf_No (zc_P ns vl) (zc_C ns vl) (zc_O ns vl) (zc_P ns vl) j 0)
    (hno : zf_No (zc_P ns vl) (zc_C ns vl) (zc_O ns vl) (zc_P ns vl) sz 0 → ∀ a_pick a_picked : Nat → Int32, post 0 (f_placeCount, (nI ns), (nI nt), (nI im), (nI sm), (nI sc), f_verdictNow, f_stateCount, f_unsafeMet, f_inconsistentMet, f_queueEnd, nI (zc_P ns vl), f_coversDone, f_circuitDone, f_metCount, b_sig, b_dir, b_pre, b_post, a_stateBits, a_queue, a_codeMet, a_excitedSome, a_excitedAll, a_implicant, a_cubeCodes, a_primeCube, a_primeTail, a_pick, a_picked, a_coverPrimes, a_coverLength, a_coverCells, a_coverCodes, b_table, a_metBits, a_leastFailure))
    (hyes : ∀ M, zf_Fd (zc_P ns vl) (zc_C ns vl) (zc_O ns vl) (zc_P ns vl) sz 0 M → ∀ a_pick a_picked : Nat → Int32, (∀ i, i < sz → a_pick i = nI ((zf_ls (zc_P ns vl) M (zc_P ns vl)).getD i 0)) → post 1 (f_placeCount, (nI ns), (nI nt), (nI im), (nI sm), (nI sc), f_verdictNow, f_stateCount, f_unsafeMet, f_inconsistentMet, f_queueEnd, nI (zc_P ns vl), f_coversDone, f_circuitDone, f_metCount, b_sig, b_dir, b_pre, b_post, a_stateBits, a_queue, a_codeMet, a_excitedSome, a_excitedAll, a_implicant, a_cubeCodes, a_primeCube, a_primeTail, a_pick, a_picked, a_coverPrimes, a_coverLength, a_coverCells, a_coverCodes, b_table, a_metBits, a_leastFailure)) : wpX_coverOfSize post (f_placeCount, (nI ns), (nI nt), (nI im), (nI sm), (nI sc), f_verdictNow, f_stateCount, f_unsafeMet, f_inconsistentMet, f_queueEnd, nI (zc_P ns vl), f_coversDone, f_circuitDone, f_metCount, b_sig, b_dir, b_pre, b_post, a_stateBits, a_queue, a_codeMet, a_excitedSome, a_excitedAll, a_implicant, a_cubeCodes, a_primeCube, a_primeTail, a_pick, a_picked, a_coverPrimes, a_coverLength, a_coverCells, a_coverCodes, b_table, a_metBits, a_leastFailure) (nI sz) (nI (zc_O ns vl)) := by
  have hP := zc_P16 hn vl
  have ht4 := za_t4 hn
  have hO : zc_O ns vl < 2 ^ 16 := zc_16b hn (za_mk_lt _ _)
  have hS := zx_S16 (zc_P ns vl) (by omega)
  obtain ⟨l1, l2, l3⟩ := hL
  refine nm_e (nm_e ⟨200000, ?_⟩)
  refine zx_cos hP hO hsz (fun i => zc_16b hn (zc_C_lt ns vl i)) (fun p hp => ⟨(zc_PL ns vl).getD p 0, by have := zc_PL_lt hp; omega, l2 p hp, l1 _ (zc_PL_lt hp)⟩) l3 (zc_P ns vl) 0 0 200000 0 (Nat.le_refl _) (by omega) (by omega) (by omega) (by omega) _ _ (by rw [pk_us, Nat.sub_self]; decide) pk_us (by rw [Nat.sub_zero]; exact zf_Nl_No hlow) (fun hN a_pick' a_picked' n' st' e1 e2 _ _ => ?_) (fun M hM a_pick' a_picked' _ e4 => ?_)
  · obtain ⟨n'', rfl⟩ : ∃ k, n' = k + 1 := ⟨n' - 1, by omega⟩
    exact br_f (nI_ge (b := 200000) (by omega) (by omega)) (br_t (by decide) (hno hN a_pick' a_picked'))
  · refine hyes M hM a_pick' a_picked' (fun i hi => ?_)
    have := e4 i (by omega)
    rw [Nat.zero_add] at this
    exact this
/-- the finished cover of one output -/
def zx_C1 (n : Nat) (vl : Nat → Nat) (s : Nat) (cL cC cK : Nat → Int32) : Prop :=
  cL s = nI (zf_pc (zc_B n vl) (zc_P n vl)) ∧ (∀ k, k < zf_pc (zc_B n vl) (zc_P n vl) → cC (16 * s + k) = nI ((zc_PL n vl).getD ((zf_ls (zc_P n vl) (zc_B n vl) (zc_P n vl)).getD k 0) 0)) ∧ cK s = nI (zf_un (zc_P n vl) (zc_C n vl) (zc_B n vl) (zc_P n vl))
theorem zx_sc45 {post : SX → Prop} {J : Int32 → Int32 → Int32 → Int32 → Int32 → Int32 → Int32 → Int32 → Int32 → Int32 → Int32 → Int32 → Int32 → Int32 → Int32 → Int32 → Int32 → (Nat → Int32) → (Nat → Int32) → (Nat → Int32) → (Nat → Int32) → (Nat → Int64) → (Nat → Int32) → (Nat → Int32) → (Nat → Int32) → (Nat → Int32) → (Nat → Int32) → (Nat → Int32) → (Nat → Int32) → (Nat → Int32) → (Nat → Int32) → (Nat → Int32) → (Nat → Int32) → (Nat → Int32) → (Nat → Int32) → (Nat → Int32) → (Nat → Int32) → (Nat → Int64) → (Nat → Int32) → Prop} {x2 : Int32} {s : Nat} (hn : ns ≤ 4) (hs : s < 4) (hL : zx_L ns vl a_cubeCodes a_primeCube a_primeTail) (hpk : ∀ i, i < zf_pc (zc_B ns vl) (zc_P ns vl) → a_pick i = nI ((zf_ls (zc_P ns vl) (zc_B ns vl) (zc_P ns vl)).getD i 0)) (hcl : a_coverLength s = nI (zf_pc (zc_B ns vl) (zc_P ns vl)))
    (h : ∀ a_coverCells' a_coverCodes' : Nat → Int32, zx_C1 ns vl s a_coverLength a_coverCells' a_coverCodes' → (∀ j, j < 16 * s ∨ 16 * s + 16 ≤ j → a_coverCells' j = a_coverCells j) → (∀ j, j ≠ s → a_coverCodes' j = a_coverCodes j) → J 1 (nI (zf_pc (zc_B ns vl) (zc_P ns vl) + 1)) f_placeCount (nI ns) (nI nt) (nI im) (nI sm) (nI sc) f_verdictNow f_stateCount f_unsafeMet f_inconsistentMet f_queueEnd (nI (zc_P ns vl)) f_coversDone f_circuitDone f_metCount b_sig b_dir b_pre b_post a_stateBits a_queue a_codeMet a_excitedSome a_excitedAll a_implicant a_cubeCodes a_primeCube a_primeTail a_pick a_picked a_coverPrimes a_coverLength a_coverCells' a_coverCodes' b_table a_metBits a_leastFailure) :
    ∀ d k, k + d = zf_pc (zc_B ns vl) (zc_P ns vl) → ∀ (a_coverCells' : Nat → Int32) (A : Nat), A < 2 ^ 16 → A ||| zf_ol (zc_C ns vl) ((zf_ls (zc_P ns vl) (zc_B ns vl) (zc_P ns vl)).drop k) = zf_un (zc_P ns vl) (zc_C ns vl) (zc_B ns vl) (zc_P ns vl) → (∀ j, j < k → a_coverCells' (16 * s + j) = nI ((zc_PL ns vl).getD ((zf_ls (zc_P ns vl) (zc_B ns vl) (zc_P ns vl)).getD j 0) 0)) → (∀ j, j < 16 * s ∨ 16 * s + 16 ≤ j → a_coverCells' j = a_coverCells j) → wX_searchCover_45 post J (nI s) x2 1 (nI (zf_pc (zc_B ns vl) (zc_P ns vl))) f_placeCount (nI ns) (nI nt) (nI im) (nI sm) (nI sc) f_verdictNow f_stateCount f_unsafeMet f_inconsistentMet f_queueEnd (nI (zc_P ns vl)) f_coversDone f_circuitDone f_metCount (d + 1) (nI A) (nI k) b_sig b_dir b_pre b_post a_stateBits a_queue a_codeMet a_excitedSome a_excitedAll a_implicant a_cubeCodes a_primeCube a_primeTail a_pick a_picked a_coverPrimes a_coverLength a_coverCells' a_coverCodes b_table a_metBits a_leastFailure := by
  have hP := zc_P16 hn vl
  have ht4 := za_t4 hn
  have hpl := zf_pc_le (zc_B ns vl) (zc_P ns vl)
  have hlen := zf_ls_len (zc_P ns vl) (zc_B ns vl) (zc_P ns vl)
  have cs : (nI s).toNatClampNeg = s := nI_clamp (by omega)
  obtain ⟨l1, l2, l3⟩ := hL
  intro d
  induction d with
  | zero =>
    intro k hk a_coverCells' A hA16 hA hc ho
    have ek : k = zf_pc (zc_B ns vl) (zc_P ns vl) := by omega
    have hd : (zf_ls (zc_P ns vl) (zc_B ns vl) (zc_P ns vl)).drop k = [] := List.drop_eq_nil_of_le (by omega)
    rw [hd] at hA
    have hA' : A = zf_un (zc_P ns vl) (zc_C ns vl) (zc_B ns vl) (zc_P ns vl) := by rw [← hA]; exact (Nat.or_zero A).symm
    refine br_t (nI_le (by omega) (by omega)) (And.intro (vp_in_nI hs (by omega)) (nm_r (e' := upd a_coverCodes s (nI A)) (by rw [cs]) (nm_r (nI_1 _) (h _ _ ⟨hcl, fun j hj => hc j (by omega), by rw [pk_us, hA']⟩ ho (fun j hj => pk_un hj)))))
  | succ d ih =>
    intro k hk a_coverCells' A hA16 hA hc ho
    have hkl : k < (zf_ls (zc_P ns vl) (zc_B ns vl) (zc_P ns vl)).length := by omega
    have hlt := zf_ls_lt (P := zc_P ns vl) (M := zc_B ns vl) (Nat.le_refl _) hkl
    have hlt2 := zc_PL_lt hlt
    have eg : (zf_ls (zc_P ns vl) (zc_B ns vl) (zc_P ns vl)).getD k 0 = (zf_ls (zc_P ns vl) (zc_B ns vl) (zc_P ns vl))[k] := by
      rw [List.getD_eq_getElem?_getD, List.getElem?_eq_getElem hkl]; rfl
    have ck : (nI k).toNatClampNeg = k := nI_clamp (by omega)
    refine br_f (nI_ge (by omega) (by omega)) (And.intro (vp_in_nI (by omega) (by omega)) ?_)
    rw [ck, hpk k (by omega), nI_clamp (n := (zf_ls (zc_P ns vl) (zc_B ns vl) (zc_P ns vl)).getD k 0) (by omega), l2 _ hlt, za_16]
    refine And.intro (vp_in_nI (by omega) (by omega)) (nm_e (And.intro (vp_in_nI (by omega) (by omega)) (nm_r (e' := upd a_coverCells' (16 * s + k) (nI ((zc_PL ns vl).getD ((zf_ls (zc_P ns vl) (zc_B ns vl) (zc_P ns vl)).getD k 0) 0))) (by rw [nI_clamp (by omega)]) (And.intro (vp_in_nI (by omega) (by omega)) (nm_r (e' := nI (A ||| zc_C ns vl ((zf_ls (zc_P ns vl) (zc_B ns vl) (zc_P ns vl)).getD k 0))) (by rw [nI_clamp (by omega), l1 _ hlt2, za_or]; rfl) (nm_r (nI_1 k) (ih (k + 1) (by omega) _ _ (Nat.or_lt_two_pow hA16 (zc_16b hn (zc_C_lt ns vl _))) ?_ (fun j hj => ?_) (fun j hj => ?_))))))))
    · rw [List.drop_eq_getElem_cons hkl] at hA
      rw [← hA, eg]
      show _ = A ||| (zc_C ns vl (zf_ls (zc_P ns vl) (zc_B ns vl) (zc_P ns vl))[k] ||| zf_ol (zc_C ns vl) ((zf_ls (zc_P ns vl) (zc_B ns vl) (zc_P ns vl)).drop (k + 1)))
      rw [Nat.or_assoc]
    · by_cases e : j = k
      · rw [e, pk_us]
      · rw [pk_un (by omega)]; exact hc j (by omega)
    · rw [pk_un (by omega)]; exact ho j hj
theorem zx_searchCover {post : SX → Prop} {s : Nat} (hn : ns ≤ 4) (hs : s < 4) (hL : zx_L ns vl a_cubeCodes a_primeCube a_primeTail)
    (h : ∀ a_pick a_picked a_coverLength' a_coverCells' a_coverCodes' : Nat → Int32, zx_C1 ns vl s a_coverLength' a_coverCells' a_coverCodes' → (∀ j, j ≠ s → a_coverLength' j = a_coverLength j) → (∀ j, j < 16 * s ∨ 16 * s + 16 ≤ j → a_coverCells' j = a_coverCells j) → (∀ j, j ≠ s → a_coverCodes' j = a_coverCodes j) → post (f_placeCount, (nI ns), (nI nt), (nI im), (nI sm), (nI sc), f_verdictNow, f_stateCount, f_unsafeMet, f_inconsistentMet, f_queueEnd, nI (zc_P ns vl), f_coversDone, f_circuitDone, f_metCount, b_sig, b_dir, b_pre, b_post, a_stateBits, a_queue, a_codeMet, a_excitedSome, a_excitedAll, a_implicant, a_cubeCodes, a_primeCube, a_primeTail, a_pick, a_picked, a_coverPrimes, a_coverLength', a_coverCells', a_coverCodes', b_table, a_metBits, a_leastFailure)) : wpX_searchCover post (f_placeCount, (nI ns), (nI nt), (nI im), (nI sm), (nI sc), f_verdictNow, f_stateCount, f_unsafeMet, f_inconsistentMet, f_queueEnd, nI (zc_P ns vl), f_coversDone, f_circuitDone, f_metCount, b_sig, b_dir, b_pre, b_post, a_stateBits, a_queue, a_codeMet, a_excitedSome, a_excitedAll, a_implicant, a_cubeCodes, a_primeCube, a_primeTail, a_pick, a_picked, a_coverPrimes, a_coverLength, a_coverCells, a_coverCodes, b_table, a_metBits, a_leastFailure) (nI s) (nI (zc_O ns vl)) := by
  have hP := zc_P16 hn vl
  have cs : (nI s).toNatClampNeg = s := nI_clamp (by omega)
  obtain ⟨hB, _⟩ := zc_Bs hn vl
  have hpl := zf_pc_le (zc_B ns vl) (zc_P ns vl)
  have key : ∀ d sz, sz + d = 17 → (∀ j, j < sz → zf_No (zc_P ns vl) (zc_C ns vl) (zc_O ns vl) (zc_P ns vl) j 0) → ∀ a_pick a_picked : Nat → Int32, wX_searchCover_5 post (nI s) (nI (zc_O ns vl)) (d + 2) 0 (nI sz) f_placeCount (nI ns) (nI nt) (nI im) (nI sm) (nI sc) f_verdictNow f_stateCount f_unsafeMet f_inconsistentMet f_queueEnd (nI (zc_P ns vl)) f_coversDone f_circuitDone f_metCount b_sig b_dir b_pre b_post a_stateBits a_queue a_codeMet a_excitedSome a_excitedAll a_implicant a_cubeCodes a_primeCube a_primeTail a_pick a_picked a_coverPrimes a_coverLength a_coverCells a_coverCodes b_table a_metBits a_leastFailure := by
    intro d
    induction d with
    | zero =>
      intro sz hsz hlow
      have := hlow (zf_pc (zc_B ns vl) (zc_P ns vl)) (by omega) (zc_B ns vl) hB.1 rfl
      rw [Nat.zero_or] at this
      exact absurd hB.2.1 this
    | succ d ih =>
      intro sz hsz hlow a_pick a_picked
      refine br_f (nI_nlt (b := sz) (a := 16) (by omega) (by omega)) (br_t rfl ?_)
      refine zx_coverOfSize hn (by omega) hL hlow (fun hN a_pick a_picked => br_t rfl (nm_r (nI_1 sz) (ih (sz + 1) (by omega) (fun j hj => ?_) a_pick a_picked))) (fun M hM a_pick a_picked hpk => br_f (by decide) ?_)
      · by_cases e : j = sz
        · rw [e]; exact hN
        · exact hlow j (by omega)
      · have eM : M = zc_B ns vl := zf_Cm_u (zf_Cm_of hM hlow) hB
        subst eM
        have esz : zf_pc (zc_B ns vl) (zc_P ns vl) = sz := hM.2.1
        subst esz
        refine And.intro (vp_in_nI hs (by omega)) (nm_r (e' := upd a_coverLength s (nI (zf_pc (zc_B ns vl) (zc_P ns vl)))) (by rw [cs]) ⟨_, zx_sc45 hn hs hL hpk pk_us (fun a_coverCells' a_coverCodes' c1 c2 c3 => ?_) (zf_pc (zc_B ns vl) (zc_P ns vl)) 0 (by omega) a_coverCells 0 (by omega) ?_ (fun j hj => absurd hj (by omega)) (fun j _ => rfl)⟩)
        · have fin := h a_pick a_picked _ _ _ c1 (fun j hj => pk_un hj) c2 c3
          exact br_c (fun _ => fin) (fun _ => br_f (by decide) fin)
        · rw [Nat.zero_or, List.drop_zero, zf_ol_ls]
  exact ⟨_, key 17 0 (by omega) (fun j hj => absurd hj (by omega)) a_pick a_picked⟩
end
end
section
/-! ===== the component: finished covers, gates, what the circuit drives ===== -/
def zx_C (n : Nat) (vl : Nat → Nat → Nat) (cdn : Nat) (cP cL cC cK : Nat → Int32) : Prop := cdn < 16 ∧ ∀ s, s < 4 → cdn.testBit s = true → cP s = nI (zc_P n (vl s)) ∧ zx_C1 n (vl s) s cL cC cK
theorem zx_C_s {n : Nat} {vl : Nat → Nat → Nat} {cdn s : Nat} {cP cL cC cK cL' cC' cK' : Nat → Int32} (hn : n ≤ 4) (h : zx_C n vl cdn cP cL cC cK) (hs : s < 4) (h1 : zx_C1 n (vl s) s cL' cC' cK') (h2 : ∀ j, j ≠ s → cL' j = cL j) (h3 : ∀ j, j < 16 * s ∨ 16 * s + 16 ≤ j → cC' j = cC j) (h4 : ∀ j, j ≠ s → cK' j = cK j) : zx_C n vl (cdn ||| 2 ^ s) (upd cP s (nI (zc_P n (vl s)))) cL' cC' cK' := by
  refine ⟨Nat.or_lt_two_pow (n := 4) h.1 (Nat.pow_lt_pow_right (by omega) hs), fun j hj hb => ?_⟩
  by_cases e : j = s
  · rw [e]; exact ⟨pk_us, h1⟩
  · rw [Nat.testBit_or, Nat.testBit_two_pow_of_ne (fun z => e z.symm), Bool.or_false] at hb
    obtain ⟨k1, k2, k3, k4⟩ := h.2 j hj hb
    have hpl := zf_pc_le (zc_B n (vl j)) (zc_P n (vl j))
    have hP := zc_P16 hn (vl j)
    exact ⟨by rw [pk_un e]; exact k1, by rw [h2 j e]; exact k2, fun k hk => by rw [h3 _ (by omega)]; exact k3 k hk, by rw [h4 j e]; exact k4⟩
section
variable {ns nt im sm sc : Nat} {sg : Nat → Nat} {dr : Nat → Bool} {pr po : Nat → Nat} {R : Nat → Bool} {ip : Nat → Bool} {cdn : Nat}
variable {b_sig b_dir b_pre b_post b_table : Nat → Int32}
variable {f_placeCount f_signalCount f_transitionCount f_inputSignals f_startMarking f_startCode f_verdictNow f_stateCount f_unsafeMet f_inconsistentMet f_queueEnd f_primeTotal f_coversDone f_circuitDone f_metCount : Int32} {a_transitionSignal a_transitionDirection a_transitionPre a_transitionPost a_queue a_codeMet a_excitedSome a_excitedAll a_implicant a_cubeCodes a_primeCube a_primeTail a_pick a_picked a_coverPrimes a_coverLength a_coverCells a_coverCodes a_givenTable a_leastFailure : Nat → Int32} {a_stateBits a_metBits : Nat → Int64}
theorem zx_finishCover {post : SX → Prop} {s : Nat} (hn : ns ≤ 4) (hs : s < 4) (hT : zx_T sg dr pr po nt (fun st => R st = true) a_codeMet a_excitedSome a_excitedAll) (hC : zx_C ns (zn_vl sg dr pr po nt R) cdn a_coverPrimes a_coverLength a_coverCells a_coverCodes)
    (h : ∀ (cdn : Nat) (f_primeTotal : Int32) (a_implicant a_cubeCodes a_primeCube a_primeTail a_pick a_picked a_coverPrimes a_coverLength a_coverCells a_coverCodes : Nat → Int32), zx_C ns (zn_vl sg dr pr po nt R) cdn a_coverPrimes a_coverLength a_coverCells a_coverCodes → cdn.testBit s = true → post (f_placeCount, (nI ns), (nI nt), (nI im), (nI sm), (nI sc), f_verdictNow, f_stateCount, f_unsafeMet, f_inconsistentMet, f_queueEnd, f_primeTotal, nI cdn, f_circuitDone, f_metCount, b_sig, b_dir, b_pre, b_post, a_stateBits, a_queue, a_codeMet, a_excitedSome, a_excitedAll, a_implicant, a_cubeCodes, a_primeCube, a_primeTail, a_pick, a_picked, a_coverPrimes, a_coverLength, a_coverCells, a_coverCodes, b_table, a_metBits, a_leastFailure)) : wpX_finishCover post (f_placeCount, (nI ns), (nI nt), (nI im), (nI sm), (nI sc), f_verdictNow, f_stateCount, f_unsafeMet, f_inconsistentMet, f_queueEnd, f_primeTotal, nI cdn, f_circuitDone, f_metCount, b_sig, b_dir, b_pre, b_post, a_stateBits, a_queue, a_codeMet, a_excitedSome, a_excitedAll, a_implicant, a_cubeCodes, a_primeCube, a_primeTail, a_pick, a_picked, a_coverPrimes, a_coverLength, a_coverCells, a_coverCodes, b_table, a_metBits, a_leastFailure) (nI s) := by
  have h16 := za_p4 hn
  have hc16 := hC.1
  have cs : (nI s).toNatClampNeg = s := nI_clamp (by omega)
  have key : ∀ d c, c + d = 2 ^ ns → wX_finishCover_19 post (nI s) f_placeCount (nI ns) (nI nt) (nI im) (nI sm) (nI sc) f_verdictNow f_stateCount f_unsafeMet f_inconsistentMet f_queueEnd f_primeTotal (nI cdn) f_circuitDone f_metCount b_sig b_dir b_pre b_post a_stateBits a_queue a_codeMet a_excitedSome a_excitedAll a_implicant a_cubeCodes a_primeCube a_primeTail a_pick a_picked a_coverPrimes a_coverLength a_coverCells a_coverCodes b_table a_metBits a_leastFailure (d + 1) (nI (za_mk (fun c => zn_vl sg dr pr po nt R s c == 1) c)) (nI (za_mk (fun c => zn_vl sg dr pr po nt R s c == 0) c)) (nI c) := by
    intro d
    induction d with
    | zero =>
      intro c hc
      have : c = 2 ^ ns := by omega
      subst this
      refine pk_le (2 ^ ns) (2 ^ ns) (fun _ => ?_) (fun z => absurd z (by omega)) (za_1l _ (by omega))
      refine zx_markImplicants (Z := zc_Z ns (zn_vl sg dr pr po nt R s)) hn (zc_16b hn (za_mk_lt _ _)) (fun a_implicant a_cubeCodes hM => ?_)
      refine zx_listPrimes (vl := zn_vl sg dr pr po nt R s) hn hM (fun a_primeCube a_primeTail hL => ?_)
      refine And.intro (vp_in_nI hs (by omega)) (nm_r (e' := upd a_coverPrimes s (nI (zc_P ns (zn_vl sg dr pr po nt R s)))) (by rw [cs]) ?_)
      refine zx_searchCover (vl := zn_vl sg dr pr po nt R s) hn hs hL (fun a_pick a_picked a_coverLength' a_coverCells' a_coverCodes' c1 c2 c3 c4 => nm_r (e' := nI (cdn ||| 2 ^ s)) (by rw [za_1l _ (by omega), za_or]) (h (cdn ||| 2 ^ s) _ _ _ _ _ _ _ _ _ _ _ (zx_C_s hn hC hs c1 c2 c3 c4) (by rw [Nat.testBit_or, Nat.testBit_two_pow_self, Bool.or_true])))
    | succ d ih =>
      intro c hc
      have ih1 := ih (c + 1) (by omega)
      rw [za_mk_s, za_mk_s] at ih1
      have hlt := zn_vl_lt sg dr pr po nt R s c
      have eb := za_1l c (by omega)
      refine pk_le (2 ^ ns) c (fun z => absurd z (by omega)) (fun _ => ?_) (za_1l _ (by omega))
      refine zx_valueAfter hT hs (by omega) ?_
      refine pk_eq (zn_vl sg dr pr po nt R s c) 1 (fun z => nm_r (e' := nI (za_mk (fun c => zn_vl sg dr pr po nt R s c == 1) c ||| 2 ^ c)) (by rw [eb, za_or]) ?_) (fun z => ?_)
      · rw [if_pos (beq_iff_eq.mpr z), if_neg (by rw [z]; decide)] at ih1
        unfold wX_finishCover_52
        exact pk_eq (zn_vl sg dr pr po nt R s c) 0 (fun y => absurd y (by omega)) (fun y => nm_r (nI_1 c) ih1)
      · rw [if_neg (by rw [beq_eq_false_iff_ne.mpr z]; decide)] at ih1
        unfold wX_finishCover_52
        refine pk_eq (zn_vl sg dr pr po nt R s c) 0 (fun y => ?_) (fun y => ?_)
        · rw [if_pos (beq_iff_eq.mpr y)] at ih1
          exact nm_r (e' := nI (za_mk (fun c => zn_vl sg dr pr po nt R s c == 0) c ||| 2 ^ c)) (by rw [eb, za_or]) (nm_r (nI_1 c) ih1)
        · rw [if_neg (by rw [beq_eq_false_iff_ne.mpr y]; decide)] at ih1
          exact nm_r (nI_1 c) ih1
  refine za_brx (cdn.testBit s) (za_rd (by omega) (by omega)) (fun z => ⟨_, key (2 ^ ns) 0 (by omega)⟩) (fun z => h cdn f_primeTotal a_implicant a_cubeCodes a_primeCube a_primeTail a_pick a_picked a_coverPrimes a_coverLength a_coverCells a_coverCodes hC z)
theorem zx_gateTable {post : Int32 → SX → Prop} {s : Nat} (hn : ns ≤ 4) (hs : s < 4) (hT : zx_T sg dr pr po nt (fun st => R st = true) a_codeMet a_excitedSome a_excitedAll) (hTb : zg_T b_table) (hC : zx_C ns (zn_vl sg dr pr po nt R) cdn a_coverPrimes a_coverLength a_coverCells a_coverCodes)
    (h : ∀ (cdn : Nat) (f_primeTotal : Int32) (a_implicant a_cubeCodes a_primeCube a_primeTail a_pick a_picked a_coverPrimes a_coverLength a_coverCells a_coverCodes : Nat → Int32), zx_C ns (zn_vl sg dr pr po nt R) cdn a_coverPrimes a_coverLength a_coverCells a_coverCodes → post (nI ((zg_gt ns b_table (zn_vl sg dr pr po nt R)) s)) (f_placeCount, (nI ns), (nI nt), (nI im), (nI sm), (nI sc), f_verdictNow, f_stateCount, f_unsafeMet, f_inconsistentMet, f_queueEnd, f_primeTotal, nI cdn, f_circuitDone, f_metCount, b_sig, b_dir, b_pre, b_post, a_stateBits, a_queue, a_codeMet, a_excitedSome, a_excitedAll, a_implicant, a_cubeCodes, a_primeCube, a_primeTail, a_pick, a_picked, a_coverPrimes, a_coverLength, a_coverCells, a_coverCodes, b_table, a_metBits, a_leastFailure)) : wpX_gateTable post (f_placeCount, (nI ns), (nI nt), (nI im), (nI sm), (nI sc), f_verdictNow, f_stateCount, f_unsafeMet, f_inconsistentMet, f_queueEnd, f_primeTotal, nI cdn, f_circuitDone, f_metCount, b_sig, b_dir, b_pre, b_post, a_stateBits, a_queue, a_codeMet, a_excitedSome, a_excitedAll, a_implicant, a_cubeCodes, a_primeCube, a_primeTail, a_pick, a_picked, a_coverPrimes, a_coverLength, a_coverCells, a_coverCodes, b_table, a_metBits, a_leastFailure) (nI s) := by
  have cs : (nI s).toNatClampNeg = s := nI_clamp (by omega)
  have v : vp_in (nI s) 4 := vp_in_nI hs (by omega)
  refine And.intro v ?_
  rw [cs]
  refine br_c (fun z => ?_) (fun z => And.intro v ?_)
  · refine zx_finishCover hn hs hT hC (fun cdn f_primeTotal a_implicant a_cubeCodes a_primeCube a_primeTail a_pick a_picked a_coverPrimes a_coverLength a_coverCells a_coverCodes hC' hb => And.intro v ?_)
    have e : (zg_gt ns b_table (zn_vl sg dr pr po nt R)) s = zf_un (zc_P ns (zn_vl sg dr pr po nt R s)) (zc_C ns (zn_vl sg dr pr po nt R s)) (zc_B ns (zn_vl sg dr pr po nt R s)) (zc_P ns (zn_vl sg dr pr po nt R s)) := by unfold zg_gt; rw [if_pos z]
    have k := h cdn f_primeTotal a_implicant a_cubeCodes a_primeCube a_primeTail a_pick a_picked a_coverPrimes a_coverLength a_coverCells a_coverCodes hC'
    rw [e, ← (hC'.2 s hs hb).2.2.2] at k
    exact k
  · have k := h cdn f_primeTotal a_implicant a_cubeCodes a_primeCube a_primeTail a_pick a_picked a_coverPrimes a_coverLength a_coverCells a_coverCodes hC
    have e : (zg_gt ns b_table (zn_vl sg dr pr po nt R)) s = (b_table s).toNatClampNeg := by unfold zg_gt; rw [if_neg z]
    have e2 : nI ((zg_gt ns b_table (zn_vl sg dr pr po nt R)) s) = b_table s := by
      rw [e]
      rcases hTb s hs with w | ⟨n, hn, w⟩
      · rw [w] at z; exact absurd (by decide) z
      · rw [w, nI_clamp (by omega)]
    rw [e2] at k
    exact k
theorem zx_drivenAt {post : Int32 → SX → Prop} {c : Nat} (hn : ns ≤ 4) (hc : c < 16) (hi : im < 16) (hip : ∀ s, s < ns → im.testBit s = ip s) (hT : zx_T sg dr pr po nt (fun st => R st = true) a_codeMet a_excitedSome a_excitedAll) (hTb : zg_T b_table) (hC : zx_C ns (zn_vl sg dr pr po nt R) cdn a_coverPrimes a_coverLength a_coverCells a_coverCodes)
    (h : ∀ (cdn : Nat) (f_primeTotal : Int32) (a_implicant a_cubeCodes a_primeCube a_primeTail a_pick a_picked a_coverPrimes a_coverLength a_coverCells a_coverCodes : Nat → Int32), zx_C ns (zn_vl sg dr pr po nt R) cdn a_coverPrimes a_coverLength a_coverCells a_coverCodes → post (nI (za_mk (fun s => zg_dv ip (zg_gt ns b_table (zn_vl sg dr pr po nt R)) s c) ns)) (f_placeCount, (nI ns), (nI nt), (nI im), (nI sm), (nI sc), f_verdictNow, f_stateCount, f_unsafeMet, f_inconsistentMet, f_queueEnd, f_primeTotal, nI cdn, f_circuitDone, f_metCount, b_sig, b_dir, b_pre, b_post, a_stateBits, a_queue, a_codeMet, a_excitedSome, a_excitedAll, a_implicant, a_cubeCodes, a_primeCube, a_primeTail, a_pick, a_picked, a_coverPrimes, a_coverLength, a_coverCells, a_coverCodes, b_table, a_metBits, a_leastFailure)) : wpX_drivenAt post (f_placeCount, (nI ns), (nI nt), (nI im), (nI sm), (nI sc), f_verdictNow, f_stateCount, f_unsafeMet, f_inconsistentMet, f_queueEnd, f_primeTotal, nI cdn, f_circuitDone, f_metCount, b_sig, b_dir, b_pre, b_post, a_stateBits, a_queue, a_codeMet, a_excitedSome, a_excitedAll, a_implicant, a_cubeCodes, a_primeCube, a_primeTail, a_pick, a_picked, a_coverPrimes, a_coverLength, a_coverCells, a_coverCodes, b_table, a_metBits, a_leastFailure) (nI c) := by
  have key : ∀ d s, s + d = ns → ∀ (cdn : Nat) (f_primeTotal : Int32) (a_implicant a_cubeCodes a_primeCube a_primeTail a_pick a_picked a_coverPrimes a_coverLength a_coverCells a_coverCodes : Nat → Int32), zx_C ns (zn_vl sg dr pr po nt R) cdn a_coverPrimes a_coverLength a_coverCells a_coverCodes → wX_drivenAt_4 post (nI c) (d + 1) (nI (za_mk (fun s => zg_dv ip (zg_gt ns b_table (zn_vl sg dr pr po nt R)) s c) s)) (nI s) f_placeCount (nI ns) (nI nt) (nI im) (nI sm) (nI sc) f_verdictNow f_stateCount f_unsafeMet f_inconsistentMet f_queueEnd f_primeTotal (nI cdn) f_circuitDone f_metCount b_sig b_dir b_pre b_post a_stateBits a_queue a_codeMet a_excitedSome a_excitedAll a_implicant a_cubeCodes a_primeCube a_primeTail a_pick a_picked a_coverPrimes a_coverLength a_coverCells a_coverCodes b_table a_metBits a_leastFailure := by
    intro d
    induction d with
    | zero =>
      intro s hs cdn f_primeTotal a_implicant a_cubeCodes a_primeCube a_primeTail a_pick a_picked a_coverPrimes a_coverLength a_coverCells a_coverCodes hC
      have : s = ns := by omega
      subst this
      exact br_t (nI_le (Nat.le_refl _) (by omega)) (h cdn f_primeTotal a_implicant a_cubeCodes a_primeCube a_primeTail a_pick a_picked a_coverPrimes a_coverLength a_coverCells a_coverCodes hC)
    | succ d ih =>
      intro s hs cdn f_primeTotal a_implicant a_cubeCodes a_primeCube a_primeTail a_pick a_picked a_coverPrimes a_coverLength a_coverCells a_coverCodes hC
      have ih1 := ih (s + 1) (by omega)
      rw [za_mk_s] at ih1
      have hg := zg_gt_lt (vl := zn_vl sg dr pr po nt R) (s := s) hn hTb (by omega)
      refine br_f (nI_ge (by omega) (by omega)) (za_brx (ip s) (by rw [za_rd (by omega) (by omega), hip s (by omega)]) (fun z => ?_) (fun z => nm_r (nI_1 s) ?_))
      · refine zx_gateTable hn (by omega) hT hTb hC (fun cdn f_primeTotal a_implicant a_cubeCodes a_primeCube a_primeTail a_pick a_picked a_coverPrimes a_coverLength a_coverCells a_coverCodes hC => ?_)
        refine za_if0 (((zg_gt ns b_table (zn_vl sg dr pr po nt R)) s).testBit c != c.testBit s) (by rw [za_rd (by omega) (by omega), za_rd (by omega) (by omega), za_bb, bne_eq_false_iff_eq]) (fun y => nm_r (nI_1 s) ?_) (fun y => nm_r (e' := nI (za_mk (fun s => zg_dv ip (zg_gt ns b_table (zn_vl sg dr pr po nt R)) s c) s ||| 2 ^ s)) (by rw [za_1l _ (by omega), za_or]) (nm_r (nI_1 s) ?_))
        · have k := ih1 cdn f_primeTotal a_implicant a_cubeCodes a_primeCube a_primeTail a_pick a_picked a_coverPrimes a_coverLength a_coverCells a_coverCodes hC
          rw [if_neg (by unfold zg_dv; rw [z, y]; decide)] at k
          exact k
        · have k := ih1 cdn f_primeTotal a_implicant a_cubeCodes a_primeCube a_primeTail a_pick a_picked a_coverPrimes a_coverLength a_coverCells a_coverCodes hC
          rw [if_pos (by unfold zg_dv; rw [z, y]; rfl)] at k
          exact k
      · have k := ih1 cdn f_primeTotal a_implicant a_cubeCodes a_primeCube a_primeTail a_pick a_picked a_coverPrimes a_coverLength a_coverCells a_coverCodes hC
        rw [if_neg (by unfold zg_dv; rw [z]; simp)] at k
        exact k
  exact ⟨_, key ns 0 (by omega) cdn f_primeTotal a_implicant a_cubeCodes a_primeCube a_primeTail a_pick a_picked a_coverPrimes a_coverLength a_coverCells a_coverCodes hC⟩
theorem zx_meet {post : SX → Prop} {st e : Nat} (hs : st < 1024) (hq : zx_Q a_metBits a_queue e)
    (h : ∀ (bits : Nat → Int64) (q : Nat → Int32) (e' : Nat), zx_Q bits q e' → (∀ j, za_v bits j = zn_ad (za_v a_metBits) st j) → e ≤ e' → (∀ i, i < e → q i = a_queue i) → post (f_placeCount, (nI ns), (nI nt), (nI im), (nI sm), (nI sc), f_verdictNow, f_stateCount, f_unsafeMet, f_inconsistentMet, nI e', f_primeTotal, f_coversDone, f_circuitDone, f_metCount, b_sig, b_dir, b_pre, b_post, a_stateBits, q, a_codeMet, a_excitedSome, a_excitedAll, a_implicant, a_cubeCodes, a_primeCube, a_primeTail, a_pick, a_picked, a_coverPrimes, a_coverLength, a_coverCells, a_coverCodes, b_table, bits, a_leastFailure)) : wpX_meet post (f_placeCount, (nI ns), (nI nt), (nI im), (nI sm), (nI sc), f_verdictNow, f_stateCount, f_unsafeMet, f_inconsistentMet, nI e, f_primeTotal, f_coversDone, f_circuitDone, f_metCount, b_sig, b_dir, b_pre, b_post, a_stateBits, a_queue, a_codeMet, a_excitedSome, a_excitedAll, a_implicant, a_cubeCodes, a_primeCube, a_primeTail, a_pick, a_picked, a_coverPrimes, a_coverLength, a_coverCells, a_coverCodes, b_table, a_metBits, a_leastFailure) (nI st) := by
  have v16 : vp_in (nI (st / 64)) 16 := vp_in_nI (by omega) (by omega)
  have c16 : (nI (st / 64)).toNatClampNeg = st / 64 := nI_clamp (by omega)
  have hm := za_1L (st % 64) (by omega)
  have hle := zx_Q_le hq
  refine nm_r (e' := (1 : Int64) <<< ((nI (st % 64)).toInt64 &&& 63)) (by rw [za_a63 hs]) ?_
  rw [za_s6 hs, c16]
  refine And.intro v16 (za_if0 (za_v a_metBits st) (za_v_test _ _ _ (by omega) hm) (fun z => ?_) (fun z => ?_))
  · have hlt : e < 1024 := by rw [hq.1]; exact za_c_all z hs
    have hb : ∀ j, za_v (vp_updL a_metBits (st / 64) (a_metBits (st / 64) ||| (1 : Int64) <<< ((nI (st % 64)).toInt64 &&& 63))) j = zn_ad (za_v a_metBits) st j := fun j => za_v_set a_metBits st _ hm j
    exact And.intro v16 (And.intro v16 (nm_e (And.intro (vp_in_nI hlt (by omega)) (nm_r (e' := upd a_queue e (nI st)) (by rw [nI_clamp (by omega), zx_sh hs]) (nm_r (nI_1 e) (h _ _ (e + 1) (zx_Q_add hq hs z hb) hb (by omega) (fun i hi => pk_un (by omega))))))))
  · refine h a_metBits a_queue e hq (fun j => ?_) (Nat.le_refl _) (fun i _ => rfl)
    by_cases e2 : j = st
    · rw [e2, zn_ad_s]; exact z
    · rw [zn_ad_n e2]
/-- the least state of a set, with one more -/
theorem zx_noteFailure {post : SX → Prop} {p : Nat → Prop} {k st : Nat} (hk : k < 3) (hs : st < 1024) (hL : zn_Lf p (a_leastFailure k))
    (h : ∀ lf : Nat → Int32, (∀ j, j ≠ k → lf j = a_leastFailure j) → zn_Lf (fun s => p s ∨ s = st) (lf k) → post (f_placeCount, (nI ns), (nI nt), (nI im), (nI sm), (nI sc), f_verdictNow, f_stateCount, f_unsafeMet, f_inconsistentMet, f_queueEnd, f_primeTotal, f_coversDone, f_circuitDone, f_metCount, b_sig, b_dir, b_pre, b_post, a_stateBits, a_queue, a_codeMet, a_excitedSome, a_excitedAll, a_implicant, a_cubeCodes, a_primeCube, a_primeTail, a_pick, a_picked, a_coverPrimes, a_coverLength, a_coverCells, a_coverCodes, b_table, a_metBits, lf)) : wpX_noteFailure post (f_placeCount, (nI ns), (nI nt), (nI im), (nI sm), (nI sc), f_verdictNow, f_stateCount, f_unsafeMet, f_inconsistentMet, f_queueEnd, f_primeTotal, f_coversDone, f_circuitDone, f_metCount, b_sig, b_dir, b_pre, b_post, a_stateBits, a_queue, a_codeMet, a_excitedSome, a_excitedAll, a_implicant, a_cubeCodes, a_primeCube, a_primeTail, a_pick, a_picked, a_coverPrimes, a_coverLength, a_coverCells, a_coverCodes, b_table, a_metBits, a_leastFailure) (nI k) (nI st) := by
  have v : vp_in (nI k) 3 := vp_in_nI hk (by omega)
  have ce : (nI k).toNatClampNeg = k := nI_clamp (by omega)
  refine And.intro v ?_
  rw [ce]
  rcases hL with ⟨e, hn⟩ | ⟨j, hj, e, hp, hmin⟩
  · refine br_t (by rw [e]; decide) (And.intro v (nm_e (h _ (fun j hj => pk_un hj) ?_)))
    rw [pk_us]
    refine Or.inr ⟨st, hs, rfl, Or.inr rfl, fun j hj z => ?_⟩
    rcases z with z | z
    · exact hn j (by omega) z
    · omega
  · refine br_f (by rw [e]; exact nI_pos (by omega)) (And.intro v ?_)
    refine pk_le j st (fun z => h a_leastFailure (fun _ _ => rfl) (Or.inr ⟨j, hj, e, Or.inl hp, fun i hi y => ?_⟩)) (fun z => And.intro v (nm_e (h _ (fun j hj => pk_un hj) ?_))) e rfl
    · rcases y with y | y
      · exact hmin i hi y
      · omega
    · rw [pk_us]
      refine Or.inr ⟨st, hs, rfl, Or.inr rfl, fun i hi y => ?_⟩
      rcases y with y | y
      · exact hmin i (by omega) y
      · omega
end
end
section
/-! ===== the component: the circuit beside the net ===== -/
def zx_Eg (g : Nat → Bool) (τ : Nat → Nat) (k : Nat) (bits : Nat → Int64) (q : Nat → Int32) (e : Nat) (bits' : Nat → Int64) (q' : Nat → Int32) (e' : Nat) : Prop :=
  zx_Q bits' q' e' ∧ e ≤ e' ∧ (∀ i, i < e → q' i = q i) ∧ (∀ j, za_v bits j = true → za_v bits' j = true) ∧ (∀ j, za_v bits' j = true → za_v bits j = true ∨ ∃ t, t < k ∧ g t = true ∧ j = τ t) ∧ ∀ t, t < k → g t = true → za_v bits' (τ t) = true
theorem zx_Eg_0 {g : Nat → Bool} {τ : Nat → Nat} {e : Nat} {bits : Nat → Int64} {q : Nat → Int32} (h : zx_Q bits q e) : zx_Eg g τ 0 bits q e bits q e :=
  ⟨h, Nat.le_refl _, fun _ _ => rfl, fun _ h => h, fun _ h => Or.inl h, fun t ht => absurd ht (by omega)⟩
theorem zx_Eg_no {g : Nat → Bool} {τ : Nat → Nat} {k e e' : Nat} {bits bits' : Nat → Int64} {q q' : Nat → Int32} (h : zx_Eg g τ k bits q e bits' q' e') (hk : g k = false) : zx_Eg g τ (k + 1) bits q e bits' q' e' := by
  obtain ⟨h1, h2, h3, h4, h5, h6⟩ := h
  refine ⟨h1, h2, h3, h4, fun j hj => ?_, fun t ht hg => ?_⟩
  · rcases h5 j hj with z | ⟨t, a, b⟩
    · exact Or.inl z
    · exact Or.inr ⟨t, by omega, b⟩
  · by_cases e : t = k
    · rw [e, hk] at hg; exact absurd hg (by decide)
    · exact h6 t (by omega) hg
theorem zx_Eg_yes {g : Nat → Bool} {τ : Nat → Nat} {k e e' e'' : Nat} {bits bits' bits'' : Nat → Int64} {q q' q'' : Nat → Int32} (h : zx_Eg g τ k bits q e bits' q' e') (hk : g k = true) (hq : zx_Q bits'' q'' e'') (hb : ∀ j, za_v bits'' j = zn_ad (za_v bits') (τ k) j) (he : e' ≤ e'') (hi : ∀ i, i < e' → q'' i = q' i) : zx_Eg g τ (k + 1) bits q e bits'' q'' e'' := by
  obtain ⟨h1, h2, h3, h4, h5, h6⟩ := h
  refine ⟨hq, by omega, fun i hi2 => by rw [hi i (by omega)]; exact h3 i hi2, fun j hj => by rw [hb]; exact zn_ad_i (h4 j hj), fun j hj => ?_, fun t ht hg => ?_⟩
  · rw [hb] at hj
    rcases zn_ad_e hj with z | z
    · rcases h5 j z with y | ⟨t, a, b⟩
      · exact Or.inl y
      · exact Or.inr ⟨t, by omega, b⟩
    · exact Or.inr ⟨k, by omega, hk, z⟩
  · rw [hb]
    by_cases e : t = k
    · rw [e]; exact zn_ad_s _ _
    · exact zn_ad_i (h6 t (by omega) hg)
theorem zn_Lf_c {p q : Nat → Prop} (e : ∀ st, p st ↔ q st) {x : Int32} (h : zn_Lf p x) : zn_Lf q x := by
  rcases h with ⟨a, b⟩ | ⟨st, a, b, c, d⟩
  · exact Or.inl ⟨a, fun st hs z => b st hs ((e st).mpr z)⟩
  · exact Or.inr ⟨st, a, b, (e st).mp c, fun j hj z => d j hj ((e j).mpr z)⟩
theorem zn_Lf_f {p : Nat → Prop} {x : Int32} {b : Bool} {st : Nat} (hb : b = false) (h : zn_Lf p x) : zn_Lf (fun s => p s ∨ (s = st ∧ b = true)) x :=
  zn_Lf_c (fun s => ⟨Or.inl, fun z => z.elim id (fun y => by rw [hb] at y; exact absurd y.2 (by decide))⟩) h
theorem zn_Lf_t {p : Nat → Prop} {x : Int32} {b : Bool} {st : Nat} (hb : b = true) (h : zn_Lf (fun s => p s ∨ s = st) x) : zn_Lf (fun s => p s ∨ (s = st ∧ b = true)) x :=
  zn_Lf_c (fun s => ⟨fun z => z.elim Or.inl (fun y => Or.inr ⟨y, hb⟩), fun z => z.elim Or.inl (fun y => Or.inr y.1)⟩) h
section
variable {ns nt im sm sc : Nat} {sg : Nat → Nat} {dr : Nat → Bool} {pr po : Nat → Nat} {R : Nat → Bool} {ip : Nat → Bool} {cdn : Nat}
variable {b_sig b_dir b_pre b_post b_table : Nat → Int32}
variable {f_placeCount f_signalCount f_transitionCount f_inputSignals f_startMarking f_startCode f_verdictNow f_stateCount f_unsafeMet f_inconsistentMet f_queueEnd f_primeTotal f_coversDone f_circuitDone f_metCount : Int32} {a_transitionSignal a_transitionDirection a_transitionPre a_transitionPost a_queue a_codeMet a_excitedSome a_excitedAll a_implicant a_cubeCodes a_primeCube a_primeTail a_pick a_picked a_coverPrimes a_coverLength a_coverCells a_coverCodes a_givenTable a_leastFailure : Nat → Int32} {a_stateBits a_metBits : Nat → Int64}
theorem zx_vi182 {post : SX → Prop} {p : Nat → Prop} {st D E : Nat} (hs : st < 1024) (hD : D < 16) (hE : E < 16) (hL : zn_Lf p (a_leastFailure 2))
    (h : ∀ lf : Nat → Int32, lf 0 = a_leastFailure 0 → lf 1 = a_leastFailure 1 → zn_Lf (fun s => p s ∨ (s = st ∧ ((D == 0) && ((E != 0) && (E &&& im == 0))) = true)) (lf 2) → post (f_placeCount, (nI ns), (nI nt), (nI im), (nI sm), (nI sc), f_verdictNow, f_stateCount, f_unsafeMet, f_inconsistentMet, f_queueEnd, f_primeTotal, f_coversDone, f_circuitDone, f_metCount, b_sig, b_dir, b_pre, b_post, a_stateBits, a_queue, a_codeMet, a_excitedSome, a_excitedAll, a_implicant, a_cubeCodes, a_primeCube, a_primeTail, a_pick, a_picked, a_coverPrimes, a_coverLength, a_coverCells, a_coverCodes, b_table, a_metBits, lf)) : wX_visit_182 post (nI st) (nI D) (nI E) f_placeCount (nI ns) (nI nt) (nI im) (nI sm) (nI sc) f_verdictNow f_stateCount f_unsafeMet f_inconsistentMet f_queueEnd f_primeTotal f_coversDone f_circuitDone f_metCount b_sig b_dir b_pre b_post a_stateBits a_queue a_codeMet a_excitedSome a_excitedAll a_implicant a_cubeCodes a_primeCube a_primeTail a_pick a_picked a_coverPrimes a_coverLength a_coverCells a_coverCodes b_table a_metBits a_leastFailure := by
  have hle : E &&& im ≤ E := Nat.and_le_left
  have no : ((D == 0) && ((E != 0) && (E &&& im == 0))) = false → post (f_placeCount, (nI ns), (nI nt), (nI im), (nI sm), (nI sc), f_verdictNow, f_stateCount, f_unsafeMet, f_inconsistentMet, f_queueEnd, f_primeTotal, f_coversDone, f_circuitDone, f_metCount, b_sig, b_dir, b_pre, b_post, a_stateBits, a_queue, a_codeMet, a_excitedSome, a_excitedAll, a_implicant, a_cubeCodes, a_primeCube, a_primeTail, a_pick, a_picked, a_coverPrimes, a_coverLength, a_coverCells, a_coverCodes, b_table, a_metBits, a_leastFailure) := fun z => h a_leastFailure rfl rfl (zn_Lf_f z hL)
  unfold wX_visit_182
  refine pk_eq D 0 (fun z => pk_eq E 0 (fun y => no (by rw [y]; simp)) (fun y => ?_)) (fun z => no (by rw [beq_eq_false_iff_ne.mpr z]; rfl))
  rw [nx_and]
  refine pk_eq (E &&& im) 0 (fun w => ?_) (fun w => no (by rw [beq_eq_false_iff_ne.mpr w]; simp))
  refine zx_noteFailure (k := 2) (by omega) hs hL (fun lf h1 h2 => h lf (h1 0 (by omega)) (h1 1 (by omega)) (zn_Lf_t ?_ h2))
  rw [beq_iff_eq.mpr z, bne_iff_ne.mpr y, beq_iff_eq.mpr w]; rfl
theorem zx_vi_e {post : SX → Prop} {p0 p1 p2 : Nat → Prop} {st D E n : Nat} {hz : Bool} {x2 x3 : Int32} (hnt : nt ≤ 12) (hs : st < 1024) (hD : D < 16) (hE : E < 16) (hL0 : zn_Lf p0 (a_leastFailure 0)) (hL1 : zn_Lf p1 (a_leastFailure 1)) (hL2 : zn_Lf p2 (a_leastFailure 2))
    (h : ∀ lf : Nat → Int32, zn_Lf (fun s => p0 s ∨ (s = st ∧ (za_nd D E != 0) = true)) (lf 0) → zn_Lf (fun s => p1 s ∨ (s = st ∧ hz = true)) (lf 1) → zn_Lf (fun s => p2 s ∨ (s = st ∧ ((D == 0) && ((E != 0) && (E &&& im == 0))) = true)) (lf 2) → post (f_placeCount, (nI ns), (nI nt), (nI im), (nI sm), (nI sc), f_verdictNow, f_stateCount, f_unsafeMet, f_inconsistentMet, f_queueEnd, f_primeTotal, f_coversDone, f_circuitDone, f_metCount, b_sig, b_dir, b_pre, b_post, a_stateBits, a_queue, a_codeMet, a_excitedSome, a_excitedAll, a_implicant, a_cubeCodes, a_primeCube, a_primeTail, a_pick, a_picked, a_coverPrimes, a_coverLength, a_coverCells, a_coverCodes, b_table, a_metBits, lf)) : wX_visit_25 post (nI st) x2 x3 (nI D) (n + 1) (nI E) (za_b hz) (nI nt) f_placeCount (nI ns) (nI nt) (nI im) (nI sm) (nI sc) f_verdictNow f_stateCount f_unsafeMet f_inconsistentMet f_queueEnd f_primeTotal f_coversDone f_circuitDone f_metCount b_sig b_dir b_pre b_post a_stateBits a_queue a_codeMet a_excitedSome a_excitedAll a_implicant a_cubeCodes a_primeCube a_primeTail a_pick a_picked a_coverPrimes a_coverLength a_coverCells a_coverCodes b_table a_metBits a_leastFailure := by
  have hnd : za_nd D E < 2 ^ 4 := za_ndlt hD
  have k171 : ∀ a_leastFailure : Nat → Int32, zn_Lf (fun s => p0 s ∨ (s = st ∧ (za_nd D E != 0) = true)) (a_leastFailure 0) → zn_Lf p1 (a_leastFailure 1) → zn_Lf p2 (a_leastFailure 2) → wX_visit_171 post (nI st) (nI D) (nI E) (za_b hz) f_placeCount (nI ns) (nI nt) (nI im) (nI sm) (nI sc) f_verdictNow f_stateCount f_unsafeMet f_inconsistentMet f_queueEnd f_primeTotal f_coversDone f_circuitDone f_metCount b_sig b_dir b_pre b_post a_stateBits a_queue a_codeMet a_excitedSome a_excitedAll a_implicant a_cubeCodes a_primeCube a_primeTail a_pick a_picked a_coverPrimes a_coverLength a_coverCells a_coverCodes b_table a_metBits a_leastFailure := by
    intro a_leastFailure h0 h1 h2
    unfold wX_visit_171
    refine za_br hz (fun z => ?_) (fun z => ?_)
    · exact zx_vi182 hs hD hE h2 (fun lf e0 e1 l2 => h lf (by rw [e0]; exact h0) (by rw [e1]; exact zn_Lf_f z h1) l2)
    · refine zx_noteFailure (k := 1) (by omega) hs h1 (fun lf e1 l1 => ?_)
      exact zx_vi182 hs hD hE (by rw [e1 2 (by omega)]; exact h2) (fun lf' f0 f1 l2 => h lf' (by rw [f0, e1 0 (by omega)]; exact h0) (by rw [f1]; exact zn_Lf_t z l1) l2)
  refine br_t (nI_le (Nat.le_refl _) (by omega)) ?_
  rw [za_ndI]
  refine pk_eq (za_nd D E) 0 (fun z => k171 a_leastFailure (zn_Lf_f (bne_eq_false_iff_eq.mpr z) hL0) hL1 hL2) (fun z => ?_)
  refine zx_noteFailure (k := 0) (by omega) hs hL0 (fun lf e1 l0 => k171 lf (zn_Lf_t (bne_iff_ne.mpr z) l0) (by rw [e1 1 (by omega)]; exact hL1) (by rw [e1 2 (by omega)]; exact hL2))
theorem zx_vi_b {post : SX → Prop} {n t m c E e : Nat} {hz : Bool} {x1 : Int32} (H : zn_N ns nt sg dr pr po b_sig b_dir b_pre b_post) (hi : im < 16) (hip : ∀ s, s < ns → im.testBit s = ip s) (hT : zx_T sg dr pr po nt (fun st => R st = true) a_codeMet a_excitedSome a_excitedAll) (hTb : zg_T b_table) (hC : zx_C ns (zn_vl sg dr pr po nt R) cdn a_coverPrimes a_coverLength a_coverCells a_coverCodes) (ht : t < nt) (hm : m < 64) (hc : c < 16) (hq : zx_Q a_metBits a_queue e)
    (h0 : zn_en pr m t = false → wX_visit_25 post x1 (nI m) (nI c) (nI (za_mk (fun s => zg_dv ip (zg_gt ns b_table (zn_vl sg dr pr po nt R)) s (c)) ns)) n (nI E) (za_b hz) (nI (t + 1)) f_placeCount (nI ns) (nI nt) (nI im) (nI sm) (nI sc) f_verdictNow f_stateCount f_unsafeMet f_inconsistentMet (nI e) f_primeTotal (nI cdn) f_circuitDone f_metCount b_sig b_dir b_pre b_post a_stateBits a_queue a_codeMet a_excitedSome a_excitedAll a_implicant a_cubeCodes a_primeCube a_primeTail a_pick a_picked a_coverPrimes a_coverLength a_coverCells a_coverCodes b_table a_metBits a_leastFailure)
    (h1 : zn_en pr m t = true → zg_k sg pr ip (zg_gt ns b_table (zn_vl sg dr pr po nt R)) m c t = false → wX_visit_25 post x1 (nI m) (nI c) (nI (za_mk (fun s => zg_dv ip (zg_gt ns b_table (zn_vl sg dr pr po nt R)) s (c)) ns)) n (nI (E ||| 2 ^ sg t)) (za_b hz) (nI (t + 1)) f_placeCount (nI ns) (nI nt) (nI im) (nI sm) (nI sc) f_verdictNow f_stateCount f_unsafeMet f_inconsistentMet (nI e) f_primeTotal (nI cdn) f_circuitDone f_metCount b_sig b_dir b_pre b_post a_stateBits a_queue a_codeMet a_excitedSome a_excitedAll a_implicant a_cubeCodes a_primeCube a_primeTail a_pick a_picked a_coverPrimes a_coverLength a_coverCells a_coverCodes b_table a_metBits a_leastFailure)
    (h2 : zn_en pr m t = true → zg_k sg pr ip (zg_gt ns b_table (zn_vl sg dr pr po nt R)) m c t = true → ∀ (cdn : Nat) (f_primeTotal : Int32) (a_implicant a_cubeCodes a_primeCube a_primeTail a_pick a_picked a_coverPrimes a_coverLength a_coverCells a_coverCodes : Nat → Int32), zx_C ns (zn_vl sg dr pr po nt R) cdn a_coverPrimes a_coverLength a_coverCells a_coverCodes → ∀ (bits : Nat → Int64) (q : Nat → Int32) (e' : Nat), zx_Q bits q e' → (∀ j, za_v bits j = zn_ad (za_v a_metBits) (16 * zn_nm pr po m t + zn_nc sg c t) j) → e ≤ e' → (∀ i, i < e → q i = a_queue i) → wX_visit_25 post x1 (nI m) (nI c) (nI (za_mk (fun s => zg_dv ip (zg_gt ns b_table (zn_vl sg dr pr po nt R)) s (c)) ns)) n (nI (E ||| 2 ^ sg t)) (za_b (hz || (za_nd (za_nd (za_mk (fun s => zg_dv ip (zg_gt ns b_table (zn_vl sg dr pr po nt R)) s (c)) ns) (za_mk (fun s => zg_dv ip (zg_gt ns b_table (zn_vl sg dr pr po nt R)) s (zn_nc sg c t)) ns)) (2 ^ sg t) != 0))) (nI (t + 1)) f_placeCount (nI ns) (nI nt) (nI im) (nI sm) (nI sc) f_verdictNow f_stateCount f_unsafeMet f_inconsistentMet (nI e') f_primeTotal (nI cdn) f_circuitDone f_metCount b_sig b_dir b_pre b_post a_stateBits q a_codeMet a_excitedSome a_excitedAll a_implicant a_cubeCodes a_primeCube a_primeTail a_pick a_picked a_coverPrimes a_coverLength a_coverCells a_coverCodes b_table bits a_leastFailure) :
    wX_visit_25 post x1 (nI m) (nI c) (nI (za_mk (fun s => zg_dv ip (zg_gt ns b_table (zn_vl sg dr pr po nt R)) s (c)) ns)) (n + 1) (nI E) (za_b hz) (nI t) f_placeCount (nI ns) (nI nt) (nI im) (nI sm) (nI sc) f_verdictNow f_stateCount f_unsafeMet f_inconsistentMet (nI e) f_primeTotal (nI cdn) f_circuitDone f_metCount b_sig b_dir b_pre b_post a_stateBits a_queue a_codeMet a_excitedSome a_excitedAll a_implicant a_cubeCodes a_primeCube a_primeTail a_pick a_picked a_coverPrimes a_coverLength a_coverCells a_coverCodes b_table a_metBits a_leastFailure := by
  have h12 := H.2.1
  have h4 := H.1
  have hp4 := za_p4 h4.2
  obtain ⟨⟨e1, e2, e3, e4⟩, hsg, hpr, hpo⟩ := H.2.2 t ht
  have v : vp_in (nI t) 12 := vp_in_nI (by omega) (by omega)
  have ce : (nI t).toNatClampNeg = t := nI_clamp (by omega)
  have hle : m &&& pr t ≤ pr t := Nat.and_le_right
  have eb := za_1l (sg t) (by omega)
  have hb2 : 2 ^ sg t < 2 ^ 4 := Nat.pow_lt_pow_right (by omega) (by omega)
  have hD := za_mk_lt (fun s => zg_dv ip (zg_gt ns b_table (zn_vl sg dr pr po nt R)) s c) ns
  refine br_f (nI_ge ht (by omega)) (And.intro v (nm_r (e' := nI (pr t)) (by rw [ce]; exact e3) ?_))
  refine za_if (zn_en pr m t) (by unfold zn_en; rw [nx_and, nI_eq (by omega) (by omega), beq_iff_eq]) (fun he => ?_) (fun he => nm_r (nI_1 t) (h0 he))
  refine And.intro v (nm_r (e' := nI (2 ^ sg t)) (by rw [ce, e1]; exact eb) (nm_r (za_or E (2 ^ sg t)) ?_))
  have hle2 : (im ||| (za_mk (fun s => zg_dv ip (zg_gt ns b_table (zn_vl sg dr pr po nt R)) s (c)) ns)) &&& 2 ^ sg t ≤ 2 ^ sg t := Nat.and_le_right
  refine za_if0 (zg_k sg pr ip (zg_gt ns b_table (zn_vl sg dr pr po nt R)) m c t) ?_ (fun hk => nm_r (nI_1 t) (h1 he hk)) (fun hk => nm_r (nx_xor c (2 ^ sg t)) ?_)
  · rw [za_or, nx_and, ← nI_0, nI_eq (by omega) (by omega)]
    unfold zg_k
    rw [he, Bool.true_and]
    have eq : ((im ||| (za_mk (fun s => zg_dv ip (zg_gt ns b_table (zn_vl sg dr pr po nt R)) s (c)) ns)) &&& 2 ^ sg t) = 0 ↔ (im ||| (za_mk (fun s => zg_dv ip (zg_gt ns b_table (zn_vl sg dr pr po nt R)) s (c)) ns)).testBit (sg t) = false := by
      rw [za_0]
      constructor
      · intro k
        have := k (sg t)
        rw [Nat.testBit_and, Nat.testBit_two_pow_self, Bool.and_true] at this
        exact this
      · intro k i
        rw [Nat.testBit_and]
        by_cases z : i = sg t
        · rw [z, k]; rfl
        · rw [Nat.testBit_two_pow_of_ne (fun y => z y.symm), Bool.and_false]
    rw [eq, Nat.testBit_or, hip _ hsg, za_mk_tb, decide_eq_true hsg, Bool.true_and]
  · have hnm := zn_nm_lt (pr := pr) (po := po) (m := m) (t := t) hm hpo
    have hnc := zn_nc_lt (sg := sg) (c := c) (t := t) (k := 4) hc (by omega)
    have go : ∀ (hz' : Bool) (x6 : Int32), x6 = za_b (hz || hz') → (za_nd (za_nd (za_mk (fun s => zg_dv ip (zg_gt ns b_table (zn_vl sg dr pr po nt R)) s (c)) ns) (za_mk (fun s => zg_dv ip (zg_gt ns b_table (zn_vl sg dr pr po nt R)) s (zn_nc sg c t)) ns)) (2 ^ sg t) != 0) = hz' → ∀ (cdn : Nat) (f_primeTotal : Int32) (a_implicant a_cubeCodes a_primeCube a_primeTail a_pick a_picked a_coverPrimes a_coverLength a_coverCells a_coverCodes : Nat → Int32), zx_C ns (zn_vl sg dr pr po nt R) cdn a_coverPrimes a_coverLength a_coverCells a_coverCodes → wX_visit_121 post (wX_visit_25 post x1 (nI m) (nI c) (nI (za_mk (fun s => zg_dv ip (zg_gt ns b_table (zn_vl sg dr pr po nt R)) s (c)) ns)) n) x1 (nI m) (nI c) (nI (za_mk (fun s => zg_dv ip (zg_gt ns b_table (zn_vl sg dr pr po nt R)) s (c)) ns)) (nI (E ||| 2 ^ sg t)) x6 (nI t) (nI (pr t)) (nI (zn_nc sg c t)) f_placeCount (nI ns) (nI nt) (nI im) (nI sm) (nI sc) f_verdictNow f_stateCount f_unsafeMet f_inconsistentMet (nI e) f_primeTotal (nI cdn) f_circuitDone f_metCount b_sig b_dir b_pre b_post a_stateBits a_queue a_codeMet a_excitedSome a_excitedAll a_implicant a_cubeCodes a_primeCube a_primeTail a_pick a_picked a_coverPrimes a_coverLength a_coverCells a_coverCodes b_table a_metBits a_leastFailure := by
      intro hz' x6 hx6 hzz cdn f_primeTotal a_implicant a_cubeCodes a_primeCube a_primeTail a_pick a_picked a_coverPrimes a_coverLength a_coverCells a_coverCodes hC
      unfold wX_visit_121
      refine And.intro v (nm_r (e' := nI (16 * zn_nm pr po m t + zn_nc sg c t)) (by rw [ce, e4, za_ndI, za_or, za_16]; rfl) ?_)
      refine zx_meet (by omega) hq (fun bits q e' a b c' d => nm_r (nI_1 t) ?_)
      have k := h2 he hk cdn f_primeTotal a_implicant a_cubeCodes a_primeCube a_primeTail a_pick a_picked a_coverPrimes a_coverLength a_coverCells a_coverCodes hC bits q e' a b c' d
      rw [hzz, ← hx6] at k
      exact k
    refine zx_drivenAt h4.2 hnc hi hip hT hTb hC (fun cdn f_primeTotal a_implicant a_cubeCodes a_primeCube a_primeTail a_pick a_picked a_coverPrimes a_coverLength a_coverCells a_coverCodes hC => ?_)
    have hnn : za_nd (za_nd (za_mk (fun s => zg_dv ip (zg_gt ns b_table (zn_vl sg dr pr po nt R)) s (c)) ns) (za_mk (fun s => zg_dv ip (zg_gt ns b_table (zn_vl sg dr pr po nt R)) s (zn_nc sg c t)) ns)) (2 ^ sg t) < 2 ^ ns := za_ndlt (za_ndlt hD)
    have hx : nI (za_mk (fun s => zg_dv ip (zg_gt ns b_table (zn_vl sg dr pr po nt R)) s (c)) ns) &&& (nI (za_mk (fun s => zg_dv ip (zg_gt ns b_table (zn_vl sg dr pr po nt R)) s (zn_nc sg c t)) ns) ^^^ (-1)) &&& (nI (2 ^ sg t) ^^^ (-1)) = nI (za_nd (za_nd (za_mk (fun s => zg_dv ip (zg_gt ns b_table (zn_vl sg dr pr po nt R)) s (c)) ns) (za_mk (fun s => zg_dv ip (zg_gt ns b_table (zn_vl sg dr pr po nt R)) s (zn_nc sg c t)) ns)) (2 ^ sg t)) := by rw [za_ndI, za_ndI]
    refine pk_eq (za_nd (za_nd (za_mk (fun s => zg_dv ip (zg_gt ns b_table (zn_vl sg dr pr po nt R)) s (c)) ns) (za_mk (fun s => zg_dv ip (zg_gt ns b_table (zn_vl sg dr pr po nt R)) s (zn_nc sg c t)) ns)) (2 ^ sg t)) 0 (fun z => ?_) (fun z => ?_) hx rfl
    · exact go false _ (by rw [Bool.or_false]) (bne_eq_false_iff_eq.mpr z) cdn f_primeTotal a_implicant a_cubeCodes a_primeCube a_primeTail a_pick a_picked a_coverPrimes a_coverLength a_coverCells a_coverCodes hC
    · exact go true _ (by rw [Bool.or_true]; rfl) (bne_iff_ne.mpr z) cdn f_primeTotal a_implicant a_cubeCodes a_primeCube a_primeTail a_pick a_picked a_coverPrimes a_coverLength a_coverCells a_coverCodes hC
/-- the component's way to say hazard -/
def zx_s6 (sg pr : Nat → Nat) (ip : Nat → Bool) (gt : Nat → Nat) (ns k m c : Nat) : Bool := za_an (fun t => zg_k sg pr ip gt m c t && (za_nd (za_nd (za_mk (fun s => zg_dv ip gt s c) ns) (za_mk (fun s => zg_dv ip gt s (zn_nc sg c t)) ns)) (2 ^ sg t) != 0)) k
theorem zg_he_lt {s m : Nat} (H : zn_N ns nt sg dr pr po b_sig b_dir b_pre b_post) (h : zg_he sg pr nt s m = true) : s < ns := by
  obtain ⟨t, ht, hh⟩ := za_an_t.mp h
  rw [Bool.and_eq_true, beq_iff_eq] at hh
  rw [← hh.1]; exact (H.2.2 t ht).2.1
theorem zx_h5 {gt : Nat → Nat} {m c E : Nat} (hE : ∀ s, E.testBit s = zg_he sg pr nt s m) : (za_nd (za_mk (fun s => zg_dv ip gt s c) ns) E != 0) = zg_s5 sg pr ip gt ns nt m c := by
  apply za_beq
  unfold zg_s5
  rw [bne_iff_ne, za_n0, za_an_t]
  constructor
  · rintro ⟨s, h⟩
    rw [za_nd_tb, za_mk_tb, hE] at h
    simp only [Bool.and_eq_true, decide_eq_true_eq] at h
    exact ⟨s, h.1.1, by rw [h.1.2, h.2]; rfl⟩
  · rintro ⟨s, hs, h⟩
    rw [Bool.and_eq_true] at h
    refine ⟨s, ?_⟩
    rw [za_nd_tb, za_mk_tb, hE, decide_eq_true hs, h.1, h.2]; rfl
theorem zx_h7 {gt : Nat → Nat} {m c E : Nat} (H : zn_N ns nt sg dr pr po b_sig b_dir b_pre b_post) (hip : ∀ s, s < ns → im.testBit s = ip s) (hE : ∀ s, E.testBit s = zg_he sg pr nt s m) : ((za_mk (fun s => zg_dv ip gt s c) ns == 0) && ((E != 0) && (E &&& im == 0))) = zg_s7 sg pr ip gt ns nt m c := by
  apply za_beq
  unfold zg_s7
  rw [Bool.and_eq_true, Bool.and_eq_true, beq_iff_eq, bne_iff_ne, beq_iff_eq, za_0, za_n0, za_0, Bool.and_eq_true, Bool.not_eq_true', za_an_f, za_an_t]
  constructor
  · rintro ⟨h1, ⟨s, h2⟩, h3⟩
    rw [hE] at h2
    refine ⟨fun j hj => ?_, s, zg_he_lt H h2, h2⟩
    have a := h1 j
    rw [za_mk_tb, decide_eq_true hj, Bool.true_and] at a
    have b := h3 j
    rw [Nat.testBit_and, hE, hip j hj] at b
    rw [a, b]; rfl
  · rintro ⟨h1, s, hs, h2⟩
    refine ⟨fun j => ?_, ⟨s, by rw [hE]; exact h2⟩, fun j => ?_⟩
    · rw [za_mk_tb]
      rcases Nat.lt_or_ge j ns with z | z
      · have := h1 j z
        rw [Bool.or_eq_false_iff] at this
        rw [this.1]; simp
      · rw [decide_eq_false (by omega)]; rfl
    · rw [Nat.testBit_and, hE]
      cases e : zg_he sg pr nt j m
      · rfl
      · have hj := zg_he_lt H e
        have := h1 j hj
        rw [Bool.or_eq_false_iff, e, Bool.true_and] at this
        rw [hip j hj, this.2]; rfl
theorem zx_visit {post : SX → Prop} {st e : Nat} {p0 p1 p2 : Nat → Prop} (H : zn_N ns nt sg dr pr po b_sig b_dir b_pre b_post) (hi : im < 16) (hip : ∀ s, s < ns → im.testBit s = ip s) (hT : zx_T sg dr pr po nt (fun st => R st = true) a_codeMet a_excitedSome a_excitedAll) (hTb : zg_T b_table) (hC : zx_C ns (zn_vl sg dr pr po nt R) cdn a_coverPrimes a_coverLength a_coverCells a_coverCodes) (hs : st < 1024) (hq : zx_Q a_metBits a_queue e) (hL0 : zn_Lf p0 (a_leastFailure 0)) (hL1 : zn_Lf p1 (a_leastFailure 1)) (hL2 : zn_Lf p2 (a_leastFailure 2))
    (h : ∀ (cdn : Nat) (f_primeTotal : Int32) (a_implicant a_cubeCodes a_primeCube a_primeTail a_pick a_picked a_coverPrimes a_coverLength a_coverCells a_coverCodes : Nat → Int32), zx_C ns (zn_vl sg dr pr po nt R) cdn a_coverPrimes a_coverLength a_coverCells a_coverCodes → ∀ (bits : Nat → Int64) (q : Nat → Int32) (e' : Nat) (lf : Nat → Int32), zx_Eg (zg_g sg pr ip (zg_gt ns b_table (zn_vl sg dr pr po nt R)) st) (zn_t sg pr po st) nt a_metBits a_queue e bits q e' → zn_Lf (fun s => p0 s ∨ (s = st ∧ zg_s5 sg pr ip (zg_gt ns b_table (zn_vl sg dr pr po nt R)) ns nt (st / 16) (st % 16) = true)) (lf 0) → zn_Lf (fun s => p1 s ∨ (s = st ∧ zx_s6 sg pr ip (zg_gt ns b_table (zn_vl sg dr pr po nt R)) ns nt (st / 16) (st % 16) = true)) (lf 1) → zn_Lf (fun s => p2 s ∨ (s = st ∧ zg_s7 sg pr ip (zg_gt ns b_table (zn_vl sg dr pr po nt R)) ns nt (st / 16) (st % 16) = true)) (lf 2) → post (f_placeCount, (nI ns), (nI nt), (nI im), (nI sm), (nI sc), f_verdictNow, f_stateCount, f_unsafeMet, f_inconsistentMet, nI e', f_primeTotal, nI cdn, f_circuitDone, f_metCount, b_sig, b_dir, b_pre, b_post, a_stateBits, q, a_codeMet, a_excitedSome, a_excitedAll, a_implicant, a_cubeCodes, a_primeCube, a_primeTail, a_pick, a_picked, a_coverPrimes, a_coverLength, a_coverCells, a_coverCodes, b_table, bits, lf)) :
    wpX_visit post (f_placeCount, (nI ns), (nI nt), (nI im), (nI sm), (nI sc), f_verdictNow, f_stateCount, f_unsafeMet, f_inconsistentMet, nI e, f_primeTotal, nI cdn, f_circuitDone, f_metCount, b_sig, b_dir, b_pre, b_post, a_stateBits, a_queue, a_codeMet, a_excitedSome, a_excitedAll, a_implicant, a_cubeCodes, a_primeCube, a_primeTail, a_pick, a_picked, a_coverPrimes, a_coverLength, a_coverCells, a_coverCodes, b_table, a_metBits, a_leastFailure) (nI st) := by
  have h12 := H.2.1
  have h4 := H.1
  have hD := Nat.lt_of_lt_of_le (za_mk_lt (fun s => zg_dv ip (zg_gt ns b_table (zn_vl sg dr pr po nt R)) s (st % 16)) ns) (za_p4 h4.2)
  refine nm_r (za_d16 hs) (nm_r (za_m16 hs) ?_)
  refine zx_drivenAt h4.2 (by omega) hi hip hT hTb hC (fun cdn f_primeTotal a_implicant a_cubeCodes a_primeCube a_primeTail a_pick a_picked a_coverPrimes a_coverLength a_coverCells a_coverCodes hC => ?_)
  have key : ∀ d t, t + d = nt → ∀ (cdn : Nat) (f_primeTotal : Int32) (a_implicant a_cubeCodes a_primeCube a_primeTail a_pick a_picked a_coverPrimes a_coverLength a_coverCells a_coverCodes : Nat → Int32), zx_C ns (zn_vl sg dr pr po nt R) cdn a_coverPrimes a_coverLength a_coverCells a_coverCodes → ∀ (bits : Nat → Int64) (q : Nat → Int32) (e' E : Nat), zx_Eg (zg_g sg pr ip (zg_gt ns b_table (zn_vl sg dr pr po nt R)) st) (zn_t sg pr po st) t a_metBits a_queue e bits q e' → E < 16 → (∀ s, E.testBit s = zg_he sg pr t s (st / 16)) → wX_visit_25 post (nI st) (nI (st / 16)) (nI (st % 16)) (nI (za_mk (fun s => zg_dv ip (zg_gt ns b_table (zn_vl sg dr pr po nt R)) s (st % 16)) ns)) (d + 1) (nI E) (za_b (zx_s6 sg pr ip (zg_gt ns b_table (zn_vl sg dr pr po nt R)) ns t (st / 16) (st % 16))) (nI t) f_placeCount (nI ns) (nI nt) (nI im) (nI sm) (nI sc) f_verdictNow f_stateCount f_unsafeMet f_inconsistentMet (nI e') f_primeTotal (nI cdn) f_circuitDone f_metCount b_sig b_dir b_pre b_post a_stateBits q a_codeMet a_excitedSome a_excitedAll a_implicant a_cubeCodes a_primeCube a_primeTail a_pick a_picked a_coverPrimes a_coverLength a_coverCells a_coverCodes b_table bits a_leastFailure := by
    intro d
    induction d with
    | zero =>
      intro t ht cdn f_primeTotal a_implicant a_cubeCodes a_primeCube a_primeTail a_pick a_picked a_coverPrimes a_coverLength a_coverCells a_coverCodes hC bits q e' E hx hE hEb
      have : t = nt := by omega
      subst this
      refine zx_vi_e h12 hs hD hE hL0 hL1 hL2 (fun lf l0 l1 l2 => ?_)
      rw [zx_h5 hEb] at l0
      rw [zx_h7 H hip hEb] at l2
      exact h cdn f_primeTotal a_implicant a_cubeCodes a_primeCube a_primeTail a_pick a_picked a_coverPrimes a_coverLength a_coverCells a_coverCodes hC bits q e' lf hx l0 l1 l2
    | succ d ih =>
      intro t ht cdn f_primeTotal a_implicant a_cubeCodes a_primeCube a_primeTail a_pick a_picked a_coverPrimes a_coverLength a_coverCells a_coverCodes hC bits q e' E hx hE hEb
      have hsg := (H.2.2 t (by omega)).2.1
      have ih1 := ih (t + 1) (by omega)
      have e6 : zx_s6 sg pr ip (zg_gt ns b_table (zn_vl sg dr pr po nt R)) ns (t + 1) (st / 16) (st % 16) = (zx_s6 sg pr ip (zg_gt ns b_table (zn_vl sg dr pr po nt R)) ns t (st / 16) (st % 16) || (zg_k sg pr ip (zg_gt ns b_table (zn_vl sg dr pr po nt R)) (st / 16) (st % 16) t && (za_nd (za_nd (za_mk (fun s => zg_dv ip (zg_gt ns b_table (zn_vl sg dr pr po nt R)) s (st % 16)) ns) (za_mk (fun s => zg_dv ip (zg_gt ns b_table (zn_vl sg dr pr po nt R)) s (zn_nc sg (st % 16) t)) ns)) (2 ^ sg t) != 0))) := rfl
      have eX : ∀ s, zg_he sg pr (t + 1) s (st / 16) = (zg_he sg pr t s (st / 16) || ((sg t == s) && zn_en pr (st / 16) t)) := fun s => rfl
      rw [e6] at ih1
      have hEn : E ||| 2 ^ sg t < 16 := Nat.or_lt_two_pow (n := 4) hE (Nat.pow_lt_pow_right (by omega) (by omega))
      have hEs : zn_en pr (st / 16) t = true → ∀ s, (E ||| 2 ^ sg t).testBit s = zg_he sg pr (t + 1) s (st / 16) := fun he s => by
        rw [eX, he, Nat.testBit_or, hEb s, Nat.testBit_two_pow, Bool.and_true]
        by_cases e : sg t = s
        · rw [decide_eq_true e, beq_iff_eq.mpr e]
        · rw [decide_eq_false e, beq_eq_false_iff_ne.mpr e]
      refine zx_vi_b H hi hip hT hTb hC (by omega) (by omega) (by omega) hx.1 (fun he => ?_) (fun he hk => ?_) (fun he hk cdn f_primeTotal a_implicant a_cubeCodes a_primeCube a_primeTail a_pick a_picked a_coverPrimes a_coverLength a_coverCells a_coverCodes hC bits' q' e'' a b c' d' => ?_)
      · have hk : zg_k sg pr ip (zg_gt ns b_table (zn_vl sg dr pr po nt R)) (st / 16) (st % 16) t = false := by unfold zg_k; rw [he]; rfl
        rw [hk, Bool.false_and, Bool.or_false] at ih1
        exact ih1 cdn f_primeTotal a_implicant a_cubeCodes a_primeCube a_primeTail a_pick a_picked a_coverPrimes a_coverLength a_coverCells a_coverCodes hC bits q e' E (zx_Eg_no hx hk) hE (fun s => by rw [eX, he, hEb s]; simp)
      · rw [hk, Bool.false_and, Bool.or_false] at ih1
        exact ih1 cdn f_primeTotal a_implicant a_cubeCodes a_primeCube a_primeTail a_pick a_picked a_coverPrimes a_coverLength a_coverCells a_coverCodes hC bits q e' _ (zx_Eg_no hx hk) hEn (hEs he)
      · rw [hk, Bool.true_and] at ih1
        exact ih1 cdn f_primeTotal a_implicant a_cubeCodes a_primeCube a_primeTail a_pick a_picked a_coverPrimes a_coverLength a_coverCells a_coverCodes hC bits' q' e'' _ (zx_Eg_yes hx hk a b c' d') hEn (hEs he)
  exact ⟨_, key nt 0 (by omega) cdn f_primeTotal a_implicant a_cubeCodes a_primeCube a_primeTail a_pick a_picked a_coverPrimes a_coverLength a_coverCells a_coverCodes hC a_metBits a_queue e 0 (zx_Eg_0 hq) (by omega) (fun s => Nat.zero_testBit s)⟩
/-- the state of the circuit's walk with h states done -/
def zx_R (g : Nat → Nat → Bool) (τ : Nat → Nat → Nat) (s5 s6 s7 : Nat → Bool) (nt s0 h e : Nat) (bits : Nat → Int64) (q : Nat → Int32) (lf : Nat → Int32) : Prop :=
  zx_Q bits q e ∧ h ≤ e ∧ za_v bits s0 = true ∧
  (∀ Q : Nat → Prop, Q s0 → zn_Cl g τ nt Q → ∀ st, st < 1024 → za_v bits st = true → Q st) ∧
  (∀ j st, j < h → st < 1024 → q j = nI st → ∀ t, t < nt → g st t = true → za_v bits (τ st t) = true) ∧
  zn_Lf (fun st => (∃ j, j < h ∧ q j = nI st) ∧ s5 st = true) (lf 0) ∧
  zn_Lf (fun st => (∃ j, j < h ∧ q j = nI st) ∧ s6 st = true) (lf 1) ∧
  zn_Lf (fun st => (∃ j, j < h ∧ q j = nI st) ∧ s7 st = true) (lf 2)
theorem zn_Lf_d {p q : Nat → Prop} (e : ∀ st, st < 1024 → (p st ↔ q st)) {x : Int32} (h : zn_Lf p x) : zn_Lf q x := by
  rcases h with ⟨a, b⟩ | ⟨st, a, b, c, d⟩
  · exact Or.inl ⟨a, fun st hs z => b st hs ((e st hs).mpr z)⟩
  · exact Or.inr ⟨st, a, b, (e st a).mp c, fun j hj z => d j hj ((e j (by omega)).mpr z)⟩
theorem zx_R_s {g : Nat → Nat → Bool} {τ : Nat → Nat → Nat} {s5 s6 s7 : Nat → Bool} {s0 h e e' st : Nat} {bits bits' : Nat → Int64} {q q' lf lf' : Nat → Int32} (w : zx_R g τ s5 s6 s7 nt s0 h e bits q lf) (hh : h < e) (hs : st < 1024) (hq : q h = nI st) (hx : zx_Eg (g st) (τ st) nt bits q e bits' q' e')
    (l0 : zn_Lf (fun s => ((∃ j, j < h ∧ q j = nI s) ∧ s5 s = true) ∨ (s = st ∧ s5 st = true)) (lf' 0)) (l1 : zn_Lf (fun s => ((∃ j, j < h ∧ q j = nI s) ∧ s6 s = true) ∨ (s = st ∧ s6 st = true)) (lf' 1)) (l2 : zn_Lf (fun s => ((∃ j, j < h ∧ q j = nI s) ∧ s7 s = true) ∨ (s = st ∧ s7 st = true)) (lf' 2)) : zx_R g τ s5 s6 s7 nt s0 (h + 1) e' bits' q' lf' := by
  obtain ⟨w1, w2, w3, w4, w5, _, _, _⟩ := w
  obtain ⟨x1, x2, x3, x4, x5, x6⟩ := hx
  have vst : za_v bits st = true := by
    obtain ⟨s, a, b, c⟩ := w1.2.1 h hh
    rw [hq] at b
    rw [nI_eq (by omega) (by omega)] at b
    rw [b]; exact c
  have hD : ∀ s, s < 1024 → ((∃ j, j < h + 1 ∧ q' j = nI s) ↔ (∃ j, j < h ∧ q j = nI s) ∨ s = st) := by
    intro s hs2
    constructor
    · rintro ⟨j, a, b⟩
      rw [x3 j (by omega)] at b
      by_cases z : j = h
      · rw [z, hq, nI_eq (by omega) (by omega)] at b
        exact Or.inr b.symm
      · exact Or.inl ⟨j, by omega, b⟩
    · rintro (⟨j, a, b⟩ | z)
      · exact ⟨j, by omega, by rw [x3 j (by omega)]; exact b⟩
      · exact ⟨h, by omega, by rw [x3 h hh, z]; exact hq⟩
  have hL : ∀ (sh : Nat → Bool) (x : Int32), zn_Lf (fun s => ((∃ j, j < h ∧ q j = nI s) ∧ sh s = true) ∨ (s = st ∧ sh st = true)) x → zn_Lf (fun s => (∃ j, j < h + 1 ∧ q' j = nI s) ∧ sh s = true) x := by
    intro sh x l
    refine zn_Lf_d (fun s hs2 => ?_) l
    rw [hD s hs2]
    constructor
    · rintro (⟨a, b⟩ | ⟨a, b⟩)
      · exact ⟨Or.inl a, b⟩
      · exact ⟨Or.inr a, by rw [a]; exact b⟩
    · rintro ⟨a | a, b⟩
      · exact Or.inl ⟨a, b⟩
      · exact Or.inr ⟨a, by rw [← a]; exact b⟩
  refine ⟨x1, by omega, x4 _ w3, fun Q q0 qc s hs2 hv => ?_, fun j s hj hs2 hjs t ht hg => ?_, hL _ _ l0, hL _ _ l1, hL _ _ l2⟩
  · rcases x5 s hv with z | ⟨t, a, b, c⟩
    · exact w4 Q q0 qc s hs2 z
    · rw [c]; exact qc st t hs a (w4 Q q0 qc st hs vst) b
  · rcases (hD s hs2).mp ⟨j, hj, hjs⟩ with ⟨j2, a, b⟩ | z
    · exact x4 _ (w5 j2 s a hs2 b t ht hg)
    · subst z; exact x6 t ht hg
theorem zx_R_e {g : Nat → Nat → Bool} {τ : Nat → Nat → Nat} {s5 s6 s7 : Nat → Bool} {s0 e : Nat} {bits : Nat → Int64} {q lf : Nat → Int32} (w : zx_R g τ s5 s6 s7 nt s0 e e bits q lf) :
    zn_Ls g τ nt s0 (za_v bits) ∧ e = za_c (za_v bits) 1024 ∧ zn_Lf (fun st => za_v bits st = true ∧ s5 st = true) (lf 0) ∧ zn_Lf (fun st => za_v bits st = true ∧ s6 st = true) (lf 1) ∧ zn_Lf (fun st => za_v bits st = true ∧ s7 st = true) (lf 2) := by
  obtain ⟨w1, w2, w3, w4, w5, w6, w7, w8⟩ := w
  have hD : ∀ st, st < 1024 → (za_v bits st = true ↔ ∃ j, j < e ∧ q j = nI st) := by
    intro st hs
    constructor
    · exact w1.2.2 st hs
    · rintro ⟨j, a, b⟩
      obtain ⟨s, c, d, f⟩ := w1.2.1 j a
      rw [b, nI_eq (by omega) (by omega)] at d
      rw [d]; exact f
  refine ⟨⟨w3, fun st t hs ht hv hg => ?_, w4⟩, w1.1, zn_Lf_d (fun st hs => by rw [hD st hs]) w6, zn_Lf_d (fun st hs => by rw [hD st hs]) w7, zn_Lf_d (fun st hs => by rw [hD st hs]) w8⟩
  obtain ⟨j, a, b⟩ := (hD st hs).mp hv
  exact w5 j st a hs b t ht hg
theorem zx_rc72 {post : SX → Prop} (H : zn_N ns nt sg dr pr po b_sig b_dir b_pre b_post) (hi : im < 16) (hip : ∀ s, s < ns → im.testBit s = ip s) (hT : zx_T sg dr pr po nt (fun st => R st = true) a_codeMet a_excitedSome a_excitedAll) (hTb : zg_T b_table)
    (hp : ∀ (cdn : Nat) (f_primeTotal : Int32) (a_implicant a_cubeCodes a_primeCube a_primeTail a_pick a_picked a_coverPrimes a_coverLength a_coverCells a_coverCodes : Nat → Int32), zx_C ns (zn_vl sg dr pr po nt R) cdn a_coverPrimes a_coverLength a_coverCells a_coverCodes → ∀ (bits : Nat → Int64) (q : Nat → Int32) (e : Nat) (lf : Nat → Int32), zx_R (zg_g sg pr ip (zg_gt ns b_table (zn_vl sg dr pr po nt R))) (zn_t sg pr po) (fun st => zg_s5 sg pr ip (zg_gt ns b_table (zn_vl sg dr pr po nt R)) ns nt (st / 16) (st % 16)) (fun st => zx_s6 sg pr ip (zg_gt ns b_table (zn_vl sg dr pr po nt R)) ns nt (st / 16) (st % 16)) (fun st => zg_s7 sg pr ip (zg_gt ns b_table (zn_vl sg dr pr po nt R)) ns nt (st / 16) (st % 16)) nt (16 * sm + sc) e e bits q lf → post (f_placeCount, (nI ns), (nI nt), (nI im), (nI sm), (nI sc), f_verdictNow, f_stateCount, f_unsafeMet, f_inconsistentMet, nI e, f_primeTotal, nI cdn, 1, nI e, b_sig, b_dir, b_pre, b_post, a_stateBits, q, a_codeMet, a_excitedSome, a_excitedAll, a_implicant, a_cubeCodes, a_primeCube, a_primeTail, a_pick, a_picked, a_coverPrimes, a_coverLength, a_coverCells, a_coverCodes, b_table, bits, lf)) :
    ∀ d h, h + d = 1025 → ∀ (cdn : Nat) (f_primeTotal : Int32) (a_implicant a_cubeCodes a_primeCube a_primeTail a_pick a_picked a_coverPrimes a_coverLength a_coverCells a_coverCodes : Nat → Int32), zx_C ns (zn_vl sg dr pr po nt R) cdn a_coverPrimes a_coverLength a_coverCells a_coverCodes → ∀ (bits : Nat → Int64) (q : Nat → Int32) (e : Nat) (lf : Nat → Int32), zx_R (zg_g sg pr ip (zg_gt ns b_table (zn_vl sg dr pr po nt R))) (zn_t sg pr po) (fun st => zg_s5 sg pr ip (zg_gt ns b_table (zn_vl sg dr pr po nt R)) ns nt (st / 16) (st % 16)) (fun st => zx_s6 sg pr ip (zg_gt ns b_table (zn_vl sg dr pr po nt R)) ns nt (st / 16) (st % 16)) (fun st => zg_s7 sg pr ip (zg_gt ns b_table (zn_vl sg dr pr po nt R)) ns nt (st / 16) (st % 16)) nt (16 * sm + sc) h e bits q lf → wX_runCircuit_72 post (d + 1) (nI h) f_placeCount (nI ns) (nI nt) (nI im) (nI sm) (nI sc) f_verdictNow f_stateCount f_unsafeMet f_inconsistentMet (nI e) f_primeTotal (nI cdn) f_circuitDone f_metCount b_sig b_dir b_pre b_post a_stateBits q a_codeMet a_excitedSome a_excitedAll a_implicant a_cubeCodes a_primeCube a_primeTail a_pick a_picked a_coverPrimes a_coverLength a_coverCells a_coverCodes b_table bits lf := by
  intro d
  induction d with
  | zero =>
    intro h hh cdn f_primeTotal a_implicant a_cubeCodes a_primeCube a_primeTail a_pick a_picked a_coverPrimes a_coverLength a_coverCells a_coverCodes hC bits q e lf w
    have := zx_Q_le w.1
    have := w.2.1
    omega
  | succ d ih =>
    intro h hh cdn f_primeTotal a_implicant a_cubeCodes a_primeCube a_primeTail a_pick a_picked a_coverPrimes a_coverLength a_coverCells a_coverCodes hC bits q e lf w
    have hle := zx_Q_le w.1
    have hhe := w.2.1
    refine pk_le e h (fun z => ?_) (fun z => br_f (nI_ge (b := 1024) (by omega) (by omega)) ?_)
    · have : h = e := by omega
      subst this
      unfold wX_runCircuit_105
      exact hp cdn f_primeTotal a_implicant a_cubeCodes a_primeCube a_primeTail a_pick a_picked a_coverPrimes a_coverLength a_coverCells a_coverCodes hC bits q h lf w
    · obtain ⟨st, hs, hq, hv⟩ := w.1.2.1 h z
      refine And.intro (vp_in_nI (by omega) (by omega)) (nm_r (e' := nI st) (by rw [nI_clamp (by omega)]; exact hq) (nm_r (nI_1 h) ?_))
      exact zx_visit H hi hip hT hTb hC hs w.1 w.2.2.2.2.2.1 w.2.2.2.2.2.2.1 w.2.2.2.2.2.2.2 (fun cdn f_primeTotal a_implicant a_cubeCodes a_primeCube a_primeTail a_pick a_picked a_coverPrimes a_coverLength a_coverCells a_coverCodes hC bits' q' e' lf' hx l0 l1 l2 => ih (h + 1) (by omega) cdn f_primeTotal a_implicant a_cubeCodes a_primeCube a_primeTail a_pick a_picked a_coverPrimes a_coverLength a_coverCells a_coverCodes hC bits' q' e' lf' (zx_R_s w z hs hq hx l0 l1 l2))
theorem zx_runCircuit {post : SX → Prop} (H : zn_N ns nt sg dr pr po b_sig b_dir b_pre b_post) (hi : im < 16) (hip : ∀ s, s < ns → im.testBit s = ip s) (hT : zx_T sg dr pr po nt (fun st => R st = true) a_codeMet a_excitedSome a_excitedAll) (hTb : zg_T b_table) (hC : zx_C ns (zn_vl sg dr pr po nt R) cdn a_coverPrimes a_coverLength a_coverCells a_coverCodes) (hm : sm < 64) (hc : sc < 16) (h0 : f_circuitDone = 0)
    (hp : ∀ (cdn : Nat) (f_primeTotal : Int32) (a_implicant a_cubeCodes a_primeCube a_primeTail a_pick a_picked a_coverPrimes a_coverLength a_coverCells a_coverCodes : Nat → Int32), zx_C ns (zn_vl sg dr pr po nt R) cdn a_coverPrimes a_coverLength a_coverCells a_coverCodes → ∀ (bits : Nat → Int64) (q : Nat → Int32) (e : Nat) (lf : Nat → Int32), zx_R (zg_g sg pr ip (zg_gt ns b_table (zn_vl sg dr pr po nt R))) (zn_t sg pr po) (fun st => zg_s5 sg pr ip (zg_gt ns b_table (zn_vl sg dr pr po nt R)) ns nt (st / 16) (st % 16)) (fun st => zx_s6 sg pr ip (zg_gt ns b_table (zn_vl sg dr pr po nt R)) ns nt (st / 16) (st % 16)) (fun st => zg_s7 sg pr ip (zg_gt ns b_table (zn_vl sg dr pr po nt R)) ns nt (st / 16) (st % 16)) nt (16 * sm + sc) e e bits q lf → post (f_placeCount, (nI ns), (nI nt), (nI im), (nI sm), (nI sc), f_verdictNow, f_stateCount, f_unsafeMet, f_inconsistentMet, nI e, f_primeTotal, nI cdn, 1, nI e, b_sig, b_dir, b_pre, b_post, a_stateBits, q, a_codeMet, a_excitedSome, a_excitedAll, a_implicant, a_cubeCodes, a_primeCube, a_primeTail, a_pick, a_picked, a_coverPrimes, a_coverLength, a_coverCells, a_coverCodes, b_table, bits, lf)) : wpX_runCircuit post (f_placeCount, (nI ns), (nI nt), (nI im), (nI sm), (nI sc), f_verdictNow, f_stateCount, f_unsafeMet, f_inconsistentMet, f_queueEnd, f_primeTotal, nI cdn, f_circuitDone, f_metCount, b_sig, b_dir, b_pre, b_post, a_stateBits, a_queue, a_codeMet, a_excitedSome, a_excitedAll, a_implicant, a_cubeCodes, a_primeCube, a_primeTail, a_pick, a_picked, a_coverPrimes, a_coverLength, a_coverCells, a_coverCodes, b_table, a_metBits, a_leastFailure) := by
  have hs0 : 16 * sm + sc < 1024 := by omega
  have k31 : ∀ a_metBits : Nat → Int64, (∀ j, j < 16 → a_metBits j = 0) → ∀ d k, k + d = 3 → ∀ a_leastFailure : Nat → Int32, (∀ j, j < k → a_leastFailure j = -1) → wX_runCircuit_31 post f_placeCount (nI ns) (nI nt) (nI im) (nI sm) (nI sc) f_verdictNow f_stateCount f_unsafeMet f_inconsistentMet f_queueEnd f_primeTotal (nI cdn) f_circuitDone f_metCount (d + 1) (nI k) b_sig b_dir b_pre b_post a_stateBits a_queue a_codeMet a_excitedSome a_excitedAll a_implicant a_cubeCodes a_primeCube a_primeTail a_pick a_picked a_coverPrimes a_coverLength a_coverCells a_coverCodes b_table a_metBits a_leastFailure := by
    intro a_metBits hz d
    induction d with
    | zero =>
      intro k hk a_leastFailure hl
      have : k = 3 := by omega
      subst this
      refine br_t (nI_le (Nat.le_refl _) (by omega)) ?_
      rw [za_16]
      have v0 : ∀ st, st < 1024 → za_v a_metBits st = false := fun st hs => by
        unfold za_v
        rw [hz (st / 64) (by omega)]
        exact BitVec.getLsbD_zero
      have q0 : zx_Q a_metBits a_queue 0 := ⟨(za_c_0.mpr v0).symm, fun i hi => absurd hi (by omega), fun st hs hv => by rw [v0 st hs] at hv; exact absurd hv (by decide)⟩
      refine zx_meet (e := 0) hs0 q0 (fun bits q e' a b c d => ⟨1026, ?_⟩)
      have hlf : ∀ (sh : Nat → Bool) k, k < 3 → zn_Lf (fun st => (∃ j, j < 0 ∧ q j = nI st) ∧ sh st = true) (a_leastFailure k) := fun sh k hk => Or.inl ⟨hl k hk, fun st _ ⟨⟨j, hj, _⟩, _⟩ => absurd hj (by omega)⟩
      refine zx_rc72 H hi hip hT hTb hp 1025 0 (by omega) cdn f_primeTotal a_implicant a_cubeCodes a_primeCube a_primeTail a_pick a_picked a_coverPrimes a_coverLength a_coverCells a_coverCodes hC bits q e' a_leastFailure ⟨a, Nat.zero_le _, by rw [b]; exact zn_ad_s _ _, fun Q q0 _ st hs hv => ?_, fun j st hj => absurd hj (by omega), hlf _ 0 (by omega), hlf _ 1 (by omega), hlf _ 2 (by omega)⟩
      rw [b] at hv
      rcases zn_ad_e hv with z | z
      · rw [v0 st hs] at z; exact absurd z (by decide)
      · rw [z]; exact q0
    | succ d ih =>
      intro k hk a_leastFailure hl
      refine br_f (nI_ge (b := 3) (by omega) (by omega)) (And.intro (vp_in_nI (by omega) (by omega)) (nm_r (e' := upd a_leastFailure k (-1)) (by rw [nI_clamp (by omega)]) (nm_r (nI_1 k) (ih (k + 1) (by omega) _ (fun j hj => ?_)))))
      by_cases e : j = k
      · rw [e, pk_us]
      · rw [pk_un e]; exact hl j (by omega)
  have k10 : ∀ d k, k + d = 16 → ∀ a_metBits : Nat → Int64, (∀ j, j < k → a_metBits j = 0) → wX_runCircuit_10 post f_placeCount (nI ns) (nI nt) (nI im) (nI sm) (nI sc) f_verdictNow f_stateCount f_unsafeMet f_inconsistentMet f_queueEnd f_primeTotal (nI cdn) f_circuitDone f_metCount (d + 1) (nI k) b_sig b_dir b_pre b_post a_stateBits a_queue a_codeMet a_excitedSome a_excitedAll a_implicant a_cubeCodes a_primeCube a_primeTail a_pick a_picked a_coverPrimes a_coverLength a_coverCells a_coverCodes b_table a_metBits a_leastFailure := by
    intro d
    induction d with
    | zero =>
      intro k hk a_metBits hz
      have : k = 16 := by omega
      subst this
      exact br_t (nI_le (Nat.le_refl _) (by omega)) ⟨_, k31 a_metBits hz 3 0 (by omega) a_leastFailure (fun j hj => absurd hj (by omega))⟩
    | succ d ih =>
      intro k hk a_metBits hz
      refine br_f (nI_ge (b := 16) (by omega) (by omega)) (And.intro (vp_in_nI (by omega) (by omega)) (nm_r (e' := vp_updL a_metBits k 0) (by rw [nI_clamp (by omega)]) (nm_r (nI_1 k) (ih (k + 1) (by omega) _ (fun j hj => ?_)))))
      by_cases e : j = k
      · rw [e, pk_uLs]
      · rw [pk_uLn e]; exact hz j (by omega)
  exact br_t h0 ⟨_, k10 16 0 (by omega) a_metBits (fun j hj => absurd hj (by omega))⟩
end
end
section
/-! ===== where the two sides meet ===== -/
section
variable {ns nt im sm sc : Nat} {sg : Nat → Nat} {dr : Nat → Bool} {pr po : Nat → Nat} {R V : Nat → Bool} {ip : Nat → Bool} {gt : Nat → Nat}
theorem zr_A (e : ∀ st, st < 1024 → V st = R st) {c : Nat} (hc : c < 16) : zn_A V c = zn_A R c := za_c_eq (fun m hm => e _ (by omega))
theorem zr_E (e : ∀ st, st < 1024 → V st = R st) {s c : Nat} (hc : c < 16) : zn_E sg dr pr po nt V s c = zn_E sg dr pr po nt R s c := za_c_eq (fun m hm => by
  show (V (16 * m + c) && _) = (R (16 * m + c) && _)
  rw [e _ (by omega)])
theorem zr_vl (e : ∀ st, st < 1024 → V st = R st) {s c : Nat} (hc : c < 16) : zn_vl sg dr pr po nt V s c = zn_vl sg dr pr po nt R s c := by
  unfold zn_vl
  rw [zr_A e hc, zr_E e hc]
theorem zr_U (e : ∀ st, st < 1024 → V st = R st) : zn_U pr po nt V = zn_U pr po nt R := za_an_eq (fun st hs => za_an_eq (fun t _ => by rw [e st hs]))
theorem zr_Q (e : ∀ st, st < 1024 → V st = R st) : zn_Q sg dr pr nt V = zn_Q sg dr pr nt R := za_an_eq (fun st hs => za_an_eq (fun t _ => by rw [e st hs]))
theorem zr_Cf {p q : Nat → Nat → Prop} {x : Int32} (e : ∀ s c, s < ns → c < 2 ^ ns → (p s c ↔ q s c)) (h : zn_Cf ns p x) : zn_Cf ns q x := by
  rcases h with ⟨a, b⟩ | ⟨s, c, hs, hc, hx, hp, h1, h2⟩
  · exact Or.inl ⟨a, fun s c hs hc z => b s c hs hc ((e s c hs hc).mpr z)⟩
  · exact Or.inr ⟨s, c, hs, hc, hx, (e s c hs hc).mp hp, fun s' c' a b z => h1 s' c' a b ((e s' c' (by omega) b).mpr z), fun c' a z => h2 c' a ((e s c' hs (by omega)).mpr z)⟩
theorem zr_Vd {U Q : Bool} {F G : Int32 → Prop} {v : Nat} (e : ∀ x, F x → G x) (h : zn_Vd U Q F v) : zn_Vd U Q G v := by
  rcases h with h | h | ⟨a, b, x, hx, hv⟩
  · exact Or.inl h
  · exact Or.inr (Or.inl h)
  · exact Or.inr (Or.inr ⟨a, b, x, e x hx, hv⟩)
theorem zr_Vd_lt {U Q : Bool} {F : Int32 → Prop} {v : Nat} (h : zn_Vd U Q F v) : v < 5 ∧ v ≠ 0 ∧ (v = 1 → U = false ∧ Q = false) := by
  rcases h with ⟨a, b⟩ | ⟨a, b, c⟩ | ⟨a, b, x, hx, ⟨_, c⟩ | ⟨_, c⟩⟩
  · exact ⟨by omega, by omega, fun z => by omega⟩
  · exact ⟨by omega, by omega, fun z => by omega⟩
  · exact ⟨by omega, by omega, fun z => ⟨a, b⟩⟩
  · exact ⟨by omega, by omega, fun z => by omega⟩
/-- in a state of the net all that is enabled is clean -/
theorem zr_ok (hU : zn_U pr po nt R = false) (hQ : zn_Q sg dr pr nt R = false) {st t : Nat} (hs : st < 1024) (hr : R st = true) (ht : t < nt) (he : zn_en pr (st / 16) t = true) : zn_us pr po (st / 16) t = false ∧ zn_ic sg dr (st % 16) t = false := by
  have a := za_an_f.mp (za_an_f.mp hU st hs) t ht
  have b := za_an_f.mp (za_an_f.mp hQ st hs) t ht
  rw [hr, he, Bool.true_and, Bool.true_and] at a b
  exact ⟨a, b⟩
theorem zr_g (hU : zn_U pr po nt R = false) (hQ : zn_Q sg dr pr nt R = false) {st t : Nat} (hs : st < 1024) (hr : R st = true) (ht : t < nt) (hg : zg_g sg pr ip gt st t = true) : zn_g sg dr pr po st t = true ∧ zg_t sg dr pr po st t = zn_t sg pr po st t := by
  unfold zg_g zg_k at hg
  rw [Bool.and_eq_true] at hg
  obtain ⟨a, b⟩ := zr_ok hU hQ hs hr ht hg.1
  refine ⟨?_, ?_⟩
  · unfold zn_g zn_k; rw [hg.1, a, b]; rfl
  · unfold zg_t zn_t; rw [zn_yc_eq b]
theorem zr_M {s0 : Nat} {MX MY : Nat → Bool} (hU : zn_U pr po nt R = false) (hQ : zn_Q sg dr pr nt R = false) (hR : zn_Ls (zn_g sg dr pr po) (zn_t sg pr po) nt s0 R) (hX : zn_Ls (zg_g sg pr ip gt) (zn_t sg pr po) nt s0 MX) (hY : zn_Ls (zg_g sg pr ip gt) (zg_t sg dr pr po) nt s0 MY) : ∀ st, st < 1024 → MX st = MY st ∧ (MY st = true → R st = true) := by
  have y : ∀ st, st < 1024 → MY st = true → R st = true ∧ MX st = true := hY.2.2 (fun st => R st = true ∧ MX st = true) ⟨hR.1, hX.1⟩ (fun st t hs ht ⟨q1, q2⟩ hg => by
    obtain ⟨a, b⟩ := zr_g (ip := ip) (gt := gt) hU hQ hs q1 ht hg
    rw [b]
    exact ⟨hR.2.1 st t hs ht q1 a, hX.2.1 st t hs ht q2 hg⟩)
  have x : ∀ st, st < 1024 → MX st = true → R st = true ∧ MY st = true := hX.2.2 (fun st => R st = true ∧ MY st = true) ⟨hR.1, hY.1⟩ (fun st t hs ht ⟨q1, q2⟩ hg => by
    obtain ⟨a, b⟩ := zr_g (ip := ip) (gt := gt) hU hQ hs q1 ht hg
    refine ⟨hR.2.1 st t hs ht q1 a, ?_⟩
    have := hY.2.1 st t hs ht q2 hg
    rw [b] at this
    exact this)
  intro st hs
  exact ⟨za_beq ⟨fun z => (x st hs z).2, fun z => (y st hs z).2⟩, fun z => (y st hs z).1⟩
theorem zr_s6 {m c : Nat} (h : ∀ t, t < nt → zn_en pr m t = true → zn_yc sg dr c t = zn_nc sg c t) : zx_s6 sg pr ip gt ns nt m c = zg_s6 sg dr pr ip gt ns nt m c := by
  apply za_beq
  unfold zx_s6 zg_s6
  rw [za_an_t, za_an_t]
  have en : ∀ t, zg_k sg pr ip gt m c t = true → zn_en pr m t = true := fun t z => by
    unfold zg_k at z
    rw [Bool.and_eq_true] at z
    exact z.1
  constructor
  · rintro ⟨t, ht, k⟩
    rw [Bool.and_eq_true, bne_iff_ne, za_n0] at k
    obtain ⟨k1, s, k2⟩ := k
    rw [za_nd_tb, za_nd_tb, za_mk_tb, za_mk_tb, Nat.testBit_two_pow] at k2
    simp only [Bool.and_eq_true, decide_eq_true_eq, Bool.not_eq_true'] at k2
    obtain ⟨⟨⟨hs, a⟩, b⟩, d⟩ := k2
    rw [decide_eq_true hs, Bool.true_and] at b
    have ne : sg t ≠ s := of_decide_eq_false d
    refine ⟨s, hs, za_an_t.mpr ⟨t, ht, ?_⟩⟩
    rw [h t ht (en t k1), a, b, k1, bne_iff_ne.mpr ne]; rfl
  · rintro ⟨s, hs, k⟩
    obtain ⟨t, ht, k⟩ := za_an_t.mp k
    simp only [Bool.and_eq_true, bne_iff_ne, Bool.not_eq_true'] at k
    obtain ⟨a, b, k1, d⟩ := k
    rw [h t ht (en t k1)] at d
    refine ⟨t, ht, ?_⟩
    rw [k1, Bool.true_and, bne_iff_ne, za_n0]
    refine ⟨s, ?_⟩
    rw [za_nd_tb, za_nd_tb, za_mk_tb, za_mk_tb, Nat.testBit_two_pow_of_ne b, a, d, decide_eq_true hs]; rfl
end
section
variable {ns nt im sm sc : Nat} {sg : Nat → Nat} {dr : Nat → Bool} {pr po : Nat → Nat} {R : Nat → Bool} {ip : Nat → Bool} {cdn : Nat}
variable {b_sig b_dir b_pre b_post b_table : Nat → Int32}
variable {f_placeCount f_signalCount f_transitionCount f_inputSignals f_startMarking f_startCode f_verdictNow f_stateCount f_unsafeMet f_inconsistentMet f_queueEnd f_primeTotal f_coversDone f_circuitDone f_metCount : Int32} {a_transitionSignal a_transitionDirection a_transitionPre a_transitionPost a_queue a_codeMet a_excitedSome a_excitedAll a_implicant a_cubeCodes a_primeCube a_primeTail a_pick a_picked a_coverPrimes a_coverLength a_coverCells a_coverCodes a_givenTable a_leastFailure : Nat → Int32} {a_stateBits a_metBits : Nat → Int64}
theorem zx_explore {post : Int32 → SX → Prop} (H : zn_N ns nt sg dr pr po b_sig b_dir b_pre b_post) (hm : sm < 64) (hc : sc < 16) (hv : f_verdictNow = 0) (hi : im < 16) (hip : ∀ s, s < ns → im.testBit s = ip s)
    (h : ∀ (bits : Nat → Int64) (q : Nat → Int32) (e : Nat) (u i : Bool) (a_codeMet a_excitedSome a_excitedAll : Nat → Int32), zn_Ls (zn_g sg dr pr po) (zn_t sg pr po) nt (16 * sm + sc) (za_v bits) → e = za_c (za_v bits) 1024 → zx_T sg dr pr po nt (fun st => za_v bits st = true) a_codeMet a_excitedSome a_excitedAll → ∀ v, zn_Vd (zn_U pr po nt (za_v bits)) (zn_Q sg dr pr nt (za_v bits)) (zn_Cf ns (fun s c => ip s = false ∧ zn_vl sg dr pr po nt (za_v bits) s c = 3)) v → post (nI v) (f_placeCount, (nI ns), (nI nt), (nI im), (nI sm), (nI sc), nI v, nI e, za_b u, za_b i, nI e, f_primeTotal, f_coversDone, f_circuitDone, f_metCount, b_sig, b_dir, b_pre, b_post, bits, q, a_codeMet, a_excitedSome, a_excitedAll, a_implicant, a_cubeCodes, a_primeCube, a_primeTail, a_pick, a_picked, a_coverPrimes, a_coverLength, a_coverCells, a_coverCodes, b_table, a_metBits, a_leastFailure)) : wpX_explore post (f_placeCount, (nI ns), (nI nt), (nI im), (nI sm), (nI sc), f_verdictNow, f_stateCount, f_unsafeMet, f_inconsistentMet, f_queueEnd, f_primeTotal, f_coversDone, f_circuitDone, f_metCount, b_sig, b_dir, b_pre, b_post, a_stateBits, a_queue, a_codeMet, a_excitedSome, a_excitedAll, a_implicant, a_cubeCodes, a_primeCube, a_primeTail, a_pick, a_picked, a_coverPrimes, a_coverLength, a_coverCells, a_coverCodes, b_table, a_metBits, a_leastFailure) := by
  refine br_t hv ?_
  refine zx_walkNet H hm hc (fun bits q e u i a_codeMet a_excitedSome a_excitedAll w => ?_)
  obtain ⟨w1, w2, w3, w4⟩ := zx_W_e w
  have hh := h bits q e u i a_codeMet a_excitedSome a_excitedAll w1 w.1.1 w4
  refine za_br u (fun hu => ?_) (fun hu => hh 2 (Or.inl ⟨by rw [← w2]; exact hu, rfl⟩))
  refine za_br i (fun hi' => ?_) (fun hi' => hh 3 (Or.inr (Or.inl ⟨by rw [← w2]; exact hu, by rw [← w3]; exact hi', rfl⟩)))
  refine zx_firstConflict H w4 hi hip (fun x hx => ?_)
  have hx' := hx
  rcases hx' with ⟨ex, _⟩ | ⟨s, c, hs, hcc, ex, _⟩
  · refine br_t (by rw [ex]; decide) (hh 1 (Or.inr (Or.inr ⟨by rw [← w2]; exact hu, by rw [← w3]; exact hi', x, hx, Or.inl ⟨ex, rfl⟩⟩)))
  · have h4 := H.1
    have h16 := za_p4 h4.2
    have hlt : ¬ x < 0 := by rw [ex]; exact nI_pos (by omega)
    exact br_f hlt (hh 4 (Or.inr (Or.inr ⟨by rw [← w2]; exact hu, by rw [← w3]; exact hi', x, hx, Or.inr ⟨fun z => hlt (by rw [z]; decide), rfl⟩⟩)))
end
end
section
/-! ===== the relation ===== -/
def zr_N (np ns nt im sm sc : Nat) (sg : Nat → Nat) (dr : Nat → Bool) (pr po : Nat → Nat) (ip : Nat → Bool) (b_sig b_dir b_pre b_post b_isInput b_table : Nat → Int32) : Prop :=
  (2 ≤ np ∧ np ≤ 6) ∧ zn_N ns nt sg dr pr po b_sig b_dir b_pre b_post ∧ sm < 2 ^ np ∧ sc < 2 ^ ns ∧ im < 16 ∧ (∀ s, s < ns → im.testBit s = ip s) ∧ (∀ s, s < ns → b_isInput s = za_b (ip s)) ∧ zg_T b_table
/-- the state graph is known -/
def zr_X (nt sm sc : Nat) (sg : Nat → Nat) (dr : Nat → Bool) (pr po : Nat → Nat) (R : Nat → Bool) (f_stateCount : Int32) (a_stateBits : Nat → Int64) (a_codeMet a_excitedSome a_excitedAll b_reach : Nat → Int32) : Prop :=
  zn_Ls (zn_g sg dr pr po) (zn_t sg pr po) nt (16 * sm + sc) R ∧ zn_rep b_reach R ∧ (∀ st, st < 1024 → za_v a_stateBits st = R st) ∧ f_stateCount = nI (za_c R 1024) ∧ zx_T sg dr pr po nt (fun st => R st = true) a_codeMet a_excitedSome a_excitedAll
/-- the circuit is known -/
def zr_C (ns nt sm sc : Nat) (sg : Nat → Nat) (pr po : Nat → Nat) (ip : Nat → Bool) (gt : Nat → Nat) (f_metCount : Int32) (lf : Nat → Int32) : Prop :=
  ∃ M : Nat → Bool, zn_Ls (zg_g sg pr ip gt) (zn_t sg pr po) nt (16 * sm + sc) M ∧ f_metCount = nI (za_c M 1024) ∧ zn_Lf (fun st => M st = true ∧ zg_s5 sg pr ip gt ns nt (st / 16) (st % 16) = true) (lf 0) ∧ zn_Lf (fun st => M st = true ∧ zx_s6 sg pr ip gt ns nt (st / 16) (st % 16) = true) (lf 1) ∧ zn_Lf (fun st => M st = true ∧ zg_s7 sg pr ip gt ns nt (st / 16) (st % 16) = true) (lf 2)
def zr_V (ns nt sm sc vd cdn : Nat) (sg : Nat → Nat) (dr : Nat → Bool) (pr po : Nat → Nat) (ip R : Nat → Bool) (f_stateCount f_circuitDone f_metCount : Int32) (a_stateBits : Nat → Int64) (a_codeMet a_excitedSome a_excitedAll a_coverPrimes a_coverLength a_coverCells a_coverCodes a_leastFailure b_table b_reach : Nat → Int32) : Prop :=
  vd < 5 ∧ (vd ≠ 1 → cdn = 0 ∧ f_circuitDone = 0) ∧ (vd ≠ 0 → zr_X nt sm sc sg dr pr po R f_stateCount a_stateBits a_codeMet a_excitedSome a_excitedAll b_reach) ∧
  (vd = 1 → (zn_U pr po nt R = false ∧ zn_Q sg dr pr nt R = false) ∧ zx_C ns (zn_vl sg dr pr po nt R) cdn a_coverPrimes a_coverLength a_coverCells a_coverCodes) ∧
  (f_circuitDone = 0 ∨ (f_circuitDone = 1 ∧ zr_C ns nt sm sc sg pr po ip (zg_gt ns b_table (zn_vl sg dr pr po nt R)) f_metCount a_leastFailure))
/-- the relation is its own elimination -/
def i_Rel (_ : Nat) (u : SX) (v : SY) : Prop := ∀ P : SX → SY → Prop, (∀ (np ns nt im sm sc vd cdn : Nat) (sg : Nat → Nat) (dr : Nat → Bool) (pr po : Nat → Nat) (ip R : Nat → Bool) (f_stateCount f_unsafeMet f_inconsistentMet f_queueEnd f_primeTotal f_circuitDone f_metCount : Int32) (a_queue a_codeMet a_excitedSome a_excitedAll a_implicant a_cubeCodes a_primeCube a_primeTail a_pick a_picked a_coverPrimes a_coverLength a_coverCells a_coverCodes a_leastFailure : Nat → Int32) (a_stateBits a_metBits : Nat → Int64) (g_primeCount g_coverMask g_coverCount : Int32) (b_sig b_dir b_pre b_post b_isInput b_table b_reach b_met b_next b_implicant b_prime b_value : Nat → Int32), zr_N np ns nt im sm sc sg dr pr po ip b_sig b_dir b_pre b_post b_isInput b_table → zr_V ns nt sm sc vd cdn sg dr pr po ip R f_stateCount f_circuitDone f_metCount a_stateBits a_codeMet a_excitedSome a_excitedAll a_coverPrimes a_coverLength a_coverCells a_coverCodes a_leastFailure b_table b_reach → P ((nI np), (nI ns), (nI nt), (nI im), (nI sm), (nI sc), (nI vd), f_stateCount, f_unsafeMet, f_inconsistentMet, f_queueEnd, f_primeTotal, (nI cdn), f_circuitDone, f_metCount, b_sig, b_dir, b_pre, b_post, a_stateBits, a_queue, a_codeMet, a_excitedSome, a_excitedAll, a_implicant, a_cubeCodes, a_primeCube, a_primeTail, a_pick, a_picked, a_coverPrimes, a_coverLength, a_coverCells, a_coverCodes, b_table, a_metBits, a_leastFailure) ((nI np), (nI ns), (nI sm), (nI sc), (nI nt), (nI vd), g_primeCount, g_coverMask, g_coverCount, b_sig, b_dir, b_pre, b_post, b_isInput, b_table, b_reach, b_met, b_next, b_implicant, b_prime, b_value)) → P u v
theorem i_up {k : Nat} {u : SX} {v : SY} (h : i_Rel k u v) : i_Rel (k + 5) u v := h
theorem zr_mk {k : Nat} {np ns nt im sm sc vd cdn : Nat} {sg : Nat → Nat} {dr : Nat → Bool} {pr po : Nat → Nat} {ip R : Nat → Bool} {f_stateCount f_unsafeMet f_inconsistentMet f_queueEnd f_primeTotal f_circuitDone f_metCount : Int32} {a_queue a_codeMet a_excitedSome a_excitedAll a_implicant a_cubeCodes a_primeCube a_primeTail a_pick a_picked a_coverPrimes a_coverLength a_coverCells a_coverCodes a_leastFailure : Nat → Int32} {a_stateBits a_metBits : Nat → Int64} {g_primeCount g_coverMask g_coverCount : Int32} {b_sig b_dir b_pre b_post b_isInput b_table b_reach b_met b_next b_implicant b_prime b_value : Nat → Int32} (hN : zr_N np ns nt im sm sc sg dr pr po ip b_sig b_dir b_pre b_post b_isInput b_table) (hV : zr_V ns nt sm sc vd cdn sg dr pr po ip R f_stateCount f_circuitDone f_metCount a_stateBits a_codeMet a_excitedSome a_excitedAll a_coverPrimes a_coverLength a_coverCells a_coverCodes a_leastFailure b_table b_reach) : i_Rel k ((nI np), (nI ns), (nI nt), (nI im), (nI sm), (nI sc), (nI vd), f_stateCount, f_unsafeMet, f_inconsistentMet, f_queueEnd, f_primeTotal, (nI cdn), f_circuitDone, f_metCount, b_sig, b_dir, b_pre, b_post, a_stateBits, a_queue, a_codeMet, a_excitedSome, a_excitedAll, a_implicant, a_cubeCodes, a_primeCube, a_primeTail, a_pick, a_picked, a_coverPrimes, a_coverLength, a_coverCells, a_coverCodes, b_table, a_metBits, a_leastFailure) ((nI np), (nI ns), (nI sm), (nI sc), (nI nt), (nI vd), g_primeCount, g_coverMask, g_coverCount, b_sig, b_dir, b_pre, b_post, b_isInput, b_table, b_reach, b_met, b_next, b_implicant, b_prime, b_value) := fun P h => h np ns nt im sm sc vd cdn sg dr pr po ip R f_stateCount f_unsafeMet f_inconsistentMet f_queueEnd f_primeTotal f_circuitDone f_metCount a_queue a_codeMet a_excitedSome a_excitedAll a_implicant a_cubeCodes a_primeCube a_primeTail a_pick a_picked a_coverPrimes a_coverLength a_coverCells a_coverCodes a_leastFailure a_stateBits a_metBits g_primeCount g_coverMask g_coverCount b_sig b_dir b_pre b_post b_isInput b_table b_reach b_met b_next b_implicant b_prime b_value hN hV
theorem zr_V0 {ns nt sm sc : Nat} {sg : Nat → Nat} {dr : Nat → Bool} {pr po : Nat → Nat} {ip R : Nat → Bool} {f_stateCount f_metCount : Int32} {a_stateBits : Nat → Int64} {a_codeMet a_excitedSome a_excitedAll a_coverPrimes a_coverLength a_coverCells a_coverCodes a_leastFailure b_table b_reach : Nat → Int32} : zr_V ns nt sm sc 0 0 sg dr pr po ip R f_stateCount 0 f_metCount a_stateBits a_codeMet a_excitedSome a_excitedAll a_coverPrimes a_coverLength a_coverCells a_coverCodes a_leastFailure b_table b_reach :=
  ⟨by omega, fun _ => ⟨rfl, rfl⟩, fun z => absurd rfl z, fun z => absurd z (by omega), Or.inl rfl⟩
/-! the constructors -/
theorem zr_cl (p : Int32) (lo hi : Nat) (hl : lo ≤ hi) (hh : hi < 2 ^ 30) : ∃ n, (lo ≤ n ∧ n ≤ hi) ∧ ∀ F : Int32 → Prop, F (nI n) → ((nI lo ≤ p → ((p ≤ nI hi → F p) ∧ (¬ p ≤ nI hi → F (nI hi)))) ∧ (¬ nI lo ≤ p → F (nI lo))) := by
  by_cases h1 : nI lo ≤ p
  · by_cases h2 : p ≤ nI hi
    · have h0 : ¬ p < 0 := fun z => by
        have a := nI_pos' (n := lo) (by omega)
        exact absurd (Int32.lt_of_le_of_lt (Int32.le_trans a h1) z) (by decide)
      obtain ⟨j, hj, rfl⟩ := nI_of h0
      rw [nI_leI (by omega) hj] at h1
      rw [nI_leI hj (by omega)] at h2
      exact ⟨j, ⟨h1, h2⟩, fun F hF => br_t (nI_le h1 hj) (br_t (nI_le h2 (by omega)) hF)⟩
    · exact ⟨hi, ⟨hl, Nat.le_refl _⟩, fun F hF => br_t h1 (br_f h2 hF)⟩
  · exact ⟨lo, ⟨Nat.le_refl _, hl⟩, fun F hF => br_f h1 hF⟩
def zr_T0 : Nat → Int32 := upd (upd (upd (upd (fun _ => 0) 0 (-1)) 1 (-1)) 2 (-1)) 3 (-1)
theorem zr_T0t : zg_T zr_T0 := fun s hs => Or.inl (by
  rcases (show s = 0 ∨ s = 1 ∨ s = 2 ∨ s = 3 by omega) with z | z | z | z <;> subst z <;> rfl)
theorem i_vc0 (k0 : Int32) (k1 : Int32) : wpX_init (fun u => wpY_init (fun v => i_Rel 2 u v) k0 k1) k0 k1 := by
  obtain ⟨np, hnp, fp⟩ := zr_cl k0 2 6 (by omega) (by omega)
  obtain ⟨ns, hns, fs⟩ := zr_cl k1 1 4 (by omega) (by omega)
  have p1 : 1 < 2 ^ np := Nat.one_lt_two_pow (by omega)
  refine fp (fun z => wX_init_198 _ k1 z 0 0 0 0 0 0 0 0 0 0 0 0 0 0 0 (fun _ => 0) (fun _ => 0) (fun _ => 0) (fun _ => 0) (fun _ => 0) (fun _ => 0) (fun _ => 0) (fun _ => 0) (fun _ => 0) (fun _ => 0) (fun _ => 0) (fun _ => 0) (fun _ => 0) (fun _ => 0) (fun _ => 0) (fun _ => 0) (fun _ => 0) (fun _ => 0) (fun _ => 0) (fun _ => 0) (fun _ => 0) (fun _ => 0)) ?_
  refine fs (fun z => wX_init_221 _ z (nI np) 0 0 0 0 0 0 0 0 0 0 0 0 0 0 (fun _ => 0) (fun _ => 0) (fun _ => 0) (fun _ => 0) (fun _ => 0) (fun _ => 0) (fun _ => 0) (fun _ => 0) (fun _ => 0) (fun _ => 0) (fun _ => 0) (fun _ => 0) (fun _ => 0) (fun _ => 0) (fun _ => 0) (fun _ => 0) (fun _ => 0) (fun _ => 0) (fun _ => 0) (fun _ => 0) (fun _ => 0) (fun _ => 0)) ?_
  refine nm_e (nm_e (nm_e (nm_e ?_)))
  refine fp (fun z => wY_init_142 _ k1 z 0 0 1 0 0 0 0 0 0 (fun _ => 0) (fun _ => 0) (fun _ => 0) (fun _ => 0) (fun _ => 0) (fun _ => 0) (fun _ => 0) (fun _ => 0) (fun _ => 0) (fun _ => 0) (fun _ => 0) (fun _ => 0)) ?_
  refine fs (fun z => ∃ n170 : Nat, wY_init_170 _ (nI np) z 1 0 0 0 0 0 0 n170 0 (fun _ => 0) (fun _ => 0) (fun _ => 0) (fun _ => 0) (fun _ => 0) (fun _ => 0) (fun _ => 0) (fun _ => 0) (fun _ => 0) (fun _ => 0) (fun _ => 0) (fun _ => 0)) ?_
  have c : ∀ k, k < 4 → ¬ (4 : Int32) ≤ nI k := fun k hk => nI_ge (b := 4) hk (by omega)
  have v : ∀ k, k < 4 → vp_in (nI k) 4 := fun k hk => vp_in_nI hk (by omega)
  refine ⟨5, ?_⟩
  refine br_f (c 0 (by omega)) (And.intro (v 0 (by omega)) (nm_r (e' := upd (fun _ => 0) 0 (-1)) rfl (nm_r (nI_1 0) ?_)))
  refine br_f (c 1 (by omega)) (And.intro (v 1 (by omega)) (nm_r (e' := upd (upd (fun _ => 0) 0 (-1)) 1 (-1)) rfl (nm_r (nI_1 1) ?_)))
  refine br_f (c 2 (by omega)) (And.intro (v 2 (by omega)) (nm_r (e' := upd (upd (upd (fun _ => 0) 0 (-1)) 1 (-1)) 2 (-1)) rfl (nm_r (nI_1 2) ?_)))
  refine br_f (c 3 (by omega)) (And.intro (v 3 (by omega)) (nm_r (e' := zr_T0) rfl (nm_r (nI_1 3) ?_)))
  refine br_t (nI_le (Nat.le_refl 4) (by omega)) ?_
  exact zr_mk (np := np) (ns := ns) (nt := 0) (im := 0) (sm := 1) (sc := 0) (vd := 0) (cdn := 0) (sg := fun _ => 0) (dr := fun _ => false) (pr := fun _ => 0) (po := fun _ => 0) (ip := fun _ => false) (R := fun _ => false) (b_table := zr_T0)
    ⟨hnp, ⟨hns, by omega, fun t ht => absurd ht (by omega)⟩, p1, Nat.pow_pos (by omega), by omega, fun s _ => Nat.zero_testBit s, fun s _ => rfl, zr_T0t⟩ zr_V0
end
section
/-! ===== the calls: net, start, explore, queries ===== -/
def zr_In (np ns : Nat) (p0 p1 : Int32) : Prop := ∃ m c, p0 = nI m ∧ m < 2 ^ np ∧ p1 = nI c ∧ c < 2 ^ ns
theorem zr_p6 {n : Nat} (h : n ≤ 6) : 2 ^ n ≤ 64 := Nat.pow_le_pow_right (n := 2) (by omega) h
theorem zr_rx {A B : Prop} {p0 p1 : Int32} {np ns : Nat} (hp : np ≤ 6) (hs : ns ≤ 4) (hA : ¬ zr_In np ns p0 p1 → A) (hB : zr_In np ns p0 p1 → B) : (p0 < 0 → A) ∧ (¬ p0 < 0 → ((p0 < ((1 : Int32) <<< (nI np &&& 31)) → ((p1 < 0 → A) ∧ (¬ p1 < 0 → ((p1 < ((1 : Int32) <<< (nI ns &&& 31)) → B) ∧ (¬ p1 < ((1 : Int32) <<< (nI ns &&& 31)) → A))))) ∧ (¬ p0 < ((1 : Int32) <<< (nI np &&& 31)) → A))) := by
  have h6 := zr_p6 hp
  have h4 := za_p4 hs
  rw [za_1l np (by omega), za_1l ns (by omega)]
  refine br_c (fun z => hA (fun ⟨m, c, e, hm, _⟩ => absurd z (by rw [e]; exact nI_pos (by omega)))) (fun z => ?_)
  obtain ⟨m, hm, rfl⟩ := nI_of z
  refine pk_lt m (2 ^ np) (fun y => ?_) (fun y => hA (fun ⟨m', c, e, hm', _⟩ => by rw [nI_eq hm (by omega)] at e; omega))
  refine br_c (fun w => hA (fun ⟨_, c, _, _, e, hc⟩ => absurd w (by rw [e]; exact nI_pos (by omega)))) (fun w => ?_)
  obtain ⟨c, hc, rfl⟩ := nI_of w
  exact pk_lt c (2 ^ ns) (fun x => hB ⟨m, c, rfl, y, rfl, x⟩) (fun x => hA (fun ⟨_, c', _, _, e, hc'⟩ => by rw [nI_eq hc (by omega)] at e; omega))
theorem zr_ry {A B : Prop} {p0 p1 : Int32} {np ns : Nat} (hp : np ≤ 6) (hs : ns ≤ 4) (hA : ¬ zr_In np ns p0 p1 → A) (hB : zr_In np ns p0 p1 → B) : (p0 < 0 → A) ∧ (¬ p0 < 0 → ((((1 : Int32) <<< (nI np &&& 31)) ≤ p0 → A) ∧ (¬ ((1 : Int32) <<< (nI np &&& 31)) ≤ p0 → ((p1 < 0 → A) ∧ (¬ p1 < 0 → ((((1 : Int32) <<< (nI ns &&& 31)) ≤ p1 → A) ∧ (¬ ((1 : Int32) <<< (nI ns &&& 31)) ≤ p1 → B))))))) := by
  have h6 := zr_p6 hp
  have h4 := za_p4 hs
  rw [za_1l np (by omega), za_1l ns (by omega)]
  refine br_c (fun z => hA (fun ⟨m, c, e, hm, _⟩ => absurd z (by rw [e]; exact nI_pos (by omega)))) (fun z => ?_)
  obtain ⟨m, hm, rfl⟩ := nI_of z
  refine pk_le (2 ^ np) m (fun y => hA (fun ⟨m', c, e, hm', _⟩ => by rw [nI_eq hm (by omega)] at e; omega)) (fun y => ?_)
  refine br_c (fun w => hA (fun ⟨_, c, _, _, e, hc⟩ => absurd w (by rw [e]; exact nI_pos (by omega)))) (fun w => ?_)
  obtain ⟨c, hc, rfl⟩ := nI_of w
  exact pk_le (2 ^ ns) c (fun x => hA (fun ⟨_, c', _, _, e, hc'⟩ => by rw [nI_eq hc (by omega)] at e; omega)) (fun x => hB ⟨m, c, rfl, y, rfl, x⟩)
def zr_Out (ns : Nat) (ip : Nat → Bool) (p : Int32) : Prop := ∃ s, p = nI s ∧ s < ns ∧ ip s = false
section
variable {np ns nt im sm sc vd cdn : Nat} {sg : Nat → Nat} {dr : Nat → Bool} {pr po : Nat → Nat} {ip R : Nat → Bool} {f_stateCount f_unsafeMet f_inconsistentMet f_queueEnd f_primeTotal f_circuitDone f_metCount : Int32} {a_queue a_codeMet a_excitedSome a_excitedAll a_implicant a_cubeCodes a_primeCube a_primeTail a_pick a_picked a_coverPrimes a_coverLength a_coverCells a_coverCodes a_leastFailure : Nat → Int32} {a_stateBits a_metBits : Nat → Int64} {g_primeCount g_coverMask g_coverCount : Int32} {b_sig b_dir b_pre b_post b_isInput b_table b_reach b_met b_next b_implicant b_prime b_value : Nat → Int32}
theorem zx_isOutput {post : Int32 → Prop} {p : Int32} (hN : zr_N np ns nt im sm sc sg dr pr po ip b_sig b_dir b_pre b_post b_isInput b_table) (h1 : zr_Out ns ip p → post 1) (h0 : ¬ zr_Out ns ip p → post 0) : wpX_isOutput post ((nI np), (nI ns), (nI nt), (nI im), (nI sm), (nI sc), (nI vd), f_stateCount, f_unsafeMet, f_inconsistentMet, f_queueEnd, f_primeTotal, (nI cdn), f_circuitDone, f_metCount, b_sig, b_dir, b_pre, b_post, a_stateBits, a_queue, a_codeMet, a_excitedSome, a_excitedAll, a_implicant, a_cubeCodes, a_primeCube, a_primeTail, a_pick, a_picked, a_coverPrimes, a_coverLength, a_coverCells, a_coverCodes, b_table, a_metBits, a_leastFailure) p := by
  obtain ⟨_, H, _, _, hi, hip, _⟩ := hN
  have h4 := H.1
  refine br_c (fun z => h0 (fun ⟨s, e, hs, _⟩ => absurd z (by rw [e]; exact nI_pos (by omega)))) (fun z => ?_)
  obtain ⟨s, hs, rfl⟩ := nI_of z
  refine pk_lt s ns (fun y => ?_) (fun y => h0 (fun ⟨s', e, hs', _⟩ => by rw [nI_eq hs (by omega)] at e; omega))
  refine za_brx (ip s) (by rw [za_rd (by omega) (by omega), hip s y]) (fun w => h1 ⟨s, rfl, y, w⟩) (fun w => h0 (fun ⟨s', e, hs', k⟩ => ?_))
  rw [nI_eq hs (by omega)] at e
  rw [e, k] at w; exact absurd w (by decide)
theorem zy_isGood {post : Int32 → Prop} {p : Int32} (hN : zr_N np ns nt im sm sc sg dr pr po ip b_sig b_dir b_pre b_post b_isInput b_table) (hv : vd < 5) (h1 : vd = 1 → zr_Out ns ip p → post 1) (h0 : ¬ (vd = 1 ∧ zr_Out ns ip p) → post 0) : wpY_isGood post ((nI np), (nI ns), (nI sm), (nI sc), (nI nt), (nI vd), g_primeCount, g_coverMask, g_coverCount, b_sig, b_dir, b_pre, b_post, b_isInput, b_table, b_reach, b_met, b_next, b_implicant, b_prime, b_value) p := by
  obtain ⟨_, H, _, _, hi, _, hip, _⟩ := hN
  have h4 := H.1
  refine pk_eq vd 1 (fun x => ?_) (fun x => h0 (fun z => x z.1))
  refine br_c (fun z => h0 (fun ⟨_, s, e, hs, _⟩ => absurd z (by rw [e]; exact nI_pos (by omega)))) (fun z => ?_)
  obtain ⟨s, hs, rfl⟩ := nI_of z
  refine pk_le ns s (fun y => h0 (fun ⟨_, s', e, hs', _⟩ => by rw [nI_eq hs (by omega)] at e; omega)) (fun y => And.intro (vp_in_nI (by omega) (by omega)) ?_)
  refine za_brx (ip s) (by rw [nI_clamp (by omega)]; exact hip s y) (fun w => h1 x ⟨s, rfl, y, w⟩) (fun w => h0 (fun ⟨_, s', e, hs', k⟩ => ?_))
  rw [nI_eq hs (by omega)] at e
  rw [e, k] at w; exact absurd w (by decide)
end
theorem zx_by {s : Nat} (h : s < 128) : vp_nar .byte (nI s).toInt8.toInt32 = nI s := by
  rw [pk_vb]
  have e := nI_toInt (n := s) (by omega)
  exact lg_i2b_small (by rw [e]; omega) (by rw [e]; omega)
theorem zr_ad {ns nt : Nat} {sg : Nat → Nat} {dr : Nat → Bool} {pr po : Nat → Nat} {b_sig b_dir b_pre b_post : Nat → Int32} (H : zn_N ns nt sg dr pr po b_sig b_dir b_pre b_post) (ht : nt < 12) {s a b : Nat} {d : Bool} (hs : s < ns) (ha : a < 64) (hb : b < 64) :
    zn_N ns (nt + 1) (fun t => if t = nt then s else sg t) (fun t => if t = nt then d else dr t) (fun t => if t = nt then a else pr t) (fun t => if t = nt then b else po t) (upd b_sig nt (nI s)) (upd b_dir nt (za_b d)) (upd b_pre nt (nI a)) (upd b_post nt (nI b)) := by
  refine ⟨H.1, by omega, fun t htt => ?_⟩
  by_cases e : t = nt
  · subst e
    simp only [if_true]
    exact ⟨⟨pk_us, pk_us, pk_us, pk_us⟩, hs, ha, hb⟩
  · simp only [if_neg e]
    rw [pk_un e, pk_un e, pk_un e, pk_un e]
    exact H.2.2 t (by omega)
theorem i_vc_addTransition {k : Nat} {u : SX} {v : SY} (I : i_Rel k u v) (hk : k + 5 ≤ 2562) (v1 : Int32) (v2 : Int32) (v3 : Int32) (v4 : Int32) : wpX_addTransition (fun r u' => wpY_addTransition (fun r' v' => r' = r ∧ i_Rel (k + 5) u' v') v v1 v2 v3 v4) u v1 v2 v3 v4 := by
  refine I (fun u v => wpX_addTransition (fun r u' => wpY_addTransition (fun r' v' => r' = r ∧ i_Rel (k + 5) u' v') v v1 v2 v3 v4) u v1 v2 v3 v4) ?_
  intro np ns nt im sm sc vd cdn sg dr pr po ip R f_stateCount f_unsafeMet f_inconsistentMet f_queueEnd f_primeTotal f_circuitDone f_metCount a_queue a_codeMet a_excitedSome a_excitedAll a_implicant a_cubeCodes a_primeCube a_primeTail a_pick a_picked a_coverPrimes a_coverLength a_coverCells a_coverCodes a_leastFailure a_stateBits a_metBits g_primeCount g_coverMask g_coverCount b_sig b_dir b_pre b_post b_isInput b_table b_reach b_met b_next b_implicant b_prime b_value hN hV
  have hN' := hN
  obtain ⟨hnp, H, hsm, hsc, hi, hip, hip2, hT⟩ := hN'
  have h12 := H.2.1
  have h4 := H.1
  have h6 := zr_p6 hnp.2
  have hpos : 0 < 2 ^ np := Nat.pow_pos (by omega)
  have same : ∀ r : Int32, r = r ∧ i_Rel (k + 5) ((nI np), (nI ns), (nI nt), (nI im), (nI sm), (nI sc), (nI vd), f_stateCount, f_unsafeMet, f_inconsistentMet, f_queueEnd, f_primeTotal, (nI cdn), f_circuitDone, f_metCount, b_sig, b_dir, b_pre, b_post, a_stateBits, a_queue, a_codeMet, a_excitedSome, a_excitedAll, a_implicant, a_cubeCodes, a_primeCube, a_primeTail, a_pick, a_picked, a_coverPrimes, a_coverLength, a_coverCells, a_coverCodes, b_table, a_metBits, a_leastFailure) ((nI np), (nI ns), (nI sm), (nI sc), (nI nt), (nI vd), g_primeCount, g_coverMask, g_coverCount, b_sig, b_dir, b_pre, b_post, b_isInput, b_table, b_reach, b_met, b_next, b_implicant, b_prime, b_value) := fun r => ⟨rfl, zr_mk hN hV⟩
  by_cases c1 : nt = 12
  · exact br_f (nI_nlt (a := nt) (b := 12) (by omega) (by omega)) (br_t (by rw [c1]; rfl) (same _))
  have x1 : nI nt < 12 := nI_lt (b := 12) (by omega) (by omega)
  have y1 : ¬ nI nt = 12 := fun z => c1 ((nI_eq (b := 12) (by omega) (by omega)).mp z)
  by_cases c2 : v1 < 0
  · exact br_t x1 (br_t c2 (br_f y1 (nm_e (br_t c2 (same _)))))
  by_cases c3 : v1 < nI ns
  rotate_left
  · exact br_t x1 (br_f c2 (br_f c3 (br_f y1 (nm_e (br_f c2 (br_f c3 (same _)))))))
  obtain ⟨s, hs', rfl⟩ := nI_of c2
  have hs : s < ns := (nI_ltI hs' (by omega)).mp c3
  have e5 : ((1 : Int32) <<< (nI np &&& 31)) - 1 = nI (2 ^ np - 1) := by
    have e1 : (1 : Int32) = nI 1 := rfl
    rw [za_1l np (by omega), e1, pk_sub hpos]
  have main : ∀ d : Bool, v2 = za_b d → wX_addTransition_37 (fun r u' => wpY_addTransition (fun r' v' => r' = r ∧ i_Rel (k + 5) u' v') ((nI np), (nI ns), (nI sm), (nI sc), (nI nt), (nI vd), g_primeCount, g_coverMask, g_coverCount, b_sig, b_dir, b_pre, b_post, b_isInput, b_table, b_reach, b_met, b_next, b_implicant, b_prime, b_value) (nI s) v2 v3 v4) (nI s) v2 v3 v4 (nI np) (nI ns) (nI nt) (nI im) (nI sm) (nI sc) (nI vd) f_stateCount f_unsafeMet f_inconsistentMet f_queueEnd f_primeTotal (nI cdn) f_circuitDone f_metCount b_sig b_dir b_pre b_post a_stateBits a_queue a_codeMet a_excitedSome a_excitedAll a_implicant a_cubeCodes a_primeCube a_primeTail a_pick a_picked a_coverPrimes a_coverLength a_coverCells a_coverCodes b_table a_metBits a_leastFailure := by
    intro d hd
    have y2 : ∀ post : Int32 → SY → Prop, wY_addTransition_47 post (nI s) v2 v3 v4 (nI (2 ^ np - 1)) (nI np) (nI ns) (nI sm) (nI sc) (nI nt) (nI vd) g_primeCount g_coverMask g_coverCount b_sig b_dir b_pre b_post b_isInput b_table b_reach b_met b_next b_implicant b_prime b_value → wpY_addTransition post ((nI np), (nI ns), (nI sm), (nI sc), (nI nt), (nI vd), g_primeCount, g_coverMask, g_coverCount, b_sig, b_dir, b_pre, b_post, b_isInput, b_table, b_reach, b_met, b_next, b_implicant, b_prime, b_value) (nI s) v2 v3 v4 := by
      intro post hh
      refine br_f y1 (nm_r e5 (br_f c2 (br_t c3 ?_)))
      cases d
      · exact br_t hd hh
      · exact br_f (by rw [hd]; decide) (br_t hd hh)
    refine nm_r e5 ?_
    by_cases c5 : v3 < 1
    · exact br_t c5 (y2 _ (br_t c5 (same _)))
    by_cases c6 : nI (2 ^ np - 1) < v3
    · exact br_f c5 (br_t c6 (y2 _ (br_f c5 (br_t c6 (same _)))))
    by_cases c7 : v4 < 1
    · exact br_f c5 (br_f c6 (br_t c7 (y2 _ (br_f c5 (br_f c6 (br_t c7 (same _)))))))
    by_cases c8 : v4 ≤ nI (2 ^ np - 1)
    rotate_left
    · exact br_f c5 (br_f c6 (br_f c7 (br_f c8 (y2 _ (br_f c5 (br_f c6 (br_f c7 (br_f c8 (same _)))))))))
    have n3 : ¬ v3 < 0 := fun z => c5 (Int32.lt_of_lt_of_le z (by decide))
    have n4 : ¬ v4 < 0 := fun z => c7 (Int32.lt_of_lt_of_le z (by decide))
    obtain ⟨a, ha', rfl⟩ := nI_of n3
    obtain ⟨b, hb', rfl⟩ := nI_of n4
    have ha : a < 64 := by
      rw [nI_ltI (by omega) ha'] at c6; omega
    have hb : b < 64 := by
      rw [nI_leI hb' (by omega)] at c8; omega
    have v12 : vp_in (nI nt) 12 := vp_in_nI (by omega) (by omega)
    have ce : (nI nt).toNatClampNeg = nt := nI_clamp (by omega)
    have ed : vp_nar .byte (za_b d).toInt8.toInt32 = za_b d := by
      rw [za_bn]; exact zx_by (by cases d <;> decide)
    refine br_f c5 (br_f c6 (br_f c7 (br_t c8 (And.intro v12 (nm_r (e' := upd b_sig nt (nI s)) (by rw [ce, zx_by (by omega)]) (And.intro v12 (nm_r (e' := upd b_dir nt (za_b d)) (by rw [ce, hd, ed]) (And.intro v12 (nm_r (e' := upd b_pre nt (nI a)) (by rw [ce, zx_by (by omega)]) (And.intro v12 (nm_r (e' := upd b_post nt (nI b)) (by rw [ce, zx_by (by omega)]) (nm_r (nI_1 nt) ?_))))))))))))
    unfold wpX_dropVerdict
    dsimp only
    refine y2 _ ?_
    refine br_f c5 (br_f c6 (br_f c7 (br_t c8 (And.intro v12 (nm_r (e' := upd b_sig nt (nI s)) (by rw [ce]) (And.intro v12 (nm_r (e' := upd b_dir nt (za_b d)) (by rw [ce, hd]) (And.intro v12 (nm_r (e' := upd b_pre nt (nI a)) (by rw [ce]) (And.intro v12 (nm_r (e' := upd b_post nt (nI b)) (by rw [ce]) (nm_r (nI_1 nt) (And.intro (nI_pred nt) ?_)))))))))))))
    exact zr_mk (vd := 0) (cdn := 0) (R := R) ⟨hnp, zr_ad (d := d) H (by omega) hs ha hb, hsm, hsc, hi, hip, hip2, hT⟩ zr_V0
  by_cases c4 : v2 = 0
  · exact br_t x1 (br_f c2 (br_t c3 (br_t c4 (main false c4))))
  by_cases c4' : v2 = 1
  · exact br_t x1 (br_f c2 (br_t c3 (br_f c4 (br_t c4' (main true c4')))))
  · exact br_t x1 (br_f c2 (br_t c3 (br_f c4 (br_f c4' (br_f y1 (nm_e (br_f c2 (br_t c3 (br_f c4 (br_f c4' (same _))))))))))) 
theorem i_vc_setInput {k : Nat} {u : SX} {v : SY} (I : i_Rel k u v) (hk : k + 5 ≤ 2562) (v1 : Int32) (v2 : Int32) : wpX_setInput (fun r u' => wpY_setInput (fun r' v' => r' = r ∧ i_Rel (k + 5) u' v') v v1 (lw_bz v2)) u v1 (lw_bz v2) := by
  refine I (fun u v => wpX_setInput (fun r u' => wpY_setInput (fun r' v' => r' = r ∧ i_Rel (k + 5) u' v') v v1 (lw_bz v2)) u v1 (lw_bz v2)) ?_
  intro np ns nt im sm sc vd cdn sg dr pr po ip R f_stateCount f_unsafeMet f_inconsistentMet f_queueEnd f_primeTotal f_circuitDone f_metCount a_queue a_codeMet a_excitedSome a_excitedAll a_implicant a_cubeCodes a_primeCube a_primeTail a_pick a_picked a_coverPrimes a_coverLength a_coverCells a_coverCodes a_leastFailure a_stateBits a_metBits g_primeCount g_coverMask g_coverCount b_sig b_dir b_pre b_post b_isInput b_table b_reach b_met b_next b_implicant b_prime b_value hN hV
  have hN' := hN
  obtain ⟨hnp, H, hsm, hsc, hi, hip, hip2, hT⟩ := hN'
  have h4 := H.1
  have same : ∀ r : Int32, r = r ∧ i_Rel (k + 5) ((nI np), (nI ns), (nI nt), (nI im), (nI sm), (nI sc), (nI vd), f_stateCount, f_unsafeMet, f_inconsistentMet, f_queueEnd, f_primeTotal, (nI cdn), f_circuitDone, f_metCount, b_sig, b_dir, b_pre, b_post, a_stateBits, a_queue, a_codeMet, a_excitedSome, a_excitedAll, a_implicant, a_cubeCodes, a_primeCube, a_primeTail, a_pick, a_picked, a_coverPrimes, a_coverLength, a_coverCells, a_coverCodes, b_table, a_metBits, a_leastFailure) ((nI np), (nI ns), (nI sm), (nI sc), (nI nt), (nI vd), g_primeCount, g_coverMask, g_coverCount, b_sig, b_dir, b_pre, b_post, b_isInput, b_table, b_reach, b_met, b_next, b_implicant, b_prime, b_value) := fun r => ⟨rfl, zr_mk hN hV⟩
  by_cases c2 : v1 < 0
  · exact br_t c2 (br_t c2 (same _))
  by_cases c3 : v1 < nI ns
  rotate_left
  · exact br_f c2 (br_f c3 (br_f c2 (br_f c3 (same _))))
  obtain ⟨s, hs', rfl⟩ := nI_of c2
  have hs : s < ns := (nI_ltI hs' (by omega)).mp c3
  obtain ⟨b, hb⟩ : ∃ b : Bool, lw_bz v2 = za_b b := by
    rcases lw_bz_01 v2 with z | z
    · exact ⟨false, z⟩
    · exact ⟨true, z⟩
  rw [hb]
  have eb := za_1l s (by omega)
  have yy : ∀ (post : Int32 → SY → Prop), post 1 ((nI np), (nI ns), (nI sm), (nI sc), (nI nt), 0, g_primeCount, g_coverMask, g_coverCount, b_sig, b_dir, b_pre, b_post, upd b_isInput s (za_b b), b_table, b_reach, b_met, b_next, b_implicant, b_prime, b_value) → wpY_setInput post ((nI np), (nI ns), (nI sm), (nI sc), (nI nt), (nI vd), g_primeCount, g_coverMask, g_coverCount, b_sig, b_dir, b_pre, b_post, b_isInput, b_table, b_reach, b_met, b_next, b_implicant, b_prime, b_value) (nI s) (za_b b) := fun post hh =>
    br_f c2 (br_t c3 (And.intro (vp_in_nI (by omega) (by omega)) (nm_r (e' := upd b_isInput s (za_b b)) (by rw [nI_clamp (by omega), za_vb]) hh)))
  have fin : ∀ im' : Nat, im' < 16 → (∀ j, j < ns → im'.testBit j = if j = s then b else ip j) → i_Rel (k + 5) ((nI np), (nI ns), (nI nt), nI im', (nI sm), (nI sc), 0, f_stateCount, f_unsafeMet, f_inconsistentMet, f_queueEnd, f_primeTotal, 0, 0, f_metCount, b_sig, b_dir, b_pre, b_post, a_stateBits, a_queue, a_codeMet, a_excitedSome, a_excitedAll, a_implicant, a_cubeCodes, a_primeCube, a_primeTail, a_pick, a_picked, a_coverPrimes, a_coverLength, a_coverCells, a_coverCodes, b_table, a_metBits, a_leastFailure) ((nI np), (nI ns), (nI sm), (nI sc), (nI nt), 0, g_primeCount, g_coverMask, g_coverCount, b_sig, b_dir, b_pre, b_post, upd b_isInput s (za_b b), b_table, b_reach, b_met, b_next, b_implicant, b_prime, b_value) := by
    intro im' h1 h2
    refine zr_mk (vd := 0) (cdn := 0) (R := R) (ip := fun j => if j = s then b else ip j) ⟨hnp, H, hsm, hsc, h1, h2, fun j hj => ?_, hT⟩ zr_V0
    by_cases e : j = s
    · rw [e, pk_us]; simp
    · rw [pk_un e]; simp only [if_neg e]; exact hip2 j hj
  refine br_f c2 (br_t c3 (za_br b (fun z => nm_r (e' := nI (za_nd im (2 ^ s))) (by rw [eb, za_ndI]) ?_) (fun z => nm_r (e' := nI (im ||| 2 ^ s)) (by rw [eb, za_or]) ?_)))
  · unfold wX_setInput_47 wpX_dropVerdict
    dsimp only
    refine yy _ ?_
    refine ⟨rfl, fin _ (za_ndlt (k := 4) hi) (fun j hj => ?_)⟩
    rw [za_nd_tb]
    by_cases e : j = s
    · rw [if_pos e, e, Nat.testBit_two_pow_self, z]; simp
    · rw [if_neg e, Nat.testBit_two_pow_of_ne (fun y => e y.symm), hip j hj]; simp
  · unfold wX_setInput_47 wpX_dropVerdict
    dsimp only
    refine yy _ ?_
    refine ⟨rfl, fin _ (Nat.or_lt_two_pow (n := 4) hi (Nat.pow_lt_pow_right (by omega) (by omega))) (fun j hj => ?_)⟩
    rw [Nat.testBit_or]
    by_cases e : j = s
    · rw [if_pos e, e, Nat.testBit_two_pow_self, z]; simp
    · rw [if_neg e, Nat.testBit_two_pow_of_ne (fun y => e y.symm), hip j hj]; simp
theorem i_vc_setStart {k : Nat} {u : SX} {v : SY} (I : i_Rel k u v) (hk : k + 5 ≤ 2562) (v1 : Int32) (v2 : Int32) : wpX_setStart (fun r u' => wpY_setStart (fun r' v' => r' = r ∧ i_Rel (k + 5) u' v') v v1 v2) u v1 v2 := by
  refine I (fun u v => wpX_setStart (fun r u' => wpY_setStart (fun r' v' => r' = r ∧ i_Rel (k + 5) u' v') v v1 v2) u v1 v2) ?_
  intro np ns nt im sm sc vd cdn sg dr pr po ip R f_stateCount f_unsafeMet f_inconsistentMet f_queueEnd f_primeTotal f_circuitDone f_metCount a_queue a_codeMet a_excitedSome a_excitedAll a_implicant a_cubeCodes a_primeCube a_primeTail a_pick a_picked a_coverPrimes a_coverLength a_coverCells a_coverCodes a_leastFailure a_stateBits a_metBits g_primeCount g_coverMask g_coverCount b_sig b_dir b_pre b_post b_isInput b_table b_reach b_met b_next b_implicant b_prime b_value hN hV
  have hN' := hN
  obtain ⟨hnp, H, hsm, hsc, hi, hip, hip2, hT⟩ := hN'
  have same : ∀ r : Int32, r = r ∧ i_Rel (k + 5) ((nI np), (nI ns), (nI nt), (nI im), (nI sm), (nI sc), (nI vd), f_stateCount, f_unsafeMet, f_inconsistentMet, f_queueEnd, f_primeTotal, (nI cdn), f_circuitDone, f_metCount, b_sig, b_dir, b_pre, b_post, a_stateBits, a_queue, a_codeMet, a_excitedSome, a_excitedAll, a_implicant, a_cubeCodes, a_primeCube, a_primeTail, a_pick, a_picked, a_coverPrimes, a_coverLength, a_coverCells, a_coverCodes, b_table, a_metBits, a_leastFailure) ((nI np), (nI ns), (nI sm), (nI sc), (nI nt), (nI vd), g_primeCount, g_coverMask, g_coverCount, b_sig, b_dir, b_pre, b_post, b_isInput, b_table, b_reach, b_met, b_next, b_implicant, b_prime, b_value) := fun r => ⟨rfl, zr_mk hN hV⟩
  refine zr_rx hnp.2 H.1.2 (fun z => ?_) (fun z => ?_)
  · unfold wpY_setStart
    dsimp only
    exact zr_ry hnp.2 H.1.2 (fun _ => br_t rfl (same _)) (fun y => absurd y z)
  · unfold wpY_setStart
    dsimp only
    refine zr_ry hnp.2 H.1.2 (fun y => absurd z y) (fun _ => br_f (by decide) ⟨rfl, ?_⟩)
    obtain ⟨m, c, rfl, hm, rfl, hc⟩ := z
    exact zr_mk (vd := 0) (cdn := 0) (R := R) ⟨hnp, H, hm, hc, hi, hip, hip2, hT⟩ zr_V0
theorem i_vc_verdict {k : Nat} {u : SX} {v : SY} (I : i_Rel k u v) (hk : k + 5 ≤ 2562) : wpX_verdict (fun r => wpY_verdict (fun r' => r' = r ∧ i_Rel (k + 5) u v) v) u := by
  refine I (fun u v => wpX_verdict (fun r => wpY_verdict (fun r' => r' = r ∧ i_Rel (k + 5) u v) v) u) ?_
  intro np ns nt im sm sc vd cdn sg dr pr po ip R f_stateCount f_unsafeMet f_inconsistentMet f_queueEnd f_primeTotal f_circuitDone f_metCount a_queue a_codeMet a_excitedSome a_excitedAll a_implicant a_cubeCodes a_primeCube a_primeTail a_pick a_picked a_coverPrimes a_coverLength a_coverCells a_coverCodes a_leastFailure a_stateBits a_metBits g_primeCount g_coverMask g_coverCount b_sig b_dir b_pre b_post b_isInput b_table b_reach b_met b_next b_implicant b_prime b_value hN hV
  exact ⟨rfl, zr_mk hN hV⟩
theorem i_vc_states {k : Nat} {u : SX} {v : SY} (I : i_Rel k u v) (hk : k + 5 ≤ 2562) : wpX_states (fun r => wpY_states (fun r' => r' = r ∧ i_Rel (k + 5) u v) v) u := by
  refine I (fun u v => wpX_states (fun r => wpY_states (fun r' => r' = r ∧ i_Rel (k + 5) u v) v) u) ?_
  intro np ns nt im sm sc vd cdn sg dr pr po ip R f_stateCount f_unsafeMet f_inconsistentMet f_queueEnd f_primeTotal f_circuitDone f_metCount a_queue a_codeMet a_excitedSome a_excitedAll a_implicant a_cubeCodes a_primeCube a_primeTail a_pick a_picked a_coverPrimes a_coverLength a_coverCells a_coverCodes a_leastFailure a_stateBits a_metBits g_primeCount g_coverMask g_coverCount b_sig b_dir b_pre b_post b_isInput b_table b_reach b_met b_next b_implicant b_prime b_value hN hV
  have h5 := hV.1
  by_cases c : vd = 0
  · have e : nI vd = 0 := by rw [c]; rfl
    exact br_t e (br_t e ⟨rfl, zr_mk hN hV⟩)
  · have e : ¬ nI vd = 0 := nI_ne0 (by omega) (by omega)
    obtain ⟨x1, x2, x3, x4, x5⟩ := hV.2.2.1 c
    exact br_f e (zy_states (R := R) e x2 ⟨x4.symm, zr_mk hN hV⟩)
theorem i_vc_isReachable {k : Nat} {u : SX} {v : SY} (I : i_Rel k u v) (hk : k + 5 ≤ 2562) (v1 : Int32) (v2 : Int32) : wpX_isReachable (fun r => wpY_isReachable (fun r' => r' = r ∧ i_Rel (k + 5) u v) v v1 v2) u v1 v2 := by
  refine I (fun u v => wpX_isReachable (fun r => wpY_isReachable (fun r' => r' = r ∧ i_Rel (k + 5) u v) v v1 v2) u v1 v2) ?_
  intro np ns nt im sm sc vd cdn sg dr pr po ip R f_stateCount f_unsafeMet f_inconsistentMet f_queueEnd f_primeTotal f_circuitDone f_metCount a_queue a_codeMet a_excitedSome a_excitedAll a_implicant a_cubeCodes a_primeCube a_primeTail a_pick a_picked a_coverPrimes a_coverLength a_coverCells a_coverCodes a_leastFailure a_stateBits a_metBits g_primeCount g_coverMask g_coverCount b_sig b_dir b_pre b_post b_isInput b_table b_reach b_met b_next b_implicant b_prime b_value hN hV
  have hN' := hN
  obtain ⟨hnp, H, hsm, hsc, hi, hip, hip2, hT⟩ := hN'
  have h5 := hV.1
  have h4 := H.1
  have h6 := zr_p6 hnp.2
  have h16 := za_p4 h4.2
  have same : ∀ r : Int32, r = r ∧ i_Rel (k + 5) ((nI np), (nI ns), (nI nt), (nI im), (nI sm), (nI sc), (nI vd), f_stateCount, f_unsafeMet, f_inconsistentMet, f_queueEnd, f_primeTotal, (nI cdn), f_circuitDone, f_metCount, b_sig, b_dir, b_pre, b_post, a_stateBits, a_queue, a_codeMet, a_excitedSome, a_excitedAll, a_implicant, a_cubeCodes, a_primeCube, a_primeTail, a_pick, a_picked, a_coverPrimes, a_coverLength, a_coverCells, a_coverCodes, b_table, a_metBits, a_leastFailure) ((nI np), (nI ns), (nI sm), (nI sc), (nI nt), (nI vd), g_primeCount, g_coverMask, g_coverCount, b_sig, b_dir, b_pre, b_post, b_isInput, b_table, b_reach, b_met, b_next, b_implicant, b_prime, b_value) := fun r => ⟨rfl, zr_mk hN hV⟩
  by_cases c : vd = 0
  · have e : nI vd = 0 := by rw [c]; rfl
    exact br_t e (br_t e (same _))
  · have e : ¬ nI vd = 0 := nI_ne0 (by omega) (by omega)
    obtain ⟨x1, x2, x3, x4, x5⟩ := hV.2.2.1 c
    refine br_f e (zr_rx hnp.2 H.1.2 (fun z => ?_) (fun z => ?_))
    · exact br_f e (zr_ry hnp.2 H.1.2 (fun _ => br_t rfl (same _)) (fun y => absurd y z))
    · have z' := z
      obtain ⟨m, c', rfl, hm, rfl, hc⟩ := z
      have hlt : 16 * m + c' < 1024 := by omega
      have e16 := za_16 m c'
      have yy : ∀ r : Int32, r = za_b (R (16 * m + c')) → wpY_isReachable (fun r' => r' = r ∧ i_Rel (k + 5) ((nI np), (nI ns), (nI nt), (nI im), (nI sm), (nI sc), (nI vd), f_stateCount, f_unsafeMet, f_inconsistentMet, f_queueEnd, f_primeTotal, (nI cdn), f_circuitDone, f_metCount, b_sig, b_dir, b_pre, b_post, a_stateBits, a_queue, a_codeMet, a_excitedSome, a_excitedAll, a_implicant, a_cubeCodes, a_primeCube, a_primeTail, a_pick, a_picked, a_coverPrimes, a_coverLength, a_coverCells, a_coverCodes, b_table, a_metBits, a_leastFailure) ((nI np), (nI ns), (nI sm), (nI sc), (nI nt), (nI vd), g_primeCount, g_coverMask, g_coverCount, b_sig, b_dir, b_pre, b_post, b_isInput, b_table, b_reach, b_met, b_next, b_implicant, b_prime, b_value)) ((nI np), (nI ns), (nI sm), (nI sc), (nI nt), (nI vd), g_primeCount, g_coverMask, g_coverCount, b_sig, b_dir, b_pre, b_post, b_isInput, b_table, b_reach, b_met, b_next, b_implicant, b_prime, b_value) (nI m) (nI c') := by
        intro r hr
        refine br_f e (zr_ry hnp.2 H.1.2 (fun y => absurd z' y) (fun _ => br_f (by decide) ?_))
        rw [e16, nI_clamp (by omega), x2 _ hlt]
        exact And.intro (vp_in_nI hlt (by omega)) (And.intro (za_nb _) ⟨hr.symm, zr_mk hN hV⟩)
      refine nm_r e16 ?_
      rw [za_s6 hlt, za_a63 hlt, nI_clamp (n := (16 * m + c') / 64) (by omega), wb_cu _ (by omega)]
      refine And.intro (vp_in_nI (by omega) (by omega)) ?_
      refine za_if0 (R (16 * m + c')) ?_ (fun y => yy _ (by rw [y]; rfl)) (fun y => yy _ (by rw [y]; rfl))
      rw [ts_bit (j := (16 * m + c') % 64) (by omega) (u_tn (by omega)), ← x3 _ hlt]
      exact Iff.rfl
theorem i_vc_nextValue {k : Nat} {u : SX} {v : SY} (I : i_Rel k u v) (hk : k + 5 ≤ 2562) (v1 : Int32) (v2 : Int32) : wpX_nextValue (fun r => wpY_nextValue (fun r' => r' = r ∧ i_Rel (k + 5) u v) v v1 v2) u v1 v2 := by
  refine I (fun u v => wpX_nextValue (fun r => wpY_nextValue (fun r' => r' = r ∧ i_Rel (k + 5) u v) v v1 v2) u v1 v2) ?_
  intro np ns nt im sm sc vd cdn sg dr pr po ip R f_stateCount f_unsafeMet f_inconsistentMet f_queueEnd f_primeTotal f_circuitDone f_metCount a_queue a_codeMet a_excitedSome a_excitedAll a_implicant a_cubeCodes a_primeCube a_primeTail a_pick a_picked a_coverPrimes a_coverLength a_coverCells a_coverCodes a_leastFailure a_stateBits a_metBits g_primeCount g_coverMask g_coverCount b_sig b_dir b_pre b_post b_isInput b_table b_reach b_met b_next b_implicant b_prime b_value hN hV
  have hN' := hN
  obtain ⟨hnp, H, hsm, hsc, hi, hip, hip2, hT⟩ := hN'
  have h5 := hV.1
  have h4 := H.1
  have h16 := za_p4 h4.2
  have eb := za_1l ns (by omega)
  have same : ∀ r : Int32, r = r ∧ i_Rel (k + 5) ((nI np), (nI ns), (nI nt), (nI im), (nI sm), (nI sc), (nI vd), f_stateCount, f_unsafeMet, f_inconsistentMet, f_queueEnd, f_primeTotal, (nI cdn), f_circuitDone, f_metCount, b_sig, b_dir, b_pre, b_post, a_stateBits, a_queue, a_codeMet, a_excitedSome, a_excitedAll, a_implicant, a_cubeCodes, a_primeCube, a_primeTail, a_pick, a_picked, a_coverPrimes, a_coverLength, a_coverCells, a_coverCodes, b_table, a_metBits, a_leastFailure) ((nI np), (nI ns), (nI sm), (nI sc), (nI nt), (nI vd), g_primeCount, g_coverMask, g_coverCount, b_sig, b_dir, b_pre, b_post, b_isInput, b_table, b_reach, b_met, b_next, b_implicant, b_prime, b_value) := fun r => ⟨rfl, zr_mk hN hV⟩
  by_cases c : vd = 0
  · have e : nI vd = 0 := by rw [c]; rfl
    exact br_t e (br_t e (same _))
  · have e : ¬ nI vd = 0 := nI_ne0 (by omega) (by omega)
    obtain ⟨x1, x2, x3, x4, x5⟩ := hV.2.2.1 c
    refine br_f e (zx_isOutput hN (fun z => br_f (by decide) ?_) (fun z => br_t rfl ?_))
    · obtain ⟨s, rfl, hs, hz⟩ := z
      have yb : ∀ post : Int32 → Prop, ((v2 < 0 → post (-1)) ∧ (¬ v2 < 0 → ((v2 < ((1 : Int32) <<< (nI ns &&& 31)) → wpY_valueFor (fun r => post r) ((nI np), (nI ns), (nI sm), (nI sc), (nI nt), (nI vd), g_primeCount, g_coverMask, g_coverCount, b_sig, b_dir, b_pre, b_post, b_isInput, b_table, b_reach, b_met, b_next, b_implicant, b_prime, b_value) (nI s) v2) ∧ (¬ v2 < ((1 : Int32) <<< (nI ns &&& 31)) → post (-1))))) → wpY_nextValue post ((nI np), (nI ns), (nI sm), (nI sc), (nI nt), (nI vd), g_primeCount, g_coverMask, g_coverCount, b_sig, b_dir, b_pre, b_post, b_isInput, b_table, b_reach, b_met, b_next, b_implicant, b_prime, b_value) (nI s) v2 := fun post hh =>
        br_f e (br_f (nI_pos (by omega)) (br_t (nI_lt hs (by omega)) (And.intro (vp_in_nI (by omega) (by omega)) (za_brx (ip s) (by rw [nI_clamp (by omega)]; exact hip2 s hs) (fun _ => hh) (fun w => by rw [hz] at w; exact absurd w (by decide))))))
      by_cases c2 : v2 < 0
      · exact br_t c2 (yb _ (br_t c2 (same _)))
      obtain ⟨c', hc', rfl⟩ := nI_of c2
      by_cases c3 : c' < 2 ^ ns
      · have g : nI c' < (1 : Int32) <<< (nI ns &&& 31) := by rw [eb]; exact nI_lt c3 (by omega)
        exact br_f c2 (br_t g (zx_valueAfter x5 (by omega) (by omega) (yb _ (br_f c2 (br_t g (zy_valueFor H x2 (by omega) (by omega) (same _)))))))
      · have g : ¬ nI c' < (1 : Int32) <<< (nI ns &&& 31) := by rw [eb]; exact nI_nlt (by omega) hc'
        exact br_f c2 (br_f g (yb _ (br_f c2 (br_f g (same _)))))
    · refine br_f e (br_c (fun y => same _) (fun y => ?_))
      obtain ⟨s, hs, rfl⟩ := nI_of y
      refine pk_lt s ns (fun w => And.intro (vp_in_nI (by omega) (by omega)) (za_brx (ip s) (by rw [nI_clamp (by omega)]; exact hip2 s w) (fun x => absurd ⟨s, rfl, w, x⟩ z) (fun _ => same _))) (fun w => same _)
theorem i_vc_conflict {k : Nat} {u : SX} {v : SY} (I : i_Rel k u v) (hk : k + 5 ≤ 2562) : wpX_conflict (fun r => wpY_conflict (fun r' => r' = r ∧ i_Rel (k + 5) u v) v) u := by
  refine I (fun u v => wpX_conflict (fun r => wpY_conflict (fun r' => r' = r ∧ i_Rel (k + 5) u v) v) u) ?_
  intro np ns nt im sm sc vd cdn sg dr pr po ip R f_stateCount f_unsafeMet f_inconsistentMet f_queueEnd f_primeTotal f_circuitDone f_metCount a_queue a_codeMet a_excitedSome a_excitedAll a_implicant a_cubeCodes a_primeCube a_primeTail a_pick a_picked a_coverPrimes a_coverLength a_coverCells a_coverCodes a_leastFailure a_stateBits a_metBits g_primeCount g_coverMask g_coverCount b_sig b_dir b_pre b_post b_isInput b_table b_reach b_met b_next b_implicant b_prime b_value hN hV
  have hN' := hN
  obtain ⟨hnp, H, hsm, hsc, hi, hip, hip2, hT⟩ := hN'
  have h5 := hV.1
  by_cases c : vd = 0
  · have e : nI vd = 0 := by rw [c]; rfl
    exact br_t e (br_t e ⟨rfl, zr_mk hN hV⟩)
  · have e : ¬ nI vd = 0 := nI_ne0 (by omega) (by omega)
    obtain ⟨x1, x2, x3, x4, x5⟩ := hV.2.2.1 c
    exact br_f e (zx_firstConflict H x5 hi hip (fun x hx => br_f e (zy_leastConflict H x2 hip2 (fun y hy => ⟨zn_Cf_u hy hx, zr_mk hN hV⟩))))
theorem i_vc_explore {k : Nat} {u : SX} {v : SY} (I : i_Rel k u v) (hk : k + 5 ≤ 2562) : wpX_explore (fun r u' => wpY_explore (fun r' v' => r' = r ∧ i_Rel (k + 5) u' v') v) u := by
  refine I (fun u v => wpX_explore (fun r u' => wpY_explore (fun r' v' => r' = r ∧ i_Rel (k + 5) u' v') v) u) ?_
  intro np ns nt im sm sc vd cdn sg dr pr po ip R f_stateCount f_unsafeMet f_inconsistentMet f_queueEnd f_primeTotal f_circuitDone f_metCount a_queue a_codeMet a_excitedSome a_excitedAll a_implicant a_cubeCodes a_primeCube a_primeTail a_pick a_picked a_coverPrimes a_coverLength a_coverCells a_coverCodes a_leastFailure a_stateBits a_metBits g_primeCount g_coverMask g_coverCount b_sig b_dir b_pre b_post b_isInput b_table b_reach b_met b_next b_implicant b_prime b_value hN hV
  have hN' := hN
  obtain ⟨hnp, H, hsm, hsc, hi, hip, hip2, hT⟩ := hN'
  have h5 := hV.1
  have h4 := H.1
  have h6 := zr_p6 hnp.2
  have h16 := za_p4 h4.2
  by_cases c : vd = 0
  · subst c
    obtain ⟨rfl, rfl⟩ := hV.2.1 (by omega)
    refine zx_explore H (by omega) (by omega) rfl hi hip (fun bits q e u i a_codeMet a_excitedSome a_excitedAll l1 l2 l3 v hv => ?_)
    refine zy_explore H (by omega) (by omega) rfl hip2 (fun R' b_reach hr hl w hw => ?_)
    have eq : ∀ st, st < 1024 → za_v bits st = R' st := zn_Ls_u l1 hl
    have hv' : zn_Vd (zn_U pr po nt R') (zn_Q sg dr pr nt R') (zn_Cf ns (fun s c => ip s = false ∧ zn_vl sg dr pr po nt R' s c = 3)) v := by
      rw [← zr_U eq, ← zr_Q eq]
      exact zr_Vd (fun x hx => zr_Cf (fun s c _ hc => by rw [zr_vl eq (by omega)]) hx) hv
    have ev : w = v := zn_Vd_u (fun x y a b => zn_Cf_u a b) hw hv'
    subst ev
    obtain ⟨g1, g2, g3⟩ := zr_Vd_lt hw
    refine ⟨rfl, zr_mk (R := R') (cdn := 0) hN ⟨g1, fun _ => ⟨rfl, rfl⟩, fun _ => ⟨hl, hr, eq, ?_, zx_T_c l3 (fun st hs => by rw [eq st hs])⟩, fun z => ⟨g3 z, by omega, fun s _ hb => ?_⟩, Or.inl rfl⟩⟩
    · rw [l2]; exact congrArg nI (za_c_eq eq)
    · rw [Nat.zero_testBit] at hb; exact absurd hb (by decide)
  · have e : ¬ nI vd = 0 := nI_ne0 (by omega) (by omega)
    exact br_f e (br_f e ⟨rfl, zr_mk hN hV⟩)
end
section
/-! ===== the calls: covers and gates ===== -/
section
variable {np ns nt im sm sc vd cdn : Nat} {sg : Nat → Nat} {dr : Nat → Bool} {pr po : Nat → Nat} {ip R : Nat → Bool} {f_stateCount f_unsafeMet f_inconsistentMet f_queueEnd f_primeTotal f_circuitDone f_metCount : Int32} {a_queue a_codeMet a_excitedSome a_excitedAll a_implicant a_cubeCodes a_primeCube a_primeTail a_pick a_picked a_coverPrimes a_coverLength a_coverCells a_coverCodes a_leastFailure : Nat → Int32} {a_stateBits a_metBits : Nat → Int64} {g_primeCount g_coverMask g_coverCount : Int32} {b_sig b_dir b_pre b_post b_isInput b_table b_reach b_met b_next b_implicant b_prime b_value : Nat → Int32}
theorem zr_Vc {cdn' : Nat} {cP cL cC cK : Nat → Int32} (hV : zr_V ns nt sm sc vd cdn sg dr pr po ip R f_stateCount f_circuitDone f_metCount a_stateBits a_codeMet a_excitedSome a_excitedAll a_coverPrimes a_coverLength a_coverCells a_coverCodes a_leastFailure b_table b_reach) (h1 : vd = 1) (hC : zx_C ns (zn_vl sg dr pr po nt R) cdn' cP cL cC cK) : zr_V ns nt sm sc vd cdn' sg dr pr po ip R f_stateCount f_circuitDone f_metCount a_stateBits a_codeMet a_excitedSome a_excitedAll cP cL cC cK a_leastFailure b_table b_reach :=
  ⟨hV.1, fun z => absurd h1 z, hV.2.2.1, fun z => ⟨(hV.2.2.2.1 z).1, hC⟩, hV.2.2.2.2⟩
end
theorem i_vc_primes {k : Nat} {u : SX} {v : SY} (I : i_Rel k u v) (hk : k + 5 ≤ 2562) (v1 : Int32) : wpX_primes (fun r u' => wpY_primes (fun r' v' => r' = r ∧ i_Rel (k + 5) u' v') v v1) u v1 := by
  refine I (fun u v => wpX_primes (fun r u' => wpY_primes (fun r' v' => r' = r ∧ i_Rel (k + 5) u' v') v v1) u v1) ?_
  intro np ns nt im sm sc vd cdn sg dr pr po ip R f_stateCount f_unsafeMet f_inconsistentMet f_queueEnd f_primeTotal f_circuitDone f_metCount a_queue a_codeMet a_excitedSome a_excitedAll a_implicant a_cubeCodes a_primeCube a_primeTail a_pick a_picked a_coverPrimes a_coverLength a_coverCells a_coverCodes a_leastFailure a_stateBits a_metBits g_primeCount g_coverMask g_coverCount b_sig b_dir b_pre b_post b_isInput b_table b_reach b_met b_next b_implicant b_prime b_value hN hV
  have hN' := hN
  obtain ⟨hnp, H, hsm, hsc, hi, hip, hip2, hT⟩ := hN'
  have h5 := hV.1
  have h4 := H.1
  by_cases c : vd = 1 ∧ zr_Out ns ip v1
  · obtain ⟨c1, ho⟩ := c
    obtain ⟨x1, x2, x3, x4, x5⟩ := hV.2.2.1 (by omega)
    obtain ⟨_, hC⟩ := hV.2.2.2.1 c1
    have e1 : nI vd = 1 := by rw [c1]; rfl
    refine br_t e1 (zx_isOutput hN (fun _ => br_f (by decide) ?_) (fun z => absurd ho z))
    have ho' := ho
    obtain ⟨s, rfl, hs, hz⟩ := ho'
    refine zx_finishCover (R := R) h4.2 (by omega) x5 hC (fun cdn f_primeTotal a_implicant a_cubeCodes a_primeCube a_primeTail a_pick a_picked a_coverPrimes a_coverLength a_coverCells a_coverCodes hC' hb => And.intro (vp_in_nI (by omega) (by omega)) ?_)
    rw [nI_clamp (by omega), (hC'.2 s (by omega) hb).1]
    unfold wpY_primes
    dsimp only
    refine zy_isGood hN h5 (fun _ _ => ?_) (fun z => absurd ⟨c1, ho⟩ z)
    refine br_f (by decide) ?_
    exact zy_findPrimes H x2 (by omega) (fun g_primeCount b_next b_implicant b_prime hP => ⟨hP.1, zr_mk hN (zr_Vc hV c1 hC')⟩)
  · have yf : wpY_primes (fun r' v' => r' = -1 ∧ i_Rel (k + 5) ((nI np), (nI ns), (nI nt), (nI im), (nI sm), (nI sc), (nI vd), f_stateCount, f_unsafeMet, f_inconsistentMet, f_queueEnd, f_primeTotal, (nI cdn), f_circuitDone, f_metCount, b_sig, b_dir, b_pre, b_post, a_stateBits, a_queue, a_codeMet, a_excitedSome, a_excitedAll, a_implicant, a_cubeCodes, a_primeCube, a_primeTail, a_pick, a_picked, a_coverPrimes, a_coverLength, a_coverCells, a_coverCodes, b_table, a_metBits, a_leastFailure) v') ((nI np), (nI ns), (nI sm), (nI sc), (nI nt), (nI vd), g_primeCount, g_coverMask, g_coverCount, b_sig, b_dir, b_pre, b_post, b_isInput, b_table, b_reach, b_met, b_next, b_implicant, b_prime, b_value) v1 := by
      unfold wpY_primes
      dsimp only
      refine zy_isGood hN h5 (fun a b => absurd ⟨a, b⟩ c) (fun _ => ?_)
      exact br_t rfl ⟨rfl, zr_mk hN hV⟩
    exact pk_eq vd 1 (fun z => zx_isOutput hN (fun o => absurd ⟨z, o⟩ c) (fun _ => br_t rfl yf)) (fun _ => yf)
theorem i_vc_coverSize {k : Nat} {u : SX} {v : SY} (I : i_Rel k u v) (hk : k + 5 ≤ 2562) (v1 : Int32) : wpX_coverSize (fun r u' => wpY_coverSize (fun r' v' => r' = r ∧ i_Rel (k + 5) u' v') v v1) u v1 := by
  refine I (fun u v => wpX_coverSize (fun r u' => wpY_coverSize (fun r' v' => r' = r ∧ i_Rel (k + 5) u' v') v v1) u v1) ?_
  intro np ns nt im sm sc vd cdn sg dr pr po ip R f_stateCount f_unsafeMet f_inconsistentMet f_queueEnd f_primeTotal f_circuitDone f_metCount a_queue a_codeMet a_excitedSome a_excitedAll a_implicant a_cubeCodes a_primeCube a_primeTail a_pick a_picked a_coverPrimes a_coverLength a_coverCells a_coverCodes a_leastFailure a_stateBits a_metBits g_primeCount g_coverMask g_coverCount b_sig b_dir b_pre b_post b_isInput b_table b_reach b_met b_next b_implicant b_prime b_value hN hV
  have hN' := hN
  obtain ⟨hnp, H, hsm, hsc, hi, hip, hip2, hT⟩ := hN'
  have h5 := hV.1
  have h4 := H.1
  by_cases c : vd = 1 ∧ zr_Out ns ip v1
  · obtain ⟨c1, ho⟩ := c
    obtain ⟨x1, x2, x3, x4, x5⟩ := hV.2.2.1 (by omega)
    obtain ⟨_, hC⟩ := hV.2.2.2.1 c1
    have e1 : nI vd = 1 := by rw [c1]; rfl
    refine br_t e1 (zx_isOutput hN (fun _ => br_f (by decide) ?_) (fun z => absurd ho z))
    have ho' := ho
    obtain ⟨s, rfl, hs, hz⟩ := ho'
    refine zx_finishCover (R := R) h4.2 (by omega) x5 hC (fun cdn f_primeTotal a_implicant a_cubeCodes a_primeCube a_primeTail a_pick a_picked a_coverPrimes a_coverLength a_coverCells a_coverCodes hC' hb => And.intro (vp_in_nI (by omega) (by omega)) ?_)
    rw [nI_clamp (by omega), (hC'.2 s (by omega) hb).2.1]
    unfold wpY_coverSize
    dsimp only
    refine zy_isGood hN h5 (fun _ _ => ?_) (fun z => absurd ⟨c1, ho⟩ z)
    refine br_f (by decide) ?_
    exact zy_findCover H x2 (by omega) (fun b_next b_implicant b_prime hP => ⟨rfl, zr_mk hN (zr_Vc hV c1 hC')⟩)
  · have yf : wpY_coverSize (fun r' v' => r' = -1 ∧ i_Rel (k + 5) ((nI np), (nI ns), (nI nt), (nI im), (nI sm), (nI sc), (nI vd), f_stateCount, f_unsafeMet, f_inconsistentMet, f_queueEnd, f_primeTotal, (nI cdn), f_circuitDone, f_metCount, b_sig, b_dir, b_pre, b_post, a_stateBits, a_queue, a_codeMet, a_excitedSome, a_excitedAll, a_implicant, a_cubeCodes, a_primeCube, a_primeTail, a_pick, a_picked, a_coverPrimes, a_coverLength, a_coverCells, a_coverCodes, b_table, a_metBits, a_leastFailure) v') ((nI np), (nI ns), (nI sm), (nI sc), (nI nt), (nI vd), g_primeCount, g_coverMask, g_coverCount, b_sig, b_dir, b_pre, b_post, b_isInput, b_table, b_reach, b_met, b_next, b_implicant, b_prime, b_value) v1 := by
      unfold wpY_coverSize
      dsimp only
      refine zy_isGood hN h5 (fun a b => absurd ⟨a, b⟩ c) (fun _ => ?_)
      exact br_t rfl ⟨rfl, zr_mk hN hV⟩
    exact pk_eq vd 1 (fun z => zx_isOutput hN (fun o => absurd ⟨z, o⟩ c) (fun _ => br_t rfl yf)) (fun _ => yf)
theorem i_vc_coverCube {k : Nat} {u : SX} {v : SY} (I : i_Rel k u v) (hk : k + 5 ≤ 2562) (v1 : Int32) (v2 : Int32) : wpX_coverCube (fun r u' => wpY_coverCube (fun r' v' => r' = r ∧ i_Rel (k + 5) u' v') v v1 v2) u v1 v2 := by
  refine I (fun u v => wpX_coverCube (fun r u' => wpY_coverCube (fun r' v' => r' = r ∧ i_Rel (k + 5) u' v') v v1 v2) u v1 v2) ?_
  intro np ns nt im sm sc vd cdn sg dr pr po ip R f_stateCount f_unsafeMet f_inconsistentMet f_queueEnd f_primeTotal f_circuitDone f_metCount a_queue a_codeMet a_excitedSome a_excitedAll a_implicant a_cubeCodes a_primeCube a_primeTail a_pick a_picked a_coverPrimes a_coverLength a_coverCells a_coverCodes a_leastFailure a_stateBits a_metBits g_primeCount g_coverMask g_coverCount b_sig b_dir b_pre b_post b_isInput b_table b_reach b_met b_next b_implicant b_prime b_value hN hV
  have hN' := hN
  obtain ⟨hnp, H, hsm, hsc, hi, hip, hip2, hT⟩ := hN'
  have h5 := hV.1
  have h4 := H.1
  by_cases c : vd = 1 ∧ zr_Out ns ip v1
  · obtain ⟨c1, ho⟩ := c
    obtain ⟨x1, x2, x3, x4, x5⟩ := hV.2.2.1 (by omega)
    obtain ⟨_, hC⟩ := hV.2.2.2.1 c1
    have e1 : nI vd = 1 := by rw [c1]; rfl
    refine br_t e1 (zx_isOutput hN (fun _ => br_f (by decide) ?_) (fun z => absurd ho z))
    have ho' := ho
    obtain ⟨s, rfl, hs, hz⟩ := ho'
    have hP := zc_P16 h4.2 (zn_vl sg dr pr po nt R s)
    have hpl := zf_pc_le (zc_B ns (zn_vl sg dr pr po nt R s)) (zc_P ns (zn_vl sg dr pr po nt R s))
    have hB : zc_B ns (zn_vl sg dr pr po nt R s) < 2 ^ 16 := Nat.lt_of_lt_of_le (zc_Bs h4.2 (zn_vl sg dr pr po nt R s)).1.1 (Nat.pow_le_pow_right (by omega) hP)
    refine zx_finishCover (R := R) h4.2 (by omega) x5 hC (fun cdn f_primeTotal a_implicant a_cubeCodes a_primeCube a_primeTail a_pick a_picked a_coverPrimes a_coverLength a_coverCells a_coverCodes hC' hb => ?_)
    obtain ⟨k1, k2, k3, k4⟩ := hC'.2 s (by omega) hb
    have yb : ∀ post : Int32 → SY → Prop, (∀ b_next b_implicant b_prime : Nat → Int32, (∀ j, j < zc_P ns (zn_vl sg dr pr po nt R s) → b_prime j = nI ((zc_PL ns (zn_vl sg dr pr po nt R s)).getD j 0)) → ((v2 < 0 → post (-1) ((nI np), (nI ns), (nI sm), (nI sc), (nI nt), (nI vd), nI (zc_P ns (zn_vl sg dr pr po nt R s)), nI (zc_B ns (zn_vl sg dr pr po nt R s)), nI (zf_pc (zc_B ns (zn_vl sg dr pr po nt R s)) (zc_P ns (zn_vl sg dr pr po nt R s))), b_sig, b_dir, b_pre, b_post, b_isInput, b_table, b_reach, b_met, b_next, b_implicant, b_prime, b_value)) ∧ (¬ v2 < 0 → ((v2 < nI (zf_pc (zc_B ns (zn_vl sg dr pr po nt R s)) (zc_P ns (zn_vl sg dr pr po nt R s))) → (∃ n34 : Nat, wY_coverCube_34 post v2 (nI np) (nI ns) (nI sm) (nI sc) (nI nt) (nI vd) (nI (zc_P ns (zn_vl sg dr pr po nt R s))) (nI (zc_B ns (zn_vl sg dr pr po nt R s))) (nI (zf_pc (zc_B ns (zn_vl sg dr pr po nt R s)) (zc_P ns (zn_vl sg dr pr po nt R s)))) b_sig b_dir b_pre b_post b_isInput b_table b_reach b_met b_next b_implicant b_prime b_value n34 0 0)) ∧ (¬ v2 < nI (zf_pc (zc_B ns (zn_vl sg dr pr po nt R s)) (zc_P ns (zn_vl sg dr pr po nt R s))) → post (-1) ((nI np), (nI ns), (nI sm), (nI sc), (nI nt), (nI vd), nI (zc_P ns (zn_vl sg dr pr po nt R s)), nI (zc_B ns (zn_vl sg dr pr po nt R s)), nI (zf_pc (zc_B ns (zn_vl sg dr pr po nt R s)) (zc_P ns (zn_vl sg dr pr po nt R s))), b_sig, b_dir, b_pre, b_post, b_isInput, b_table, b_reach, b_met, b_next, b_implicant, b_prime, b_value)))))) → wpY_coverCube post ((nI np), (nI ns), (nI sm), (nI sc), (nI nt), (nI vd), g_primeCount, g_coverMask, g_coverCount, b_sig, b_dir, b_pre, b_post, b_isInput, b_table, b_reach, b_met, b_next, b_implicant, b_prime, b_value) (nI s) v2 := by
      intro post hh
      unfold wpY_coverCube
      dsimp only
      refine zy_isGood hN h5 (fun _ _ => ?_) (fun z => absurd ⟨c1, ho⟩ z)
      refine br_f (by decide) ?_
      exact zy_findCover H x2 (by omega) (fun b_next b_implicant b_prime hP => hh b_next b_implicant b_prime hP)
    have rel : ∀ b_next b_implicant b_prime : Nat → Int32, i_Rel (k + 5) ((nI np), (nI ns), (nI nt), (nI im), (nI sm), (nI sc), (nI vd), f_stateCount, f_unsafeMet, f_inconsistentMet, f_queueEnd, f_primeTotal, (nI cdn), f_circuitDone, f_metCount, b_sig, b_dir, b_pre, b_post, a_stateBits, a_queue, a_codeMet, a_excitedSome, a_excitedAll, a_implicant, a_cubeCodes, a_primeCube, a_primeTail, a_pick, a_picked, a_coverPrimes, a_coverLength, a_coverCells, a_coverCodes, b_table, a_metBits, a_leastFailure) ((nI np), (nI ns), (nI sm), (nI sc), (nI nt), (nI vd), nI (zc_P ns (zn_vl sg dr pr po nt R s)), nI (zc_B ns (zn_vl sg dr pr po nt R s)), nI (zf_pc (zc_B ns (zn_vl sg dr pr po nt R s)) (zc_P ns (zn_vl sg dr pr po nt R s))), b_sig, b_dir, b_pre, b_post, b_isInput, b_table, b_reach, b_met, b_next, b_implicant, b_prime, b_value) := fun b_next b_implicant b_prime => zr_mk hN (zr_Vc hV c1 hC')
    by_cases d1 : v2 < 0
    · exact br_t d1 (yb _ (fun b_next b_implicant b_prime hp => br_t d1 ⟨rfl, rel _ _ _⟩))
    obtain ⟨j, hj, rfl⟩ := nI_of d1
    refine br_f d1 (And.intro (vp_in_nI (by omega) (by omega)) ?_)
    rw [nI_clamp (by omega), k2, za_16]
    by_cases d2 : j < zf_pc (zc_B ns (zn_vl sg dr pr po nt R s)) (zc_P ns (zn_vl sg dr pr po nt R s))
    · have g : nI j < nI (zf_pc (zc_B ns (zn_vl sg dr pr po nt R s)) (zc_P ns (zn_vl sg dr pr po nt R s))) := nI_lt d2 (by omega)
      refine br_t g (And.intro (vp_in_nI (by omega) (by omega)) ?_)
      rw [nI_clamp (by omega), k3 j d2]
      refine yb _ (fun b_next b_implicant b_prime hp => br_f d1 (br_t g ?_))
      have hl : j - 0 < (zf_ls (zc_P ns (zn_vl sg dr pr po nt R s)) (zc_B ns (zn_vl sg dr pr po nt R s)) (zc_P ns (zn_vl sg dr pr po nt R s))).length := by rw [zf_ls_len]; omega
      have hlt := zf_ls_lt (P := zc_P ns (zn_vl sg dr pr po nt R s)) (M := zc_B ns (zn_vl sg dr pr po nt R s)) (Nat.le_refl _) hl
      have key := zy_cc34 (post := fun r' v' => r' = nI ((zc_PL ns (zn_vl sg dr pr po nt R s)).getD ((zf_ls (zc_P ns (zn_vl sg dr pr po nt R s)) (zc_B ns (zn_vl sg dr pr po nt R s)) (zc_P ns (zn_vl sg dr pr po nt R s))).getD j 0) 0) ∧ i_Rel (k + 5) ((nI np), (nI ns), (nI nt), (nI im), (nI sm), (nI sc), (nI vd), f_stateCount, f_unsafeMet, f_inconsistentMet, f_queueEnd, f_primeTotal, (nI cdn), f_circuitDone, f_metCount, b_sig, b_dir, b_pre, b_post, a_stateBits, a_queue, a_codeMet, a_excitedSome, a_excitedAll, a_implicant, a_cubeCodes, a_primeCube, a_primeTail, a_pick, a_picked, a_coverPrimes, a_coverLength, a_coverCells, a_coverCodes, b_table, a_metBits, a_leastFailure) v') (ns := ns) (nt := nt) (sm := sm) (sc := sc) (g_places := nI np) (g_verdict := nI vd) (g_coverCount := nI (zf_pc (zc_B ns (zn_vl sg dr pr po nt R s)) (zc_P ns (zn_vl sg dr pr po nt R s)))) (b_sig := b_sig) (b_dir := b_dir) (b_pre := b_pre) (b_post := b_post) (b_isInput := b_isInput) (b_table := b_table) (b_reach := b_reach) (b_met := b_met) (b_next := b_next) (b_implicant := b_implicant) (b_prime := b_prime) (b_value := b_value) (k := j) hP hB (by omega) (zc_P ns (zn_vl sg dr pr po nt R s)) (Nat.le_refl _) 0 (Nat.zero_le _) hl ⟨hp _ hlt, rel _ _ _⟩
      rw [Nat.sub_self] at key
      exact ⟨_, key⟩
    · have g : ¬ nI j < nI (zf_pc (zc_B ns (zn_vl sg dr pr po nt R s)) (zc_P ns (zn_vl sg dr pr po nt R s))) := nI_nlt (by omega) hj
      exact br_f g (yb _ (fun b_next b_implicant b_prime hp => br_f d1 (br_f g ⟨rfl, rel _ _ _⟩)))
  · have yf : wpY_coverCube (fun r' v' => r' = -1 ∧ i_Rel (k + 5) ((nI np), (nI ns), (nI nt), (nI im), (nI sm), (nI sc), (nI vd), f_stateCount, f_unsafeMet, f_inconsistentMet, f_queueEnd, f_primeTotal, (nI cdn), f_circuitDone, f_metCount, b_sig, b_dir, b_pre, b_post, a_stateBits, a_queue, a_codeMet, a_excitedSome, a_excitedAll, a_implicant, a_cubeCodes, a_primeCube, a_primeTail, a_pick, a_picked, a_coverPrimes, a_coverLength, a_coverCells, a_coverCodes, b_table, a_metBits, a_leastFailure) v') ((nI np), (nI ns), (nI sm), (nI sc), (nI nt), (nI vd), g_primeCount, g_coverMask, g_coverCount, b_sig, b_dir, b_pre, b_post, b_isInput, b_table, b_reach, b_met, b_next, b_implicant, b_prime, b_value) v1 v2 := by
      unfold wpY_coverCube
      dsimp only
      refine zy_isGood hN h5 (fun a b => absurd ⟨a, b⟩ c) (fun _ => ?_)
      exact br_t rfl ⟨rfl, zr_mk hN hV⟩
    exact pk_eq vd 1 (fun z => zx_isOutput hN (fun o => absurd ⟨z, o⟩ c) (fun _ => br_t rfl yf)) (fun _ => yf)
theorem i_vc_setGate {k : Nat} {u : SX} {v : SY} (I : i_Rel k u v) (hk : k + 5 ≤ 2562) (v1 : Int32) (v2 : Int32) : wpX_setGate (fun r u' => wpY_setGate (fun r' v' => r' = r ∧ i_Rel (k + 5) u' v') v v1 v2) u v1 v2 := by
  refine I (fun u v => wpX_setGate (fun r u' => wpY_setGate (fun r' v' => r' = r ∧ i_Rel (k + 5) u' v') v v1 v2) u v1 v2) ?_
  intro np ns nt im sm sc vd cdn sg dr pr po ip R f_stateCount f_unsafeMet f_inconsistentMet f_queueEnd f_primeTotal f_circuitDone f_metCount a_queue a_codeMet a_excitedSome a_excitedAll a_implicant a_cubeCodes a_primeCube a_primeTail a_pick a_picked a_coverPrimes a_coverLength a_coverCells a_coverCodes a_leastFailure a_stateBits a_metBits g_primeCount g_coverMask g_coverCount b_sig b_dir b_pre b_post b_isInput b_table b_reach b_met b_next b_implicant b_prime b_value hN hV
  have hN' := hN
  obtain ⟨hnp, H, hsm, hsc, hi, hip, hip2, hT⟩ := hN'
  have h5 := hV.1
  have h4 := H.1
  have same : ∀ r : Int32, r = r ∧ i_Rel (k + 5) ((nI np), (nI ns), (nI nt), (nI im), (nI sm), (nI sc), (nI vd), f_stateCount, f_unsafeMet, f_inconsistentMet, f_queueEnd, f_primeTotal, (nI cdn), f_circuitDone, f_metCount, b_sig, b_dir, b_pre, b_post, a_stateBits, a_queue, a_codeMet, a_excitedSome, a_excitedAll, a_implicant, a_cubeCodes, a_primeCube, a_primeTail, a_pick, a_picked, a_coverPrimes, a_coverLength, a_coverCells, a_coverCodes, b_table, a_metBits, a_leastFailure) ((nI np), (nI ns), (nI sm), (nI sc), (nI nt), (nI vd), g_primeCount, g_coverMask, g_coverCount, b_sig, b_dir, b_pre, b_post, b_isInput, b_table, b_reach, b_met, b_next, b_implicant, b_prime, b_value) := fun r => ⟨rfl, zr_mk hN hV⟩
  unfold wpX_setGate
  dsimp only
  refine zx_isOutput hN (fun ho => ?_) (fun ho => ?_)
  · obtain ⟨s, rfl, hs, hz⟩ := ho
    have cs : (nI s).toNatClampNeg = s := nI_clamp (by omega)
    have vs : vp_in (nI s) 4 := vp_in_nI (by omega) (by omega)
    have yb : ∀ post : Int32 → SY → Prop, ((v2 < (-1) → post 0 ((nI np), (nI ns), (nI sm), (nI sc), (nI nt), (nI vd), g_primeCount, g_coverMask, g_coverCount, b_sig, b_dir, b_pre, b_post, b_isInput, b_table, b_reach, b_met, b_next, b_implicant, b_prime, b_value)) ∧ (¬ v2 < (-1) → ((v2 ≤ 65535 → post 1 ((nI np), (nI ns), (nI sm), (nI sc), (nI nt), (nI vd), g_primeCount, g_coverMask, g_coverCount, b_sig, b_dir, b_pre, b_post, b_isInput, upd b_table s v2, b_reach, b_met, b_next, b_implicant, b_prime, b_value)) ∧ (¬ v2 ≤ 65535 → post 0 ((nI np), (nI ns), (nI sm), (nI sc), (nI nt), (nI vd), g_primeCount, g_coverMask, g_coverCount, b_sig, b_dir, b_pre, b_post, b_isInput, b_table, b_reach, b_met, b_next, b_implicant, b_prime, b_value))))) → wpY_setGate post ((nI np), (nI ns), (nI sm), (nI sc), (nI nt), (nI vd), g_primeCount, g_coverMask, g_coverCount, b_sig, b_dir, b_pre, b_post, b_isInput, b_table, b_reach, b_met, b_next, b_implicant, b_prime, b_value) (nI s) v2 := fun post hh =>
      br_f (nI_pos (by omega)) (br_f (nI_ge hs (by omega)) (And.intro vs (za_brx (ip s) (by rw [cs]; exact hip2 s hs) (fun _ => ⟨fun z => hh.1 z, fun z => ⟨fun y => And.intro vs (nm_r (e' := upd b_table s v2) (by rw [cs]) ((hh.2 z).1 y)), fun y => (hh.2 z).2 y⟩⟩) (fun w => by rw [hz] at w; exact absurd w (by decide)))))
    refine br_f (by decide) ?_
    by_cases d1 : v2 < -1
    · exact br_t d1 (yb _ (br_t d1 (same _)))
    by_cases d2 : v2 ≤ 65535
    rotate_left
    · exact br_f d1 (br_f d2 (yb _ (br_f d1 (br_f d2 (same _)))))
    refine br_f d1 (br_t d2 (And.intro vs (nm_r (e' := upd b_table s v2) (by rw [cs]) ?_)))
    refine yb _ (br_f d1 (br_t d2 ⟨rfl, ?_⟩))
    have hv2 : v2 = -1 ∨ ∃ n, n < 65536 ∧ v2 = nI n := by
      by_cases e : v2 < 0
      · left
        have a := Int32.lt_iff_toInt_lt.mp e
        have b : ¬ v2.toInt < (-1 : Int32).toInt := fun z => d1 (Int32.lt_iff_toInt_lt.mpr z)
        have e0 : (0 : Int32).toInt = 0 := by decide
        have e1 : (-1 : Int32).toInt = -1 := by decide
        apply Int32.toInt_inj.mp
        omega
      · right
        obtain ⟨n, hn, rfl⟩ := nI_of e
        have := (nI_leI (b := 65535) hn (by omega)).mp d2
        exact ⟨n, by omega, rfl⟩
    have hT' : zg_T (upd b_table s v2) := fun j hj => by
      by_cases e : j = s
      · rw [e, pk_us]; exact hv2
      · rw [pk_un e]; exact hT j hj
    exact zr_mk ⟨hnp, H, hsm, hsc, hi, hip, hip2, hT'⟩ ⟨hV.1, fun z => ⟨(hV.2.1 z).1, rfl⟩, hV.2.2.1, hV.2.2.2.1, Or.inl rfl⟩
  · refine br_t rfl ?_
    refine br_c (fun y => same _) (fun y => ?_)
    obtain ⟨s, hs, rfl⟩ := nI_of y
    refine pk_le ns s (fun w => same _) (fun w => And.intro (vp_in_nI (by omega) (by omega)) (za_brx (ip s) (by rw [nI_clamp (by omega)]; exact hip2 s w) (fun x => absurd ⟨s, rfl, w, x⟩ ho) (fun _ => same _)))
theorem i_vc_gate {k : Nat} {u : SX} {v : SY} (I : i_Rel k u v) (hk : k + 5 ≤ 2562) (v1 : Int32) (v2 : Int32) : wpX_gate (fun r u' => wpY_gate (fun r' v' => r' = r ∧ i_Rel (k + 5) u' v') v v1 v2) u v1 v2 := by
  refine I (fun u v => wpX_gate (fun r u' => wpY_gate (fun r' v' => r' = r ∧ i_Rel (k + 5) u' v') v v1 v2) u v1 v2) ?_
  intro np ns nt im sm sc vd cdn sg dr pr po ip R f_stateCount f_unsafeMet f_inconsistentMet f_queueEnd f_primeTotal f_circuitDone f_metCount a_queue a_codeMet a_excitedSome a_excitedAll a_implicant a_cubeCodes a_primeCube a_primeTail a_pick a_picked a_coverPrimes a_coverLength a_coverCells a_coverCodes a_leastFailure a_stateBits a_metBits g_primeCount g_coverMask g_coverCount b_sig b_dir b_pre b_post b_isInput b_table b_reach b_met b_next b_implicant b_prime b_value hN hV
  have hN' := hN
  obtain ⟨hnp, H, hsm, hsc, hi, hip, hip2, hT⟩ := hN'
  have h5 := hV.1
  have h4 := H.1
  have h16 := za_p4 h4.2
  have eb := za_1l ns (by omega)
  by_cases c : vd = 1 ∧ zr_Out ns ip v1
  · obtain ⟨c1, ho⟩ := c
    obtain ⟨x1, x2, x3, x4, x5⟩ := hV.2.2.1 (by omega)
    obtain ⟨_, hC⟩ := hV.2.2.2.1 c1
    have e1 : nI vd = 1 := by rw [c1]; rfl
    refine br_t e1 (zx_isOutput hN (fun _ => br_f (by decide) ?_) (fun z => absurd ho z))
    have ho' := ho
    obtain ⟨s, rfl, hs, hz⟩ := ho'
    have yb : ∀ post : Int32 → SY → Prop, ((v2 < 0 → post (-1) ((nI np), (nI ns), (nI sm), (nI sc), (nI nt), (nI vd), g_primeCount, g_coverMask, g_coverCount, b_sig, b_dir, b_pre, b_post, b_isInput, b_table, b_reach, b_met, b_next, b_implicant, b_prime, b_value)) ∧ (¬ v2 < 0 → ((v2 < ((1 : Int32) <<< (nI ns &&& 31)) → wpY_fillGate (fun u => match u with | (f_places_27, f_signals_28, f_startMarking_29, f_startCode_30, f_count_31, f_verdict_32, f_primeCount_33, f_coverMask_34, f_coverCount_35, a_sig_36, a_dir_37, a_pre_38, a_post_39, a_isInput_40, a_table_41, a_reach_42, a_met_43, a_next_44, a_implicant_45, a_prime_46, a_value_47) => (vp_in ((16 * nI s) + v2) 64 ∧ (post (a_value_47 ((16 * nI s) + v2).toNatClampNeg) (f_places_27, f_signals_28, f_startMarking_29, f_startCode_30, f_count_31, f_verdict_32, f_primeCount_33, f_coverMask_34, f_coverCount_35, a_sig_36, a_dir_37, a_pre_38, a_post_39, a_isInput_40, a_table_41, a_reach_42, a_met_43, a_next_44, a_implicant_45, a_prime_46, a_value_47)))) ((nI np), (nI ns), (nI sm), (nI sc), (nI nt), (nI vd), g_primeCount, g_coverMask, g_coverCount, b_sig, b_dir, b_pre, b_post, b_isInput, b_table, b_reach, b_met, b_next, b_implicant, b_prime, b_value) (nI s)) ∧ (¬ v2 < ((1 : Int32) <<< (nI ns &&& 31)) → post (-1) ((nI np), (nI ns), (nI sm), (nI sc), (nI nt), (nI vd), g_primeCount, g_coverMask, g_coverCount, b_sig, b_dir, b_pre, b_post, b_isInput, b_table, b_reach, b_met, b_next, b_implicant, b_prime, b_value))))) → wpY_gate post ((nI np), (nI ns), (nI sm), (nI sc), (nI nt), (nI vd), g_primeCount, g_coverMask, g_coverCount, b_sig, b_dir, b_pre, b_post, b_isInput, b_table, b_reach, b_met, b_next, b_implicant, b_prime, b_value) (nI s) v2 := by
      intro post hh
      unfold wpY_gate
      dsimp only
      refine zy_isGood hN h5 (fun _ _ => ?_) (fun z => absurd ⟨c1, ho⟩ z)
      exact br_f (by decide) hh
    by_cases d1 : v2 < 0
    · exact br_t d1 (yb _ (br_t d1 ⟨rfl, zr_mk hN hV⟩))
    obtain ⟨j, hj, rfl⟩ := nI_of d1
    by_cases d2 : j < 2 ^ ns
    · have g : nI j < (1 : Int32) <<< (nI ns &&& 31) := by rw [eb]; exact nI_lt d2 (by omega)
      have hg := zg_gt_lt (vl := zn_vl sg dr pr po nt R) (s := s) h4.2 hT (by omega)
      refine br_f d1 (br_t g (zx_gateTable (R := R) h4.2 (by omega) x5 hT hC (fun cdn f_primeTotal a_implicant a_cubeCodes a_primeCube a_primeTail a_pick a_picked a_coverPrimes a_coverLength a_coverCells a_coverCodes hC' => ?_)))
      rw [za_rd (by omega) (by omega)]
      refine yb _ (br_f d1 (br_t g ?_))
      refine zy_fillGate H x2 hs hT (fun g_primeCount g_coverMask g_coverCount b_next b_implicant b_prime b_value' h1 h2 => ?_)
      rw [za_16, nI_clamp (by omega)]
      exact And.intro (vp_in_nI (by omega) (by omega)) ⟨h1 j d2, zr_mk hN (zr_Vc hV c1 hC')⟩
    · have g : ¬ nI j < (1 : Int32) <<< (nI ns &&& 31) := by rw [eb]; exact nI_nlt (by omega) hj
      exact br_f d1 (br_f g (yb _ (br_f d1 (br_f g ⟨rfl, zr_mk hN hV⟩))))
  · have yf : wpY_gate (fun r' v' => r' = -1 ∧ i_Rel (k + 5) ((nI np), (nI ns), (nI nt), (nI im), (nI sm), (nI sc), (nI vd), f_stateCount, f_unsafeMet, f_inconsistentMet, f_queueEnd, f_primeTotal, (nI cdn), f_circuitDone, f_metCount, b_sig, b_dir, b_pre, b_post, a_stateBits, a_queue, a_codeMet, a_excitedSome, a_excitedAll, a_implicant, a_cubeCodes, a_primeCube, a_primeTail, a_pick, a_picked, a_coverPrimes, a_coverLength, a_coverCells, a_coverCodes, b_table, a_metBits, a_leastFailure) v') ((nI np), (nI ns), (nI sm), (nI sc), (nI nt), (nI vd), g_primeCount, g_coverMask, g_coverCount, b_sig, b_dir, b_pre, b_post, b_isInput, b_table, b_reach, b_met, b_next, b_implicant, b_prime, b_value) v1 v2 := by
      unfold wpY_gate
      dsimp only
      refine zy_isGood hN h5 (fun a b => absurd ⟨a, b⟩ c) (fun _ => ?_)
      exact br_t rfl ⟨rfl, zr_mk hN hV⟩
    exact pk_eq vd 1 (fun z => zx_isOutput hN (fun o => absurd ⟨z, o⟩ c) (fun _ => br_t rfl yf)) (fun _ => yf)
end
section
/-! ===== the calls: verify, witness ===== -/
section
variable {np ns nt im sm sc vd cdn : Nat} {sg : Nat → Nat} {dr : Nat → Bool} {pr po : Nat → Nat} {ip R : Nat → Bool} {f_stateCount f_unsafeMet f_inconsistentMet f_queueEnd f_primeTotal f_circuitDone f_metCount : Int32} {a_queue a_codeMet a_excitedSome a_excitedAll a_implicant a_cubeCodes a_primeCube a_primeTail a_pick a_picked a_coverPrimes a_coverLength a_coverCells a_coverCodes a_leastFailure : Nat → Int32} {a_stateBits a_metBits : Nat → Int64} {g_primeCount g_coverMask g_coverCount : Int32} {b_sig b_dir b_pre b_post b_isInput b_table b_reach b_met b_next b_implicant b_prime b_value : Nat → Int32}
theorem zr_run {post : SX → Prop} (hN : zr_N np ns nt im sm sc sg dr pr po ip b_sig b_dir b_pre b_post b_isInput b_table) (hV : zr_V ns nt sm sc vd cdn sg dr pr po ip R f_stateCount f_circuitDone f_metCount a_stateBits a_codeMet a_excitedSome a_excitedAll a_coverPrimes a_coverLength a_coverCells a_coverCodes a_leastFailure b_table b_reach) (c1 : vd = 1) (h : ∀ (cdn : Nat) (f_primeTotal : Int32) (a_implicant a_cubeCodes a_primeCube a_primeTail a_pick a_picked a_coverPrimes a_coverLength a_coverCells a_coverCodes : Nat → Int32) (f_queueEnd f_circuitDone f_metCount : Int32) (a_metBits : Nat → Int64) (a_queue a_leastFailure : Nat → Int32), zr_V ns nt sm sc vd cdn sg dr pr po ip R f_stateCount f_circuitDone f_metCount a_stateBits a_codeMet a_excitedSome a_excitedAll a_coverPrimes a_coverLength a_coverCells a_coverCodes a_leastFailure b_table b_reach → zr_C ns nt sm sc sg pr po ip (zg_gt ns b_table (zn_vl sg dr pr po nt R)) f_metCount a_leastFailure → post ((nI np), (nI ns), (nI nt), (nI im), (nI sm), (nI sc), (nI vd), f_stateCount, f_unsafeMet, f_inconsistentMet, f_queueEnd, f_primeTotal, (nI cdn), f_circuitDone, f_metCount, b_sig, b_dir, b_pre, b_post, a_stateBits, a_queue, a_codeMet, a_excitedSome, a_excitedAll, a_implicant, a_cubeCodes, a_primeCube, a_primeTail, a_pick, a_picked, a_coverPrimes, a_coverLength, a_coverCells, a_coverCodes, b_table, a_metBits, a_leastFailure)) : wpX_runCircuit post ((nI np), (nI ns), (nI nt), (nI im), (nI sm), (nI sc), (nI vd), f_stateCount, f_unsafeMet, f_inconsistentMet, f_queueEnd, f_primeTotal, (nI cdn), f_circuitDone, f_metCount, b_sig, b_dir, b_pre, b_post, a_stateBits, a_queue, a_codeMet, a_excitedSome, a_excitedAll, a_implicant, a_cubeCodes, a_primeCube, a_primeTail, a_pick, a_picked, a_coverPrimes, a_coverLength, a_coverCells, a_coverCodes, b_table, a_metBits, a_leastFailure) := by
  obtain ⟨hnp, H, hsm, hsc, hi, hip, hip2, hT⟩ := hN
  have h6 := zr_p6 hnp.2
  have h16 := za_p4 H.1.2
  obtain ⟨x1, x2, x3, x4, x5⟩ := hV.2.2.1 (by omega)
  obtain ⟨hUQ, hC⟩ := hV.2.2.2.1 c1
  rcases hV.2.2.2.2 with c0 | ⟨c0, hc⟩
  · refine zx_runCircuit (R := R) H hi hip x5 hT hC (by omega) (by omega) c0 (fun cdn f_primeTotal a_implicant a_cubeCodes a_primeCube a_primeTail a_pick a_picked a_coverPrimes a_coverLength a_coverCells a_coverCodes hC' bits q e lf w => ?_)
    obtain ⟨w1, w2, w3, w4, w5⟩ := zx_R_e w
    have z : zr_C ns nt sm sc sg pr po ip (zg_gt ns b_table (zn_vl sg dr pr po nt R)) (nI e) lf := ⟨za_v bits, w1, by rw [w2], w3, w4, w5⟩
    exact h cdn f_primeTotal a_implicant a_cubeCodes a_primeCube a_primeTail a_pick a_picked a_coverPrimes a_coverLength a_coverCells a_coverCodes (nI e) 1 (nI e) bits q lf ⟨hV.1, fun y => absurd c1 y, hV.2.2.1, fun _ => ⟨hUQ, hC'⟩, Or.inr ⟨rfl, z⟩⟩ z
  · exact br_f (by rw [c0]; decide) (h cdn f_primeTotal a_implicant a_cubeCodes a_primeCube a_primeTail a_pick a_picked a_coverPrimes a_coverLength a_coverCells a_coverCodes f_queueEnd f_circuitDone f_metCount a_metBits a_queue a_leastFailure hV hc)
/-- the reference's met states, and what they show -/
def zr_Y (ns nt sm sc : Nat) (sg : Nat → Nat) (dr : Nat → Bool) (pr po : Nat → Nat) (ip : Nat → Bool) (gt : Nat → Nat) (M : Nat → Bool) (b_met b_value : Nat → Int32) : Prop :=
  zg_V ns ip gt b_value ∧ zn_rep b_met M ∧ zg_cd ns M ∧ zn_Ls (zg_g sg pr ip gt) (zg_t sg dr pr po) nt (16 * sm + sc) M
theorem zr_fm {post : SY → Prop} (hN : zr_N np ns nt im sm sc sg dr pr po ip b_sig b_dir b_pre b_post b_isInput b_table) (hV : zr_V ns nt sm sc vd cdn sg dr pr po ip R f_stateCount f_circuitDone f_metCount a_stateBits a_codeMet a_excitedSome a_excitedAll a_coverPrimes a_coverLength a_coverCells a_coverCodes a_leastFailure b_table b_reach) (c1 : vd = 1) (h : ∀ (M : Nat → Bool) (g_primeCount g_coverMask g_coverCount : Int32) (b_met b_next b_implicant b_prime b_value : Nat → Int32), zr_Y ns nt sm sc sg dr pr po ip (zg_gt ns b_table (zn_vl sg dr pr po nt R)) M b_met b_value → post ((nI np), (nI ns), (nI sm), (nI sc), (nI nt), (nI vd), g_primeCount, g_coverMask, g_coverCount, b_sig, b_dir, b_pre, b_post, b_isInput, b_table, b_reach, b_met, b_next, b_implicant, b_prime, b_value)) : wpY_findMet post ((nI np), (nI ns), (nI sm), (nI sc), (nI nt), (nI vd), g_primeCount, g_coverMask, g_coverCount, b_sig, b_dir, b_pre, b_post, b_isInput, b_table, b_reach, b_met, b_next, b_implicant, b_prime, b_value) := by
  obtain ⟨hnp, H, hsm, hsc, hi, hip, hip2, hT⟩ := hN
  have h6 := zr_p6 hnp.2
  obtain ⟨x1, x2, x3, x4, x5⟩ := hV.2.2.1 (by omega)
  exact zy_findMet H x2 hT hip2 (by omega) hsc (fun M g_primeCount g_coverMask g_coverCount b_met b_next b_implicant b_prime b_value y1 y2 y3 y4 => h M g_primeCount g_coverMask g_coverCount b_met b_next b_implicant b_prime b_value ⟨y1, y2, y3, y4⟩)
theorem zr_f5 {post : Int32 → Prop} {M : Nat → Bool} (hN : zr_N np ns nt im sm sc sg dr pr po ip b_sig b_dir b_pre b_post b_isInput b_table) (hY : zr_Y ns nt sm sc sg dr pr po ip (zg_gt ns b_table (zn_vl sg dr pr po nt R)) M b_met b_value) (h : ∀ x, zn_Lf (fun st => M st = true ∧ zg_s5 sg pr ip (zg_gt ns b_table (zn_vl sg dr pr po nt R)) ns nt (st / 16) (st % 16) = true) x → post x) : wpY_firstThatShows post ((nI np), (nI ns), (nI sm), (nI sc), (nI nt), (nI vd), g_primeCount, g_coverMask, g_coverCount, b_sig, b_dir, b_pre, b_post, b_isInput, b_table, b_reach, b_met, b_next, b_implicant, b_prime, b_value) 5 := by
  obtain ⟨hnp, H, hsm, hsc, hi, hip, hip2, hT⟩ := hN
  exact zy_firstThatShows (sh := fun st => zg_s5 sg pr ip (zg_gt ns b_table (zn_vl sg dr pr po nt R)) ns nt (st / 16) (st % 16)) hY.2.1 (fun st hs hm p hp => zy_shows5 H hip2 hY.1 (hY.2.2.1 st hs hm) hp) h
theorem zr_f6 {post : Int32 → Prop} {M : Nat → Bool} (hN : zr_N np ns nt im sm sc sg dr pr po ip b_sig b_dir b_pre b_post b_isInput b_table) (hY : zr_Y ns nt sm sc sg dr pr po ip (zg_gt ns b_table (zn_vl sg dr pr po nt R)) M b_met b_value) (h : ∀ x, zn_Lf (fun st => M st = true ∧ zg_s6 sg dr pr ip (zg_gt ns b_table (zn_vl sg dr pr po nt R)) ns nt (st / 16) (st % 16) = true) x → post x) : wpY_firstThatShows post ((nI np), (nI ns), (nI sm), (nI sc), (nI nt), (nI vd), g_primeCount, g_coverMask, g_coverCount, b_sig, b_dir, b_pre, b_post, b_isInput, b_table, b_reach, b_met, b_next, b_implicant, b_prime, b_value) 6 := by
  obtain ⟨hnp, H, hsm, hsc, hi, hip, hip2, hT⟩ := hN
  exact zy_firstThatShows (sh := fun st => zg_s6 sg dr pr ip (zg_gt ns b_table (zn_vl sg dr pr po nt R)) ns nt (st / 16) (st % 16)) hY.2.1 (fun st hs hm p hp => zy_shows6 H hip2 hY.1 (by omega) (hY.2.2.1 st hs hm) hp) h
theorem zr_f7 {post : Int32 → Prop} {M : Nat → Bool} (hN : zr_N np ns nt im sm sc sg dr pr po ip b_sig b_dir b_pre b_post b_isInput b_table) (hY : zr_Y ns nt sm sc sg dr pr po ip (zg_gt ns b_table (zn_vl sg dr pr po nt R)) M b_met b_value) (h : ∀ x, zn_Lf (fun st => M st = true ∧ zg_s7 sg pr ip (zg_gt ns b_table (zn_vl sg dr pr po nt R)) ns nt (st / 16) (st % 16) = true) x → post x) : wpY_firstThatShows post ((nI np), (nI ns), (nI sm), (nI sc), (nI nt), (nI vd), g_primeCount, g_coverMask, g_coverCount, b_sig, b_dir, b_pre, b_post, b_isInput, b_table, b_reach, b_met, b_next, b_implicant, b_prime, b_value) 7 := by
  obtain ⟨hnp, H, hsm, hsc, hi, hip, hip2, hT⟩ := hN
  exact zy_firstThatShows (sh := fun st => zg_s7 sg pr ip (zg_gt ns b_table (zn_vl sg dr pr po nt R)) ns nt (st / 16) (st % 16)) hY.2.1 (fun st hs hm p hp => zy_shows7 H hip2 hY.1 (hY.2.2.1 st hs hm) hp) h
/-- the component's findings are the reference's -/
theorem zr_eq {M : Nat → Bool} (hV : zr_V ns nt sm sc vd cdn sg dr pr po ip R f_stateCount f_circuitDone f_metCount a_stateBits a_codeMet a_excitedSome a_excitedAll a_coverPrimes a_coverLength a_coverCells a_coverCodes a_leastFailure b_table b_reach) (c1 : vd = 1) (hC : zr_C ns nt sm sc sg pr po ip (zg_gt ns b_table (zn_vl sg dr pr po nt R)) f_metCount a_leastFailure) (hY : zr_Y ns nt sm sc sg dr pr po ip (zg_gt ns b_table (zn_vl sg dr pr po nt R)) M b_met b_value) :
    f_metCount = nI (za_c M 1024) ∧ (∀ x, zn_Lf (fun st => M st = true ∧ zg_s5 sg pr ip (zg_gt ns b_table (zn_vl sg dr pr po nt R)) ns nt (st / 16) (st % 16) = true) x → x = a_leastFailure 0) ∧ (∀ x, zn_Lf (fun st => M st = true ∧ zg_s6 sg dr pr ip (zg_gt ns b_table (zn_vl sg dr pr po nt R)) ns nt (st / 16) (st % 16) = true) x → x = a_leastFailure 1) ∧ (∀ x, zn_Lf (fun st => M st = true ∧ zg_s7 sg pr ip (zg_gt ns b_table (zn_vl sg dr pr po nt R)) ns nt (st / 16) (st % 16) = true) x → x = a_leastFailure 2) := by
  obtain ⟨x1, x2, x3, x4, x5⟩ := hV.2.2.1 (by omega)
  obtain ⟨⟨hU, hQ⟩, _⟩ := hV.2.2.2.1 c1
  obtain ⟨MX, m1, m2, m3, m4, m5⟩ := hC
  have eq := zr_M hU hQ x1 m1 hY.2.2.2
  refine ⟨by rw [m2]; exact congrArg nI (za_c_eq (fun st hs => (eq st hs).1)), fun x hx => zn_Lf_u (fun st hs => by rw [(eq st hs).1]) hx m3, fun x hx => zn_Lf_u (fun st hs => ?_) hx m4, fun x hx => zn_Lf_u (fun st hs => by rw [(eq st hs).1]) hx m5⟩
  rw [(eq st hs).1]
  have k : M st = true → zx_s6 sg pr ip (zg_gt ns b_table (zn_vl sg dr pr po nt R)) ns nt (st / 16) (st % 16) = zg_s6 sg dr pr ip (zg_gt ns b_table (zn_vl sg dr pr po nt R)) ns nt (st / 16) (st % 16) := fun z =>
    zr_s6 (fun t ht he => zn_yc_eq (zr_ok hU hQ hs ((eq st hs).2 z) ht he).2)
  constructor
  · rintro ⟨a, b⟩; exact ⟨a, by rw [k a]; exact b⟩
  · rintro ⟨a, b⟩; exact ⟨a, by rw [← k a]; exact b⟩
theorem zr_neg {p : Nat → Prop} {x : Int32} (h : zn_Lf p x) : x < 0 ↔ x = -1 := by
  rcases h with ⟨e, _⟩ | ⟨st, hs, e, _⟩
  · rw [e]; decide
  · rw [e]
    have a := nI_pos (n := st) (by omega)
    exact ⟨fun z => absurd z a, fun z => absurd (by rw [z]; decide) a⟩
end
theorem i_vc_verify {k : Nat} {u : SX} {v : SY} (I : i_Rel k u v) (hk : k + 5 ≤ 2562) : wpX_verify (fun r u' => wpY_verify (fun r' v' => r' = r ∧ i_Rel (k + 5) u' v') v) u := by
  refine I (fun u v => wpX_verify (fun r u' => wpY_verify (fun r' v' => r' = r ∧ i_Rel (k + 5) u' v') v) u) ?_
  intro np ns nt im sm sc vd cdn sg dr pr po ip R f_stateCount f_unsafeMet f_inconsistentMet f_queueEnd f_primeTotal f_circuitDone f_metCount a_queue a_codeMet a_excitedSome a_excitedAll a_implicant a_cubeCodes a_primeCube a_primeTail a_pick a_picked a_coverPrimes a_coverLength a_coverCells a_coverCodes a_leastFailure a_stateBits a_metBits g_primeCount g_coverMask g_coverCount b_sig b_dir b_pre b_post b_isInput b_table b_reach b_met b_next b_implicant b_prime b_value hN hV
  have h5 := hV.1
  by_cases c : vd = 1
  rotate_left
  · have e : ¬ nI vd = 1 := fun z => c ((nI_eq (b := 1) (by omega) (by omega)).mp z)
    exact br_f e (br_f e ⟨rfl, zr_mk hN hV⟩)
  have e1 : nI vd = 1 := by rw [c]; rfl
  refine br_t e1 (zr_run hN hV c (fun cdn f_primeTotal a_implicant a_cubeCodes a_primeCube a_primeTail a_pick a_picked a_coverPrimes a_coverLength a_coverCells a_coverCodes f_queueEnd f_circuitDone f_metCount a_metBits a_queue a_leastFailure hV hC => ?_))
  have hC' := hC
  obtain ⟨MX, m1, m2, m3, m4, m5⟩ := hC'
  have n0 := zr_neg m3
  have n1 := zr_neg m4
  have n2 := zr_neg m5
  have yb : ∀ r : Int32, (a_leastFailure 0 = -1 → a_leastFailure 1 = -1 → a_leastFailure 2 = -1 → r = 1) → (a_leastFailure 0 = -1 → a_leastFailure 1 = -1 → ¬ a_leastFailure 2 = -1 → r = 7) → (a_leastFailure 0 = -1 → ¬ a_leastFailure 1 = -1 → r = 6) → (¬ a_leastFailure 0 = -1 → r = 5) → wpY_verify (fun r' v' => r' = r ∧ i_Rel (k + 5) ((nI np), (nI ns), (nI nt), (nI im), (nI sm), (nI sc), (nI vd), f_stateCount, f_unsafeMet, f_inconsistentMet, f_queueEnd, f_primeTotal, (nI cdn), f_circuitDone, f_metCount, b_sig, b_dir, b_pre, b_post, a_stateBits, a_queue, a_codeMet, a_excitedSome, a_excitedAll, a_implicant, a_cubeCodes, a_primeCube, a_primeTail, a_pick, a_picked, a_coverPrimes, a_coverLength, a_coverCells, a_coverCodes, b_table, a_metBits, a_leastFailure) v') ((nI np), (nI ns), (nI sm), (nI sc), (nI nt), (nI vd), g_primeCount, g_coverMask, g_coverCount, b_sig, b_dir, b_pre, b_post, b_isInput, b_table, b_reach, b_met, b_next, b_implicant, b_prime, b_value) := by
    intro r r1 r7 r6 r5
    refine br_t e1 (zr_fm hN hV c (fun M g_primeCount g_coverMask g_coverCount b_met b_next b_implicant b_prime b_value hY => ⟨4, ?_⟩))
    obtain ⟨_, q0, q1, q2⟩ := zr_eq hV c hC hY
    have rel : i_Rel (k + 5) ((nI np), (nI ns), (nI nt), (nI im), (nI sm), (nI sc), (nI vd), f_stateCount, f_unsafeMet, f_inconsistentMet, f_queueEnd, f_primeTotal, (nI cdn), f_circuitDone, f_metCount, b_sig, b_dir, b_pre, b_post, a_stateBits, a_queue, a_codeMet, a_excitedSome, a_excitedAll, a_implicant, a_cubeCodes, a_primeCube, a_primeTail, a_pick, a_picked, a_coverPrimes, a_coverLength, a_coverCells, a_coverCodes, b_table, a_metBits, a_leastFailure) ((nI np), (nI ns), (nI sm), (nI sc), (nI nt), (nI vd), g_primeCount, g_coverMask, g_coverCount, b_sig, b_dir, b_pre, b_post, b_isInput, b_table, b_reach, b_met, b_next, b_implicant, b_prime, b_value) := zr_mk hN hV
    refine br_f (by decide) (zr_f5 hN hY (fun y hy => ?_))
    rw [q0 y hy]
    refine br_c (fun z0 => nm_r (e' := 6) (by decide) ?_) (fun z0 => ⟨(r5 z0).symm, rel⟩)
    refine br_f (by decide) (zr_f6 hN hY (fun y hy => ?_))
    rw [q1 y hy]
    refine br_c (fun z1 => nm_r (e' := 7) (by decide) ?_) (fun z1 => ⟨(r6 z0 z1).symm, rel⟩)
    refine br_f (by decide) (zr_f7 hN hY (fun y hy => ?_))
    rw [q2 y hy]
    refine br_c (fun z2 => nm_r (e' := 8) (by decide) ?_) (fun z2 => ⟨(r7 z0 z1 z2).symm, rel⟩)
    exact br_t (by decide) ⟨(r1 z0 z1 z2).symm, rel⟩
  refine br_c (fun z0 => br_c (fun z1 => br_c (fun z2 => ?_) (fun z2 => ?_)) (fun z1 => ?_)) (fun z0 => ?_)
  · exact yb _ (fun _ _ _ => rfl) (fun _ _ y => absurd (n2.mp z2) y) (fun _ y => absurd (n1.mp z1) y) (fun y => absurd (n0.mp z0) y)
  · exact yb _ (fun _ _ y => absurd (n2.mpr y) z2) (fun _ _ _ => rfl) (fun _ y => absurd (n1.mp z1) y) (fun y => absurd (n0.mp z0) y)
  · exact yb _ (fun _ y _ => absurd (n1.mpr y) z1) (fun _ y _ => absurd (n1.mpr y) z1) (fun _ _ => rfl) (fun y => absurd (n0.mp z0) y)
  · exact yb _ (fun y _ _ => absurd (n0.mpr y) z0) (fun y _ _ => absurd (n0.mpr y) z0) (fun y _ => absurd (n0.mpr y) z0) (fun _ => rfl)
theorem i_vc_witness {k : Nat} {u : SX} {v : SY} (I : i_Rel k u v) (hk : k + 5 ≤ 2562) (v1 : Int32) : wpX_witness (fun r u' => wpY_witness (fun r' v' => r' = r ∧ i_Rel (k + 5) u' v') v v1) u v1 := by
  refine I (fun u v => wpX_witness (fun r u' => wpY_witness (fun r' v' => r' = r ∧ i_Rel (k + 5) u' v') v v1) u v1) ?_
  intro np ns nt im sm sc vd cdn sg dr pr po ip R f_stateCount f_unsafeMet f_inconsistentMet f_queueEnd f_primeTotal f_circuitDone f_metCount a_queue a_codeMet a_excitedSome a_excitedAll a_implicant a_cubeCodes a_primeCube a_primeTail a_pick a_picked a_coverPrimes a_coverLength a_coverCells a_coverCodes a_leastFailure a_stateBits a_metBits g_primeCount g_coverMask g_coverCount b_sig b_dir b_pre b_post b_isInput b_table b_reach b_met b_next b_implicant b_prime b_value hN hV
  have h5 := hV.1
  by_cases c : vd = 1
  rotate_left
  · have e : ¬ nI vd = 1 := fun z => c ((nI_eq (b := 1) (by omega) (by omega)).mp z)
    exact br_f e (br_f e ⟨rfl, zr_mk hN hV⟩)
  have e1 : nI vd = 1 := by rw [c]; rfl
  refine br_t e1 (zr_run hN hV c (fun cdn f_primeTotal a_implicant a_cubeCodes a_primeCube a_primeTail a_pick a_picked a_coverPrimes a_coverLength a_coverCells a_coverCodes f_queueEnd f_circuitDone f_metCount a_metBits a_queue a_leastFailure hV hC => ?_))
  by_cases d1 : v1 = 1
  · refine br_t d1 (br_t e1 (zr_fm hN hV c (fun M g_primeCount g_coverMask g_coverCount b_met b_next b_implicant b_prime b_value hY => br_t d1 ?_)))
    obtain ⟨q, _⟩ := zr_eq hV c hC hY
    have rel : i_Rel (k + 5) ((nI np), (nI ns), (nI nt), (nI im), (nI sm), (nI sc), (nI vd), f_stateCount, f_unsafeMet, f_inconsistentMet, f_queueEnd, f_primeTotal, (nI cdn), f_circuitDone, f_metCount, b_sig, b_dir, b_pre, b_post, a_stateBits, a_queue, a_codeMet, a_excitedSome, a_excitedAll, a_implicant, a_cubeCodes, a_primeCube, a_primeTail, a_pick, a_picked, a_coverPrimes, a_coverLength, a_coverCells, a_coverCodes, b_table, a_metBits, a_leastFailure) ((nI np), (nI ns), (nI sm), (nI sc), (nI nt), (nI vd), g_primeCount, g_coverMask, g_coverCount, b_sig, b_dir, b_pre, b_post, b_isInput, b_table, b_reach, b_met, b_next, b_implicant, b_prime, b_value) := zr_mk hN hV
    have key : ∀ d j, j + d = 1024 → wY_witness_29 (fun r' v' => r' = f_metCount ∧ i_Rel (k + 5) ((nI np), (nI ns), (nI nt), (nI im), (nI sm), (nI sc), (nI vd), f_stateCount, f_unsafeMet, f_inconsistentMet, f_queueEnd, f_primeTotal, (nI cdn), f_circuitDone, f_metCount, b_sig, b_dir, b_pre, b_post, a_stateBits, a_queue, a_codeMet, a_excitedSome, a_excitedAll, a_implicant, a_cubeCodes, a_primeCube, a_primeTail, a_pick, a_picked, a_coverPrimes, a_coverLength, a_coverCells, a_coverCodes, b_table, a_metBits, a_leastFailure) v') (nI np) (nI ns) (nI sm) (nI sc) (nI nt) (nI vd) g_primeCount g_coverMask g_coverCount b_sig b_dir b_pre b_post b_isInput b_table b_reach b_met b_next b_implicant b_prime b_value (d + 1) (nI (za_c M j)) (nI j) := by
      intro d
      induction d with
      | zero =>
        intro j hj
        have : j = 1024 := by omega
        subst this
        exact br_t (nI_le (Nat.le_refl _) (by omega)) ⟨q.symm, rel⟩
      | succ d ih =>
        intro j hj
        have ih1 := ih (j + 1) (by omega)
        have e : za_c M (j + 1) = za_c M j + (M j).toNat := rfl
        rw [e] at ih1
        refine br_f (nI_ge (b := 1024) (by omega) (by omega)) (And.intro (vp_in_nI (by omega) (by omega)) (za_brx (M j) (by rw [nI_clamp (by omega)]; exact hY.2.1 j (by omega)) (fun z => nm_r (nI_1 j) ?_) (fun z => nm_r (nI_1 _) (nm_r (nI_1 j) ?_))))
        · rw [z] at ih1; exact ih1
        · rw [z] at ih1; exact ih1
    exact ⟨_, key 1024 0 (by omega)⟩
  have y1 : ∀ (post : Int32 → SY → Prop), (∀ (M : Nat → Bool) (g_primeCount g_coverMask g_coverCount : Int32) (b_met b_next b_implicant b_prime b_value : Nat → Int32), zr_Y ns nt sm sc sg dr pr po ip (zg_gt ns b_table (zn_vl sg dr pr po nt R)) M b_met b_value → wpY_firstThatShows (fun r => post r ((nI np), (nI ns), (nI sm), (nI sc), (nI nt), (nI vd), g_primeCount, g_coverMask, g_coverCount, b_sig, b_dir, b_pre, b_post, b_isInput, b_table, b_reach, b_met, b_next, b_implicant, b_prime, b_value)) ((nI np), (nI ns), (nI sm), (nI sc), (nI nt), (nI vd), g_primeCount, g_coverMask, g_coverCount, b_sig, b_dir, b_pre, b_post, b_isInput, b_table, b_reach, b_met, b_next, b_implicant, b_prime, b_value) v1) → wpY_witness post ((nI np), (nI ns), (nI sm), (nI sc), (nI nt), (nI vd), g_primeCount, g_coverMask, g_coverCount, b_sig, b_dir, b_pre, b_post, b_isInput, b_table, b_reach, b_met, b_next, b_implicant, b_prime, b_value) v1 := fun post hh =>
    br_t e1 (zr_fm hN hV c (fun M g_primeCount g_coverMask g_coverCount b_met b_next b_implicant b_prime b_value hY => br_f d1 (hh M g_primeCount g_coverMask g_coverCount b_met b_next b_implicant b_prime b_value hY)))
  refine br_f d1 ?_
  have none : ¬ v1 = 5 → ¬ v1 = 6 → ¬ v1 = 7 → wpY_witness (fun r' v' => r' = -1 ∧ i_Rel (k + 5) ((nI np), (nI ns), (nI nt), (nI im), (nI sm), (nI sc), (nI vd), f_stateCount, f_unsafeMet, f_inconsistentMet, f_queueEnd, f_primeTotal, (nI cdn), f_circuitDone, f_metCount, b_sig, b_dir, b_pre, b_post, a_stateBits, a_queue, a_codeMet, a_excitedSome, a_excitedAll, a_implicant, a_cubeCodes, a_primeCube, a_primeTail, a_pick, a_picked, a_coverPrimes, a_coverLength, a_coverCells, a_coverCodes, b_table, a_metBits, a_leastFailure) v') ((nI np), (nI ns), (nI sm), (nI sc), (nI nt), (nI vd), g_primeCount, g_coverMask, g_coverCount, b_sig, b_dir, b_pre, b_post, b_isInput, b_table, b_reach, b_met, b_next, b_implicant, b_prime, b_value) v1 := fun n5 n6 n7 => y1 _ (fun M g_primeCount g_coverMask g_coverCount b_met b_next b_implicant b_prime b_value hY => by
    refine zy_firstThatShows (M := M) (sh := fun _ => false) hY.2.1 (fun st hs hm p hp => br_f n5 (br_f n6 (br_f n7 hp))) (fun x hx => ⟨?_, zr_mk hN hV⟩)
    rcases hx with ⟨e, _⟩ | ⟨st, _, _, ⟨_, z⟩, _⟩
    · exact e
    · exact absurd z (by decide))
  by_cases d5 : v1 = 5
  · subst d5
    refine br_f (by decide) (br_t (by decide) (And.intro (vp_in_nI (n := 0) (N := 3) (by omega) (by omega)) ?_))
    exact y1 _ (fun M g_primeCount g_coverMask g_coverCount b_met b_next b_implicant b_prime b_value hY => zr_f5 hN hY (fun x hx => ⟨(zr_eq hV c hC hY).2.1 x hx, zr_mk hN hV⟩))
  by_cases d6 : v1 = 6
  · subst d6
    refine br_f (by decide) (br_t (by decide) (And.intro (vp_in_nI (n := 1) (N := 3) (by omega) (by omega)) ?_))
    exact y1 _ (fun M g_primeCount g_coverMask g_coverCount b_met b_next b_implicant b_prime b_value hY => zr_f6 hN hY (fun x hx => ⟨(zr_eq hV c hC hY).2.2.1 x hx, zr_mk hN hV⟩))
  by_cases d7 : v1 = 7
  · subst d7
    refine br_f (by decide) (br_t (by decide) (And.intro (vp_in_nI (n := 2) (N := 3) (by omega) (by omega)) ?_))
    exact y1 _ (fun M g_primeCount g_coverMask g_coverCount b_met b_next b_implicant b_prime b_value hY => zr_f7 hN hY (fun x hx => ⟨(zr_eq hV c hC hY).2.2.2 x hx, zr_mk hN hV⟩))
  by_cases c5 : v1 < 5
  · exact br_t c5 (none d5 d6 d7)
  by_cases c7 : v1 ≤ 7
  · exfalso
    have a : ¬ v1.toInt < (5 : Int32).toInt := fun z => c5 (Int32.lt_iff_toInt_lt.mpr z)
    have b := Int32.le_iff_toInt_le.mp c7
    have f5 : (5 : Int32).toInt = 5 := by decide
    have f6 : (6 : Int32).toInt = 6 := by decide
    have f7 : (7 : Int32).toInt = 7 := by decide
    have g5 : ¬ v1.toInt = (5 : Int32).toInt := fun z => d5 (Int32.toInt_inj.mp z)
    have g6 : ¬ v1.toInt = (6 : Int32).toInt := fun z => d6 (Int32.toInt_inj.mp z)
    have g7 : ¬ v1.toInt = (7 : Int32).toInt := fun z => d7 (Int32.toInt_inj.mp z)
    omega
  · exact br_f c5 (br_f c7 (none d5 d6 d7))
end
