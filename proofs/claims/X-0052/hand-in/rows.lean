section
/-! pure rows to paste: stores, nI and lN arithmetic, masks, shifts, narrowing, branches by naturals (pk_le, pk_lt, pk_eq), loops (lp1 .. lp16: the measure of the state; rp1 ..: recursion), negatives. Take what you need -/
theorem pk_us {f : Nat → Int32} {k : Nat} {x : Int32} : upd f k x k = x := if_pos rfl
theorem pk_un {f : Nat → Int32} {k j : Nat} {x : Int32} (h : j ≠ k) : upd f k x j = f j := if_neg h
theorem pk_uLs {f : Nat → Int64} {k : Nat} {x : Int64} : vp_updL f k x k = x := if_pos rfl
theorem pk_uLn {f : Nat → Int64} {k j : Nat} {x : Int64} (h : j ≠ k) : vp_updL f k x j = f j := if_neg h
theorem pk_sub {a b : Nat} (h : b ≤ a) : nI a - nI b = nI (a - b) := by
  obtain ⟨c, rfl⟩ : ∃ c, a = c + b := ⟨a - b, by omega⟩
  rw [← nI_add, Int32.add_sub_cancel, Nat.add_sub_cancel]
theorem pk_m1 (n : Nat) : nI (n + 1) + (-1) = nI n := by
  rw [← nI_1, Int32.add_assoc, show (1 : Int32) + (-1) = 0 from rfl, Int32.add_zero]
theorem pk_mul (a b : Nat) : nI a * nI b = nI (a * b) := (Int32.ofNat_mul a b).symm
theorem pk_div {a d : Nat} (ha : a < 2 ^ 31) (h0 : 0 < d) (hd : d < 2 ^ 31) : nI a / nI d = nI (a / d) := by
  apply Int32.toInt_inj.mp
  rw [lg_idiv_nonneg (by rw [nI_toInt ha]; omega) (by rw [nI_toInt hd]; omega), nI_toInt ha, nI_toInt hd, nI_toInt (Nat.lt_of_le_of_lt (Nat.div_le_self a d) ha)]
  first | rfl | exact (Int.natCast_ediv _ _).symm
theorem pk_rem {a d : Nat} (ha : a < 2 ^ 31) (h0 : 0 < d) (hd : d < 2 ^ 31) : nI a - nI a / nI d * nI d = nI (a % d) := by
  rw [pk_div ha h0 hd, pk_mul, pk_sub (Nat.div_mul_le_self a d)]
  exact congrArg nI (by have := Nat.div_add_mod' a d; omega)
theorem pk_sub_toInt {a b : Nat} (ha : a < 2 ^ 30) (hb : b < 2 ^ 30) : (nI a - nI b).toInt = (a : Int) - b := by
  rw [Int32.toInt_sub, nI_toInt (by omega), nI_toInt (by omega)]
  exact Int.bmod_eq_of_le (by omega) (by omega)
theorem pk_sneg {a b : Nat} (hb : b < 2 ^ 30) (h : a < b) : nI a - nI b < 0 := by
  rw [Int32.lt_iff_toInt_lt, pk_sub_toInt (by omega) hb, show (0 : Int32).toInt = 0 from by decide]
  omega
theorem pk_ix (x : Int32) {n : Nat} (hn : n < 2 ^ 31) : x < 0 ∨ nI n ≤ x ∨ ∃ j : Nat, j < n ∧ x = nI j := by
  by_cases h : x < 0
  · exact Or.inl h
  · obtain ⟨j, hj, rfl⟩ := nI_of h
    by_cases h2 : j < n
    · exact Or.inr (Or.inr ⟨j, h2, rfl⟩)
    · exact Or.inr (Or.inl (nI_le (by omega) hj))
theorem pk_le {x y : Int32} {A B : Prop} (a b : Nat) (f : a ≤ b → A) (g : b < a → B) (hx : x = nI a := by rfl) (hy : y = nI b := by rfl) (ha : a < 2 ^ 31 := by omega) (hb : b < 2 ^ 31 := by omega) : (x ≤ y → A) ∧ (¬ x ≤ y → B) := by
  subst hx hy
  rw [nI_leI ha hb]
  exact ⟨f, fun z => g (by omega)⟩
theorem pk_lt {x y : Int32} {A B : Prop} (a b : Nat) (f : a < b → A) (g : b ≤ a → B) (hx : x = nI a := by rfl) (hy : y = nI b := by rfl) (ha : a < 2 ^ 31 := by omega) (hb : b < 2 ^ 31 := by omega) : (x < y → A) ∧ (¬ x < y → B) := by
  subst hx hy
  rw [nI_ltI ha hb]
  exact ⟨f, fun z => g (by omega)⟩
theorem pk_eq {x y : Int32} {A B : Prop} (a b : Nat) (f : a = b → A) (g : a ≠ b → B) (hx : x = nI a := by rfl) (hy : y = nI b := by rfl) (ha : a < 2 ^ 31 := by omega) (hb : b < 2 ^ 31 := by omega) : (x = y → A) ∧ (¬ x = y → B) := by
  subst hx hy
  rw [nI_eq ha hb]
  exact ⟨f, g⟩
theorem pk_in {x : Int32} (n N : Nat) (h : n < N) (hx : x = nI n := by rfl) (hN : N < 2 ^ 31 := by omega) : vp_in x N := by
  subst hx
  exact vp_in_nI h hN
theorem pk_cl {x : Int32} (n : Nat) (hx : x = nI n := by rfl) (h : n < 2 ^ 31 := by omega) : x.toNatClampNeg = n := by
  subst hx
  exact nI_clamp h
theorem pk_tn {n : Nat} (h : n < 2 ^ 32) : (nI n).toBitVec.toNat = n := Nat.mod_eq_of_lt h
theorem pk_and (x : Int32) {m : Int32} (k : Nat) (hm : m.toBitVec.toNat = 2 ^ k - 1) : x &&& m = nI (x.toBitVec.toNat % 2 ^ k) := by
  apply Int32.toBitVec_inj.mp
  apply BitVec.eq_of_toNat_eq
  rw [Int32.toBitVec_and, BitVec.toNat_and, hm, Nat.and_two_pow_sub_one_eq_mod]
  show _ = (BitVec.ofNat 32 _).toNat
  rw [BitVec.toNat_ofNat]
  exact (Nat.mod_eq_of_lt (Nat.lt_of_le_of_lt (Nat.mod_le _ _) x.toBitVec.isLt)).symm
theorem pk_andN {n : Nat} (h : n < 2 ^ 32) {m : Int32} (k : Nat) (hm : m.toBitVec.toNat = 2 ^ k - 1) : nI n &&& m = nI (n % 2 ^ k) := by
  rw [pk_and _ k hm, pk_tn h]
theorem pk_andE (x : Int32) {m : Int32} (k : Nat) (hm : m.toBitVec.toNat = 2 ^ k - 1) : ∃ j : Nat, j < 2 ^ k ∧ x &&& m = nI j := ⟨_, Nat.mod_lt _ (Nat.two_pow_pos k), pk_and x k hm⟩
theorem pk_andIn (x : Int32) {m : Int32} (k : Nat) (hm : m.toBitVec.toNat = 2 ^ k - 1) (hk : k ≤ 30) : vp_in (x &&& m) (2 ^ k) := by
  obtain ⟨j, hj, e⟩ := pk_andE x k hm
  rw [e]
  exact vp_in_nI hj (Nat.lt_of_le_of_lt (Nat.pow_le_pow_right (by decide) hk) (by decide))
theorem pk_shl (a s : Int32) (k : Nat) (hs : (s.toBitVec.smod 32).toNat = k) : (a <<< s).toBitVec.toNat = a.toBitVec.toNat * 2 ^ k % 2 ^ 32 := by
  show (a.toBitVec <<< (s.toBitVec.smod 32).toNat).toNat = _
  rw [hs, BitVec.toNat_shiftLeft, Nat.shiftLeft_eq]
theorem pk_shlN {n : Nat} (s : Int32) (k : Nat) (hs : (s.toBitVec.smod 32).toNat = k) (h : n * 2 ^ k < 2 ^ 32) : nI n <<< s = nI (n * 2 ^ k) := by
  apply Int32.toBitVec_inj.mp
  apply BitVec.eq_of_toNat_eq
  have hn : n < 2 ^ 32 := Nat.lt_of_le_of_lt (Nat.le_mul_of_pos_right n (Nat.two_pow_pos k)) h
  rw [pk_shl _ _ k hs, pk_tn hn, pk_tn h, Nat.mod_eq_of_lt h]
theorem pk_shr (a s : Int32) (k : Nat) (hs : (s.toBitVec.smod 32).toNat = k) : (a >>> s).toInt = a.toInt >>> k := by
  show (a.toBitVec.sshiftRight (s.toBitVec.smod 32).toNat).toInt = _
  rw [hs, BitVec.toInt_sshiftRight]
  rfl
theorem pk_shrN {n : Nat} (h : n < 2 ^ 31) (s : Int32) (k : Nat) (hs : (s.toBitVec.smod 32).toNat = k) : nI n >>> s = nI (n / 2 ^ k) := by
  apply Int32.toInt_inj.mp
  have h2 : n / 2 ^ k ≤ n := Nat.div_le_self _ _
  rw [pk_shr _ _ k hs, nI_toInt h, nI_toInt (by omega), Int.shiftRight_eq_div_pow]
  rfl
theorem pk_ushr (x s : Int32) (k : Nat) (hs : ((s.toUInt32 &&& Int32.toUInt32 31).toBitVec % 32).toNat = k) : (x.toUInt32 >>> (s.toUInt32 &&& Int32.toUInt32 31)).toInt32.toBitVec.toNat = x.toBitVec.toNat / 2 ^ k := by
  have e : (x.toUInt32 >>> (s.toUInt32 &&& Int32.toUInt32 31)).toInt32.toBitVec = x.toBitVec >>> k := by
    rw [← hs]
    exact UInt32.toBitVec_shiftRight _ _
  rw [e, BitVec.toNat_ushiftRight, Nat.shiftRight_eq_div_pow]
theorem pk_ushrN {n : Nat} (hn : n < 2 ^ 32) (s : Int32) (k : Nat) (hs : ((s.toUInt32 &&& Int32.toUInt32 31).toBitVec % 32).toNat = k) : ((nI n).toUInt32 >>> (s.toUInt32 &&& Int32.toUInt32 31)).toInt32 = nI (n / 2 ^ k) := by
  apply Int32.toBitVec_inj.mp
  apply BitVec.eq_of_toNat_eq
  rw [pk_ushr _ s k hs, pk_tn hn, pk_tn (Nat.lt_of_le_of_lt (Nat.div_le_self _ _) hn)]
theorem pk_nb (z : Int32) : narrow .byte (.int z.toInt8.toInt32) = .int z.toInt8.toInt32 := congrArg Value.int (by simp)
theorem pk_ns (z : Int32) : narrow .short (.int z.toInt16.toInt32) = .int z.toInt16.toInt32 := congrArg Value.int (by simp)
theorem pk_fb (r : Int32) : fits .byte (.int r.toInt8.toInt32) = true := by
  have ⟨a, b⟩ := lg_i2b_range r
  have h1 : (-128 : Int32).toInt = -128 := by decide
  have h2 : (127 : Int32).toInt = 127 := by decide
  simp only [fits, Bool.and_eq_true, decide_eq_true_eq, Int32.le_iff_toInt_le, h1, h2]
  omega
theorem pk_fs (r : Int32) : fits .short (.int r.toInt16.toInt32) = true := by
  have ⟨a, b⟩ := lg_i2s_range r
  have h1 : (-32768 : Int32).toInt = -32768 := by decide
  have h2 : (32767 : Int32).toInt = 32767 := by decide
  simp only [fits, Bool.and_eq_true, decide_eq_true_eq, Int32.le_iff_toInt_le, h1, h2]
  omega
theorem pk_charN {q : Nat} (hq : q < 65536) : narrow .char (.int (nI q)) = .int (nI q) ∧ fits .char (.int (nI q)) = true := by
  constructor
  · have e : (nI q).toUInt32.toUInt16.toUInt32.toInt32 = nI q := by
      apply Int32.toBitVec_inj.mp
      apply BitVec.eq_of_toNat_eq
      show (nI q).toUInt32.toUInt16.toUInt32.toNat = q % 2 ^ 32
      rw [UInt16.toNat_toUInt32, UInt32.toNat_toUInt16, show (nI q).toUInt32.toNat = q % 2 ^ 32 from rfl]
      omega
    exact congrArg Value.int e
  · have a : (0 : Int32) ≤ nI q := nI_pos' (by omega)
    have b : nI q ≤ 65535 := nI_le (b := 65535) (by omega) (by decide)
    show (decide ((0 : Int32) ≤ nI q) && decide (nI q ≤ 65535)) = true
    rw [decide_eq_true a, decide_eq_true b]
    rfl
theorem pk_char (x : Int32) : (x.toUInt32 % 65536).toInt32 = nI (x.toBitVec.toNat % 65536) := by
  apply Int32.toBitVec_inj.mp
  apply BitVec.eq_of_toNat_eq
  rw [pk_tn (by omega)]
  show (x.toUInt32 % 65536).toNat = _
  rw [UInt32.toNat_mod]
  rfl
theorem pk_nc (x : Int32) : narrow .char (.int (x.toUInt32 % 65536).toInt32) = .int (x.toUInt32 % 65536).toInt32 := by
  rw [pk_char]
  exact (pk_charN (Nat.mod_lt _ (by decide))).1
theorem pk_fc (x : Int32) : fits .char (.int (x.toUInt32 % 65536).toInt32) = true := by
  rw [pk_char]
  exact (pk_charN (Nat.mod_lt _ (by decide))).2
theorem pk_vb (z : Int32) : vp_nar .byte z.toInt8.toInt32 = z.toInt8.toInt32 := by rw [vp_nar_byte]; simp
theorem pk_vs (z : Int32) : vp_nar .short z.toInt16.toInt32 = z.toInt16.toInt32 := by rw [vp_nar_short]; simp
theorem pk_vc (z : Int32) : vp_nar .char (z.toUInt32 % 65536).toInt32 = (z.toUInt32 % 65536).toInt32 := Value.int.inj (pk_nc z)
theorem pk_lT {n : Nat} (h : n < 2 ^ 63) : (lN n).toInt = (n : Int) := lg_ofNat_toInt h
theorem pk_lLT {a b : Nat} (ha : a < 2 ^ 63) (hb : b < 2 ^ 63) : lN a < lN b ↔ a < b := by
  rw [Int64.lt_iff_toInt_lt, pk_lT ha, pk_lT hb]; omega
theorem pk_lLE {a b : Nat} (ha : a < 2 ^ 63) (hb : b < 2 ^ 63) : lN a ≤ lN b ↔ a ≤ b := by
  rw [Int64.le_iff_toInt_le, pk_lT ha, pk_lT hb]; omega
theorem pk_lEQ {a b : Nat} (ha : a < 2 ^ 63) (hb : b < 2 ^ 63) : lN a = lN b ↔ a = b := by
  rw [← Int64.toInt_inj, pk_lT ha, pk_lT hb]; omega
theorem pk_lOf {x : Int64} (h : ¬ x < 0) : ∃ k : Nat, k < 2 ^ 63 ∧ x = lN k := by
  rw [Int64.lt_iff_toInt_lt] at h
  have h0 : (0 : Int64).toInt = 0 := by decide
  have hx := Int64.toInt_lt x
  refine ⟨x.toInt.toNat, by omega, Int64.toInt_inj.mp ?_⟩
  rw [pk_lT (by omega)]
  omega
theorem pk_lDiv {a b : Nat} (ha : a < 2 ^ 63) (h0 : 0 < b) (hb : b < 2 ^ 63) : lN a / lN b = lN (a / b) := by
  apply Int64.toInt_inj.mp
  rw [lg_ldiv_nonneg (by rw [pk_lT ha]; omega) (by rw [pk_lT hb]; omega), pk_lT ha, pk_lT hb, pk_lT (Nat.lt_of_le_of_lt (Nat.div_le_self a b) ha)]
  rfl
theorem pk_lRem {a b : Nat} (ha : a < 2 ^ 63) (h0 : 0 < b) (hb : b < 2 ^ 63) : lN a - lN a / lN b * lN b = lN (a % b) := by
  rw [pk_lDiv ha h0 hb, lN_mul, lN_sub (Nat.div_mul_le_self a b)]
  exact congrArg lN (by have := Nat.div_add_mod' a b; omega)
theorem pk_loop {σ : Type} (W : Nat → Nat → σ → Prop) (I : Nat → σ → Prop) (e i0 : Nat) (s : σ) (hi : i0 ≤ e) (h0 : I i0 s) (hx : ∀ n s, I e s → W (n + 1) e s)
    (hs : ∀ n i s, i < e → I i s → (∀ s', I (i + 1) s' → W n (i + 1) s') → W (n + 1) i s) : ∃ n, W n i0 s :=
  ⟨e + 1, loop_i W I e hx hs (e + 1) i0 s hi (by omega) h0⟩
theorem pk_loopD {σ : Type} (W : Nat → Nat → σ → Prop) (I : Nat → σ → Prop) (hx : ∀ n s, I 0 s → W (n + 1) 0 s)
    (hs : ∀ n i s, I (i + 1) s → (∀ s', I i s' → W n i s') → W (n + 1) (i + 1) s) : ∀ (e : Nat) (s : σ), I e s → W (e + 1) e s := by
  intro e
  induction e with
  | zero => exact fun s h => hx 0 s h
  | succ e ih => exact fun s h => hs (e + 1) e s h (fun s' h' => ih s' h')
theorem lp1 {A1 : Type} (W : Nat → A1 → Prop) (I : A1 → Prop) (μ : A1 → Nat) (hs : ∀ (n : Nat) (a1 : A1), I a1 → (∀ (b1 : A1), I b1 → μ b1 < μ a1 → W n b1) → W (n + 1) a1) (a1 : A1) (h : I a1) : ∃ n, W n a1 :=
  loop_m (σ := A1) (fun n s => W n s) (fun s => I s) (fun s => μ s) (fun n s hI hk => hs n s hI (fun b1 h9 hm => hk b1 h9 hm)) a1 h
theorem lp2 {A1 A2 : Type} (W : Nat → A1 → A2 → Prop) (I : A1 → A2 → Prop) (μ : A1 → A2 → Nat) (hs : ∀ (n : Nat) (a1 : A1) (a2 : A2), I a1 a2 → (∀ (b1 : A1) (b2 : A2), I b1 b2 → μ b1 b2 < μ a1 a2 → W n b1 b2) → W (n + 1) a1 a2) (a1 : A1) (a2 : A2) (h : I a1 a2) : ∃ n, W n a1 a2 :=
  loop_m (σ := A1 × A2) (fun n s => W n s.1 s.2) (fun s => I s.1 s.2) (fun s => μ s.1 s.2) (fun n s hI hk => hs n s.1 s.2 hI (fun b1 b2 h9 hm => hk (b1, b2) h9 hm)) (a1, a2) h
theorem lp3 {A1 A2 A3 : Type} (W : Nat → A1 → A2 → A3 → Prop) (I : A1 → A2 → A3 → Prop) (μ : A1 → A2 → A3 → Nat) (hs : ∀ (n : Nat) (a1 : A1) (a2 : A2) (a3 : A3), I a1 a2 a3 → (∀ (b1 : A1) (b2 : A2) (b3 : A3), I b1 b2 b3 → μ b1 b2 b3 < μ a1 a2 a3 → W n b1 b2 b3) → W (n + 1) a1 a2 a3) (a1 : A1) (a2 : A2) (a3 : A3) (h : I a1 a2 a3) : ∃ n, W n a1 a2 a3 :=
  loop_m (σ := A1 × A2 × A3) (fun n s => W n s.1 s.2.1 s.2.2) (fun s => I s.1 s.2.1 s.2.2) (fun s => μ s.1 s.2.1 s.2.2) (fun n s hI hk => hs n s.1 s.2.1 s.2.2 hI (fun b1 b2 b3 h9 hm => hk (b1, b2, b3) h9 hm)) (a1, a2, a3) h
theorem lp4 {A1 A2 A3 A4 : Type} (W : Nat → A1 → A2 → A3 → A4 → Prop) (I : A1 → A2 → A3 → A4 → Prop) (μ : A1 → A2 → A3 → A4 → Nat) (hs : ∀ (n : Nat) (a1 : A1) (a2 : A2) (a3 : A3) (a4 : A4), I a1 a2 a3 a4 → (∀ (b1 : A1) (b2 : A2) (b3 : A3) (b4 : A4), I b1 b2 b3 b4 → μ b1 b2 b3 b4 < μ a1 a2 a3 a4 → W n b1 b2 b3 b4) → W (n + 1) a1 a2 a3 a4) (a1 : A1) (a2 : A2) (a3 : A3) (a4 : A4) (h : I a1 a2 a3 a4) : ∃ n, W n a1 a2 a3 a4 :=
  loop_m (σ := A1 × A2 × A3 × A4) (fun n s => W n s.1 s.2.1 s.2.2.1 s.2.2.2) (fun s => I s.1 s.2.1 s.2.2.1 s.2.2.2) (fun s => μ s.1 s.2.1 s.2.2.1 s.2.2.2) (fun n s hI hk => hs n s.1 s.2.1 s.2.2.1 s.2.2.2 hI (fun b1 b2 b3 b4 h9 hm => hk (b1, b2, b3, b4) h9 hm)) (a1, a2, a3, a4) h
theorem lp5 {A1 A2 A3 A4 A5 : Type} (W : Nat → A1 → A2 → A3 → A4 → A5 → Prop) (I : A1 → A2 → A3 → A4 → A5 → Prop) (μ : A1 → A2 → A3 → A4 → A5 → Nat) (hs : ∀ (n : Nat) (a1 : A1) (a2 : A2) (a3 : A3) (a4 : A4) (a5 : A5), I a1 a2 a3 a4 a5 → (∀ (b1 : A1) (b2 : A2) (b3 : A3) (b4 : A4) (b5 : A5), I b1 b2 b3 b4 b5 → μ b1 b2 b3 b4 b5 < μ a1 a2 a3 a4 a5 → W n b1 b2 b3 b4 b5) → W (n + 1) a1 a2 a3 a4 a5) (a1 : A1) (a2 : A2) (a3 : A3) (a4 : A4) (a5 : A5) (h : I a1 a2 a3 a4 a5) : ∃ n, W n a1 a2 a3 a4 a5 :=
  loop_m (σ := A1 × A2 × A3 × A4 × A5) (fun n s => W n s.1 s.2.1 s.2.2.1 s.2.2.2.1 s.2.2.2.2) (fun s => I s.1 s.2.1 s.2.2.1 s.2.2.2.1 s.2.2.2.2) (fun s => μ s.1 s.2.1 s.2.2.1 s.2.2.2.1 s.2.2.2.2) (fun n s hI hk => hs n s.1 s.2.1 s.2.2.1 s.2.2.2.1 s.2.2.2.2 hI (fun b1 b2 b3 b4 b5 h9 hm => hk (b1, b2, b3, b4, b5) h9 hm)) (a1, a2, a3, a4, a5) h
theorem lp6 {A1 A2 A3 A4 A5 A6 : Type} (W : Nat → A1 → A2 → A3 → A4 → A5 → A6 → Prop) (I : A1 → A2 → A3 → A4 → A5 → A6 → Prop) (μ : A1 → A2 → A3 → A4 → A5 → A6 → Nat) (hs : ∀ (n : Nat) (a1 : A1) (a2 : A2) (a3 : A3) (a4 : A4) (a5 : A5) (a6 : A6), I a1 a2 a3 a4 a5 a6 → (∀ (b1 : A1) (b2 : A2) (b3 : A3) (b4 : A4) (b5 : A5) (b6 : A6), I b1 b2 b3 b4 b5 b6 → μ b1 b2 b3 b4 b5 b6 < μ a1 a2 a3 a4 a5 a6 → W n b1 b2 b3 b4 b5 b6) → W (n + 1) a1 a2 a3 a4 a5 a6) (a1 : A1) (a2 : A2) (a3 : A3) (a4 : A4) (a5 : A5) (a6 : A6) (h : I a1 a2 a3 a4 a5 a6) : ∃ n, W n a1 a2 a3 a4 a5 a6 :=
  loop_m (σ := A1 × A2 × A3 × A4 × A5 × A6) (fun n s => W n s.1 s.2.1 s.2.2.1 s.2.2.2.1 s.2.2.2.2.1 s.2.2.2.2.2) (fun s => I s.1 s.2.1 s.2.2.1 s.2.2.2.1 s.2.2.2.2.1 s.2.2.2.2.2) (fun s => μ s.1 s.2.1 s.2.2.1 s.2.2.2.1 s.2.2.2.2.1 s.2.2.2.2.2) (fun n s hI hk => hs n s.1 s.2.1 s.2.2.1 s.2.2.2.1 s.2.2.2.2.1 s.2.2.2.2.2 hI (fun b1 b2 b3 b4 b5 b6 h9 hm => hk (b1, b2, b3, b4, b5, b6) h9 hm)) (a1, a2, a3, a4, a5, a6) h
theorem lp7 {A1 A2 A3 A4 A5 A6 A7 : Type} (W : Nat → A1 → A2 → A3 → A4 → A5 → A6 → A7 → Prop) (I : A1 → A2 → A3 → A4 → A5 → A6 → A7 → Prop) (μ : A1 → A2 → A3 → A4 → A5 → A6 → A7 → Nat) (hs : ∀ (n : Nat) (a1 : A1) (a2 : A2) (a3 : A3) (a4 : A4) (a5 : A5) (a6 : A6) (a7 : A7), I a1 a2 a3 a4 a5 a6 a7 → (∀ (b1 : A1) (b2 : A2) (b3 : A3) (b4 : A4) (b5 : A5) (b6 : A6) (b7 : A7), I b1 b2 b3 b4 b5 b6 b7 → μ b1 b2 b3 b4 b5 b6 b7 < μ a1 a2 a3 a4 a5 a6 a7 → W n b1 b2 b3 b4 b5 b6 b7) → W (n + 1) a1 a2 a3 a4 a5 a6 a7) (a1 : A1) (a2 : A2) (a3 : A3) (a4 : A4) (a5 : A5) (a6 : A6) (a7 : A7) (h : I a1 a2 a3 a4 a5 a6 a7) : ∃ n, W n a1 a2 a3 a4 a5 a6 a7 :=
  loop_m (σ := A1 × A2 × A3 × A4 × A5 × A6 × A7) (fun n s => W n s.1 s.2.1 s.2.2.1 s.2.2.2.1 s.2.2.2.2.1 s.2.2.2.2.2.1 s.2.2.2.2.2.2) (fun s => I s.1 s.2.1 s.2.2.1 s.2.2.2.1 s.2.2.2.2.1 s.2.2.2.2.2.1 s.2.2.2.2.2.2) (fun s => μ s.1 s.2.1 s.2.2.1 s.2.2.2.1 s.2.2.2.2.1 s.2.2.2.2.2.1 s.2.2.2.2.2.2) (fun n s hI hk => hs n s.1 s.2.1 s.2.2.1 s.2.2.2.1 s.2.2.2.2.1 s.2.2.2.2.2.1 s.2.2.2.2.2.2 hI (fun b1 b2 b3 b4 b5 b6 b7 h9 hm => hk (b1, b2, b3, b4, b5, b6, b7) h9 hm)) (a1, a2, a3, a4, a5, a6, a7) h
theorem lp8 {A1 A2 A3 A4 A5 A6 A7 A8 : Type} (W : Nat → A1 → A2 → A3 → A4 → A5 → A6 → A7 → A8 → Prop) (I : A1 → A2 → A3 → A4 → A5 → A6 → A7 → A8 → Prop) (μ : A1 → A2 → A3 → A4 → A5 → A6 → A7 → A8 → Nat) (hs : ∀ (n : Nat) (a1 : A1) (a2 : A2) (a3 : A3) (a4 : A4) (a5 : A5) (a6 : A6) (a7 : A7) (a8 : A8), I a1 a2 a3 a4 a5 a6 a7 a8 → (∀ (b1 : A1) (b2 : A2) (b3 : A3) (b4 : A4) (b5 : A5) (b6 : A6) (b7 : A7) (b8 : A8), I b1 b2 b3 b4 b5 b6 b7 b8 → μ b1 b2 b3 b4 b5 b6 b7 b8 < μ a1 a2 a3 a4 a5 a6 a7 a8 → W n b1 b2 b3 b4 b5 b6 b7 b8) → W (n + 1) a1 a2 a3 a4 a5 a6 a7 a8) (a1 : A1) (a2 : A2) (a3 : A3) (a4 : A4) (a5 : A5) (a6 : A6) (a7 : A7) (a8 : A8) (h : I a1 a2 a3 a4 a5 a6 a7 a8) : ∃ n, W n a1 a2 a3 a4 a5 a6 a7 a8 :=
  loop_m (σ := A1 × A2 × A3 × A4 × A5 × A6 × A7 × A8) (fun n s => W n s.1 s.2.1 s.2.2.1 s.2.2.2.1 s.2.2.2.2.1 s.2.2.2.2.2.1 s.2.2.2.2.2.2.1 s.2.2.2.2.2.2.2) (fun s => I s.1 s.2.1 s.2.2.1 s.2.2.2.1 s.2.2.2.2.1 s.2.2.2.2.2.1 s.2.2.2.2.2.2.1 s.2.2.2.2.2.2.2) (fun s => μ s.1 s.2.1 s.2.2.1 s.2.2.2.1 s.2.2.2.2.1 s.2.2.2.2.2.1 s.2.2.2.2.2.2.1 s.2.2.2.2.2.2.2) (fun n s hI hk => hs n s.1 s.2.1 s.2.2.1 s.2.2.2.1 s.2.2.2.2.1 s.2.2.2.2.2.1 s.2.2.2.2.2.2.1 s.2.2.2.2.2.2.2 hI (fun b1 b2 b3 b4 b5 b6 b7 b8 h9 hm => hk (b1, b2, b3, b4, b5, b6, b7, b8) h9 hm)) (a1, a2, a3, a4, a5, a6, a7, a8) h
theorem lp9 {A1 A2 A3 A4 A5 A6 A7 A8 A9 : Type} (W : Nat → A1 → A2 → A3 → A4 → A5 → A6 → A7 → A8 → A9 → Prop) (I : A1 → A2 → A3 → A4 → A5 → A6 → A7 → A8 → A9 → Prop) (μ : A1 → A2 → A3 → A4 → A5 → A6 → A7 → A8 → A9 → Nat) (hs : ∀ (n : Nat) (a1 : A1) (a2 : A2) (a3 : A3) (a4 : A4) (a5 : A5) (a6 : A6) (a7 : A7) (a8 : A8) (a9 : A9), I a1 a2 a3 a4 a5 a6 a7 a8 a9 → (∀ (b1 : A1) (b2 : A2) (b3 : A3) (b4 : A4) (b5 : A5) (b6 : A6) (b7 : A7) (b8 : A8) (b9 : A9), I b1 b2 b3 b4 b5 b6 b7 b8 b9 → μ b1 b2 b3 b4 b5 b6 b7 b8 b9 < μ a1 a2 a3 a4 a5 a6 a7 a8 a9 → W n b1 b2 b3 b4 b5 b6 b7 b8 b9) → W (n + 1) a1 a2 a3 a4 a5 a6 a7 a8 a9) (a1 : A1) (a2 : A2) (a3 : A3) (a4 : A4) (a5 : A5) (a6 : A6) (a7 : A7) (a8 : A8) (a9 : A9) (h : I a1 a2 a3 a4 a5 a6 a7 a8 a9) : ∃ n, W n a1 a2 a3 a4 a5 a6 a7 a8 a9 :=
  loop_m (σ := A1 × A2 × A3 × A4 × A5 × A6 × A7 × A8 × A9) (fun n s => W n s.1 s.2.1 s.2.2.1 s.2.2.2.1 s.2.2.2.2.1 s.2.2.2.2.2.1 s.2.2.2.2.2.2.1 s.2.2.2.2.2.2.2.1 s.2.2.2.2.2.2.2.2) (fun s => I s.1 s.2.1 s.2.2.1 s.2.2.2.1 s.2.2.2.2.1 s.2.2.2.2.2.1 s.2.2.2.2.2.2.1 s.2.2.2.2.2.2.2.1 s.2.2.2.2.2.2.2.2) (fun s => μ s.1 s.2.1 s.2.2.1 s.2.2.2.1 s.2.2.2.2.1 s.2.2.2.2.2.1 s.2.2.2.2.2.2.1 s.2.2.2.2.2.2.2.1 s.2.2.2.2.2.2.2.2) (fun n s hI hk => hs n s.1 s.2.1 s.2.2.1 s.2.2.2.1 s.2.2.2.2.1 s.2.2.2.2.2.1 s.2.2.2.2.2.2.1 s.2.2.2.2.2.2.2.1 s.2.2.2.2.2.2.2.2 hI (fun b1 b2 b3 b4 b5 b6 b7 b8 b9 h9 hm => hk (b1, b2, b3, b4, b5, b6, b7, b8, b9) h9 hm)) (a1, a2, a3, a4, a5, a6, a7, a8, a9) h
theorem lp10 {A1 A2 A3 A4 A5 A6 A7 A8 A9 A10 : Type} (W : Nat → A1 → A2 → A3 → A4 → A5 → A6 → A7 → A8 → A9 → A10 → Prop) (I : A1 → A2 → A3 → A4 → A5 → A6 → A7 → A8 → A9 → A10 → Prop) (μ : A1 → A2 → A3 → A4 → A5 → A6 → A7 → A8 → A9 → A10 → Nat) (hs : ∀ (n : Nat) (a1 : A1) (a2 : A2) (a3 : A3) (a4 : A4) (a5 : A5) (a6 : A6) (a7 : A7) (a8 : A8) (a9 : A9) (a10 : A10), I a1 a2 a3 a4 a5 a6 a7 a8 a9 a10 → (∀ (b1 : A1) (b2 : A2) (b3 : A3) (b4 : A4) (b5 : A5) (b6 : A6) (b7 : A7) (b8 : A8) (b9 : A9) (b10 : A10), I b1 b2 b3 b4 b5 b6 b7 b8 b9 b10 → μ b1 b2 b3 b4 b5 b6 b7 b8 b9 b10 < μ a1 a2 a3 a4 a5 a6 a7 a8 a9 a10 → W n b1 b2 b3 b4 b5 b6 b7 b8 b9 b10) → W (n + 1) a1 a2 a3 a4 a5 a6 a7 a8 a9 a10) (a1 : A1) (a2 : A2) (a3 : A3) (a4 : A4) (a5 : A5) (a6 : A6) (a7 : A7) (a8 : A8) (a9 : A9) (a10 : A10) (h : I a1 a2 a3 a4 a5 a6 a7 a8 a9 a10) : ∃ n, W n a1 a2 a3 a4 a5 a6 a7 a8 a9 a10 :=
  loop_m (σ := A1 × A2 × A3 × A4 × A5 × A6 × A7 × A8 × A9 × A10) (fun n s => W n s.1 s.2.1 s.2.2.1 s.2.2.2.1 s.2.2.2.2.1 s.2.2.2.2.2.1 s.2.2.2.2.2.2.1 s.2.2.2.2.2.2.2.1 s.2.2.2.2.2.2.2.2.1 s.2.2.2.2.2.2.2.2.2) (fun s => I s.1 s.2.1 s.2.2.1 s.2.2.2.1 s.2.2.2.2.1 s.2.2.2.2.2.1 s.2.2.2.2.2.2.1 s.2.2.2.2.2.2.2.1 s.2.2.2.2.2.2.2.2.1 s.2.2.2.2.2.2.2.2.2) (fun s => μ s.1 s.2.1 s.2.2.1 s.2.2.2.1 s.2.2.2.2.1 s.2.2.2.2.2.1 s.2.2.2.2.2.2.1 s.2.2.2.2.2.2.2.1 s.2.2.2.2.2.2.2.2.1 s.2.2.2.2.2.2.2.2.2) (fun n s hI hk => hs n s.1 s.2.1 s.2.2.1 s.2.2.2.1 s.2.2.2.2.1 s.2.2.2.2.2.1 s.2.2.2.2.2.2.1 s.2.2.2.2.2.2.2.1 s.2.2.2.2.2.2.2.2.1 s.2.2.2.2.2.2.2.2.2 hI (fun b1 b2 b3 b4 b5 b6 b7 b8 b9 b10 h9 hm => hk (b1, b2, b3, b4, b5, b6, b7, b8, b9, b10) h9 hm)) (a1, a2, a3, a4, a5, a6, a7, a8, a9, a10) h
theorem lp11 {A1 A2 A3 A4 A5 A6 A7 A8 A9 A10 A11 : Type} (W : Nat → A1 → A2 → A3 → A4 → A5 → A6 → A7 → A8 → A9 → A10 → A11 → Prop) (I : A1 → A2 → A3 → A4 → A5 → A6 → A7 → A8 → A9 → A10 → A11 → Prop) (μ : A1 → A2 → A3 → A4 → A5 → A6 → A7 → A8 → A9 → A10 → A11 → Nat) (hs : ∀ (n : Nat) (a1 : A1) (a2 : A2) (a3 : A3) (a4 : A4) (a5 : A5) (a6 : A6) (a7 : A7) (a8 : A8) (a9 : A9) (a10 : A10) (a11 : A11), I a1 a2 a3 a4 a5 a6 a7 a8 a9 a10 a11 → (∀ (b1 : A1) (b2 : A2) (b3 : A3) (b4 : A4) (b5 : A5) (b6 : A6) (b7 : A7) (b8 : A8) (b9 : A9) (b10 : A10) (b11 : A11), I b1 b2 b3 b4 b5 b6 b7 b8 b9 b10 b11 → μ b1 b2 b3 b4 b5 b6 b7 b8 b9 b10 b11 < μ a1 a2 a3 a4 a5 a6 a7 a8 a9 a10 a11 → W n b1 b2 b3 b4 b5 b6 b7 b8 b9 b10 b11) → W (n + 1) a1 a2 a3 a4 a5 a6 a7 a8 a9 a10 a11) (a1 : A1) (a2 : A2) (a3 : A3) (a4 : A4) (a5 : A5) (a6 : A6) (a7 : A7) (a8 : A8) (a9 : A9) (a10 : A10) (a11 : A11) (h : I a1 a2 a3 a4 a5 a6 a7 a8 a9 a10 a11) : ∃ n, W n a1 a2 a3 a4 a5 a6 a7 a8 a9 a10 a11 :=
  loop_m (σ := A1 × A2 × A3 × A4 × A5 × A6 × A7 × A8 × A9 × A10 × A11) (fun n s => W n s.1 s.2.1 s.2.2.1 s.2.2.2.1 s.2.2.2.2.1 s.2.2.2.2.2.1 s.2.2.2.2.2.2.1 s.2.2.2.2.2.2.2.1 s.2.2.2.2.2.2.2.2.1 s.2.2.2.2.2.2.2.2.2.1 s.2.2.2.2.2.2.2.2.2.2) (fun s => I s.1 s.2.1 s.2.2.1 s.2.2.2.1 s.2.2.2.2.1 s.2.2.2.2.2.1 s.2.2.2.2.2.2.1 s.2.2.2.2.2.2.2.1 s.2.2.2.2.2.2.2.2.1 s.2.2.2.2.2.2.2.2.2.1 s.2.2.2.2.2.2.2.2.2.2) (fun s => μ s.1 s.2.1 s.2.2.1 s.2.2.2.1 s.2.2.2.2.1 s.2.2.2.2.2.1 s.2.2.2.2.2.2.1 s.2.2.2.2.2.2.2.1 s.2.2.2.2.2.2.2.2.1 s.2.2.2.2.2.2.2.2.2.1 s.2.2.2.2.2.2.2.2.2.2) (fun n s hI hk => hs n s.1 s.2.1 s.2.2.1 s.2.2.2.1 s.2.2.2.2.1 s.2.2.2.2.2.1 s.2.2.2.2.2.2.1 s.2.2.2.2.2.2.2.1 s.2.2.2.2.2.2.2.2.1 s.2.2.2.2.2.2.2.2.2.1 s.2.2.2.2.2.2.2.2.2.2 hI (fun b1 b2 b3 b4 b5 b6 b7 b8 b9 b10 b11 h9 hm => hk (b1, b2, b3, b4, b5, b6, b7, b8, b9, b10, b11) h9 hm)) (a1, a2, a3, a4, a5, a6, a7, a8, a9, a10, a11) h
theorem lp12 {A1 A2 A3 A4 A5 A6 A7 A8 A9 A10 A11 A12 : Type} (W : Nat → A1 → A2 → A3 → A4 → A5 → A6 → A7 → A8 → A9 → A10 → A11 → A12 → Prop) (I : A1 → A2 → A3 → A4 → A5 → A6 → A7 → A8 → A9 → A10 → A11 → A12 → Prop) (μ : A1 → A2 → A3 → A4 → A5 → A6 → A7 → A8 → A9 → A10 → A11 → A12 → Nat) (hs : ∀ (n : Nat) (a1 : A1) (a2 : A2) (a3 : A3) (a4 : A4) (a5 : A5) (a6 : A6) (a7 : A7) (a8 : A8) (a9 : A9) (a10 : A10) (a11 : A11) (a12 : A12), I a1 a2 a3 a4 a5 a6 a7 a8 a9 a10 a11 a12 → (∀ (b1 : A1) (b2 : A2) (b3 : A3) (b4 : A4) (b5 : A5) (b6 : A6) (b7 : A7) (b8 : A8) (b9 : A9) (b10 : A10) (b11 : A11) (b12 : A12), I b1 b2 b3 b4 b5 b6 b7 b8 b9 b10 b11 b12 → μ b1 b2 b3 b4 b5 b6 b7 b8 b9 b10 b11 b12 < μ a1 a2 a3 a4 a5 a6 a7 a8 a9 a10 a11 a12 → W n b1 b2 b3 b4 b5 b6 b7 b8 b9 b10 b11 b12) → W (n + 1) a1 a2 a3 a4 a5 a6 a7 a8 a9 a10 a11 a12) (a1 : A1) (a2 : A2) (a3 : A3) (a4 : A4) (a5 : A5) (a6 : A6) (a7 : A7) (a8 : A8) (a9 : A9) (a10 : A10) (a11 : A11) (a12 : A12) (h : I a1 a2 a3 a4 a5 a6 a7 a8 a9 a10 a11 a12) : ∃ n, W n a1 a2 a3 a4 a5 a6 a7 a8 a9 a10 a11 a12 :=
  loop_m (σ := A1 × A2 × A3 × A4 × A5 × A6 × A7 × A8 × A9 × A10 × A11 × A12) (fun n s => W n s.1 s.2.1 s.2.2.1 s.2.2.2.1 s.2.2.2.2.1 s.2.2.2.2.2.1 s.2.2.2.2.2.2.1 s.2.2.2.2.2.2.2.1 s.2.2.2.2.2.2.2.2.1 s.2.2.2.2.2.2.2.2.2.1 s.2.2.2.2.2.2.2.2.2.2.1 s.2.2.2.2.2.2.2.2.2.2.2) (fun s => I s.1 s.2.1 s.2.2.1 s.2.2.2.1 s.2.2.2.2.1 s.2.2.2.2.2.1 s.2.2.2.2.2.2.1 s.2.2.2.2.2.2.2.1 s.2.2.2.2.2.2.2.2.1 s.2.2.2.2.2.2.2.2.2.1 s.2.2.2.2.2.2.2.2.2.2.1 s.2.2.2.2.2.2.2.2.2.2.2) (fun s => μ s.1 s.2.1 s.2.2.1 s.2.2.2.1 s.2.2.2.2.1 s.2.2.2.2.2.1 s.2.2.2.2.2.2.1 s.2.2.2.2.2.2.2.1 s.2.2.2.2.2.2.2.2.1 s.2.2.2.2.2.2.2.2.2.1 s.2.2.2.2.2.2.2.2.2.2.1 s.2.2.2.2.2.2.2.2.2.2.2) (fun n s hI hk => hs n s.1 s.2.1 s.2.2.1 s.2.2.2.1 s.2.2.2.2.1 s.2.2.2.2.2.1 s.2.2.2.2.2.2.1 s.2.2.2.2.2.2.2.1 s.2.2.2.2.2.2.2.2.1 s.2.2.2.2.2.2.2.2.2.1 s.2.2.2.2.2.2.2.2.2.2.1 s.2.2.2.2.2.2.2.2.2.2.2 hI (fun b1 b2 b3 b4 b5 b6 b7 b8 b9 b10 b11 b12 h9 hm => hk (b1, b2, b3, b4, b5, b6, b7, b8, b9, b10, b11, b12) h9 hm)) (a1, a2, a3, a4, a5, a6, a7, a8, a9, a10, a11, a12) h
theorem lp13 {A1 A2 A3 A4 A5 A6 A7 A8 A9 A10 A11 A12 A13 : Type} (W : Nat → A1 → A2 → A3 → A4 → A5 → A6 → A7 → A8 → A9 → A10 → A11 → A12 → A13 → Prop) (I : A1 → A2 → A3 → A4 → A5 → A6 → A7 → A8 → A9 → A10 → A11 → A12 → A13 → Prop) (μ : A1 → A2 → A3 → A4 → A5 → A6 → A7 → A8 → A9 → A10 → A11 → A12 → A13 → Nat) (hs : ∀ (n : Nat) (a1 : A1) (a2 : A2) (a3 : A3) (a4 : A4) (a5 : A5) (a6 : A6) (a7 : A7) (a8 : A8) (a9 : A9) (a10 : A10) (a11 : A11) (a12 : A12) (a13 : A13), I a1 a2 a3 a4 a5 a6 a7 a8 a9 a10 a11 a12 a13 → (∀ (b1 : A1) (b2 : A2) (b3 : A3) (b4 : A4) (b5 : A5) (b6 : A6) (b7 : A7) (b8 : A8) (b9 : A9) (b10 : A10) (b11 : A11) (b12 : A12) (b13 : A13), I b1 b2 b3 b4 b5 b6 b7 b8 b9 b10 b11 b12 b13 → μ b1 b2 b3 b4 b5 b6 b7 b8 b9 b10 b11 b12 b13 < μ a1 a2 a3 a4 a5 a6 a7 a8 a9 a10 a11 a12 a13 → W n b1 b2 b3 b4 b5 b6 b7 b8 b9 b10 b11 b12 b13) → W (n + 1) a1 a2 a3 a4 a5 a6 a7 a8 a9 a10 a11 a12 a13) (a1 : A1) (a2 : A2) (a3 : A3) (a4 : A4) (a5 : A5) (a6 : A6) (a7 : A7) (a8 : A8) (a9 : A9) (a10 : A10) (a11 : A11) (a12 : A12) (a13 : A13) (h : I a1 a2 a3 a4 a5 a6 a7 a8 a9 a10 a11 a12 a13) : ∃ n, W n a1 a2 a3 a4 a5 a6 a7 a8 a9 a10 a11 a12 a13 :=
  loop_m (σ := A1 × A2 × A3 × A4 × A5 × A6 × A7 × A8 × A9 × A10 × A11 × A12 × A13) (fun n s => W n s.1 s.2.1 s.2.2.1 s.2.2.2.1 s.2.2.2.2.1 s.2.2.2.2.2.1 s.2.2.2.2.2.2.1 s.2.2.2.2.2.2.2.1 s.2.2.2.2.2.2.2.2.1 s.2.2.2.2.2.2.2.2.2.1 s.2.2.2.2.2.2.2.2.2.2.1 s.2.2.2.2.2.2.2.2.2.2.2.1 s.2.2.2.2.2.2.2.2.2.2.2.2) (fun s => I s.1 s.2.1 s.2.2.1 s.2.2.2.1 s.2.2.2.2.1 s.2.2.2.2.2.1 s.2.2.2.2.2.2.1 s.2.2.2.2.2.2.2.1 s.2.2.2.2.2.2.2.2.1 s.2.2.2.2.2.2.2.2.2.1 s.2.2.2.2.2.2.2.2.2.2.1 s.2.2.2.2.2.2.2.2.2.2.2.1 s.2.2.2.2.2.2.2.2.2.2.2.2) (fun s => μ s.1 s.2.1 s.2.2.1 s.2.2.2.1 s.2.2.2.2.1 s.2.2.2.2.2.1 s.2.2.2.2.2.2.1 s.2.2.2.2.2.2.2.1 s.2.2.2.2.2.2.2.2.1 s.2.2.2.2.2.2.2.2.2.1 s.2.2.2.2.2.2.2.2.2.2.1 s.2.2.2.2.2.2.2.2.2.2.2.1 s.2.2.2.2.2.2.2.2.2.2.2.2) (fun n s hI hk => hs n s.1 s.2.1 s.2.2.1 s.2.2.2.1 s.2.2.2.2.1 s.2.2.2.2.2.1 s.2.2.2.2.2.2.1 s.2.2.2.2.2.2.2.1 s.2.2.2.2.2.2.2.2.1 s.2.2.2.2.2.2.2.2.2.1 s.2.2.2.2.2.2.2.2.2.2.1 s.2.2.2.2.2.2.2.2.2.2.2.1 s.2.2.2.2.2.2.2.2.2.2.2.2 hI (fun b1 b2 b3 b4 b5 b6 b7 b8 b9 b10 b11 b12 b13 h9 hm => hk (b1, b2, b3, b4, b5, b6, b7, b8, b9, b10, b11, b12, b13) h9 hm)) (a1, a2, a3, a4, a5, a6, a7, a8, a9, a10, a11, a12, a13) h
theorem lp14 {A1 A2 A3 A4 A5 A6 A7 A8 A9 A10 A11 A12 A13 A14 : Type} (W : Nat → A1 → A2 → A3 → A4 → A5 → A6 → A7 → A8 → A9 → A10 → A11 → A12 → A13 → A14 → Prop) (I : A1 → A2 → A3 → A4 → A5 → A6 → A7 → A8 → A9 → A10 → A11 → A12 → A13 → A14 → Prop) (μ : A1 → A2 → A3 → A4 → A5 → A6 → A7 → A8 → A9 → A10 → A11 → A12 → A13 → A14 → Nat) (hs : ∀ (n : Nat) (a1 : A1) (a2 : A2) (a3 : A3) (a4 : A4) (a5 : A5) (a6 : A6) (a7 : A7) (a8 : A8) (a9 : A9) (a10 : A10) (a11 : A11) (a12 : A12) (a13 : A13) (a14 : A14), I a1 a2 a3 a4 a5 a6 a7 a8 a9 a10 a11 a12 a13 a14 → (∀ (b1 : A1) (b2 : A2) (b3 : A3) (b4 : A4) (b5 : A5) (b6 : A6) (b7 : A7) (b8 : A8) (b9 : A9) (b10 : A10) (b11 : A11) (b12 : A12) (b13 : A13) (b14 : A14), I b1 b2 b3 b4 b5 b6 b7 b8 b9 b10 b11 b12 b13 b14 → μ b1 b2 b3 b4 b5 b6 b7 b8 b9 b10 b11 b12 b13 b14 < μ a1 a2 a3 a4 a5 a6 a7 a8 a9 a10 a11 a12 a13 a14 → W n b1 b2 b3 b4 b5 b6 b7 b8 b9 b10 b11 b12 b13 b14) → W (n + 1) a1 a2 a3 a4 a5 a6 a7 a8 a9 a10 a11 a12 a13 a14) (a1 : A1) (a2 : A2) (a3 : A3) (a4 : A4) (a5 : A5) (a6 : A6) (a7 : A7) (a8 : A8) (a9 : A9) (a10 : A10) (a11 : A11) (a12 : A12) (a13 : A13) (a14 : A14) (h : I a1 a2 a3 a4 a5 a6 a7 a8 a9 a10 a11 a12 a13 a14) : ∃ n, W n a1 a2 a3 a4 a5 a6 a7 a8 a9 a10 a11 a12 a13 a14 :=
  loop_m (σ := A1 × A2 × A3 × A4 × A5 × A6 × A7 × A8 × A9 × A10 × A11 × A12 × A13 × A14) (fun n s => W n s.1 s.2.1 s.2.2.1 s.2.2.2.1 s.2.2.2.2.1 s.2.2.2.2.2.1 s.2.2.2.2.2.2.1 s.2.2.2.2.2.2.2.1 s.2.2.2.2.2.2.2.2.1 s.2.2.2.2.2.2.2.2.2.1 s.2.2.2.2.2.2.2.2.2.2.1 s.2.2.2.2.2.2.2.2.2.2.2.1 s.2.2.2.2.2.2.2.2.2.2.2.2.1 s.2.2.2.2.2.2.2.2.2.2.2.2.2) (fun s => I s.1 s.2.1 s.2.2.1 s.2.2.2.1 s.2.2.2.2.1 s.2.2.2.2.2.1 s.2.2.2.2.2.2.1 s.2.2.2.2.2.2.2.1 s.2.2.2.2.2.2.2.2.1 s.2.2.2.2.2.2.2.2.2.1 s.2.2.2.2.2.2.2.2.2.2.1 s.2.2.2.2.2.2.2.2.2.2.2.1 s.2.2.2.2.2.2.2.2.2.2.2.2.1 s.2.2.2.2.2.2.2.2.2.2.2.2.2) (fun s => μ s.1 s.2.1 s.2.2.1 s.2.2.2.1 s.2.2.2.2.1 s.2.2.2.2.2.1 s.2.2.2.2.2.2.1 s.2.2.2.2.2.2.2.1 s.2.2.2.2.2.2.2.2.1 s.2.2.2.2.2.2.2.2.2.1 s.2.2.2.2.2.2.2.2.2.2.1 s.2.2.2.2.2.2.2.2.2.2.2.1 s.2.2.2.2.2.2.2.2.2.2.2.2.1 s.2.2.2.2.2.2.2.2.2.2.2.2.2) (fun n s hI hk => hs n s.1 s.2.1 s.2.2.1 s.2.2.2.1 s.2.2.2.2.1 s.2.2.2.2.2.1 s.2.2.2.2.2.2.1 s.2.2.2.2.2.2.2.1 s.2.2.2.2.2.2.2.2.1 s.2.2.2.2.2.2.2.2.2.1 s.2.2.2.2.2.2.2.2.2.2.1 s.2.2.2.2.2.2.2.2.2.2.2.1 s.2.2.2.2.2.2.2.2.2.2.2.2.1 s.2.2.2.2.2.2.2.2.2.2.2.2.2 hI (fun b1 b2 b3 b4 b5 b6 b7 b8 b9 b10 b11 b12 b13 b14 h9 hm => hk (b1, b2, b3, b4, b5, b6, b7, b8, b9, b10, b11, b12, b13, b14) h9 hm)) (a1, a2, a3, a4, a5, a6, a7, a8, a9, a10, a11, a12, a13, a14) h
theorem lp15 {A1 A2 A3 A4 A5 A6 A7 A8 A9 A10 A11 A12 A13 A14 A15 : Type} (W : Nat → A1 → A2 → A3 → A4 → A5 → A6 → A7 → A8 → A9 → A10 → A11 → A12 → A13 → A14 → A15 → Prop) (I : A1 → A2 → A3 → A4 → A5 → A6 → A7 → A8 → A9 → A10 → A11 → A12 → A13 → A14 → A15 → Prop) (μ : A1 → A2 → A3 → A4 → A5 → A6 → A7 → A8 → A9 → A10 → A11 → A12 → A13 → A14 → A15 → Nat) (hs : ∀ (n : Nat) (a1 : A1) (a2 : A2) (a3 : A3) (a4 : A4) (a5 : A5) (a6 : A6) (a7 : A7) (a8 : A8) (a9 : A9) (a10 : A10) (a11 : A11) (a12 : A12) (a13 : A13) (a14 : A14) (a15 : A15), I a1 a2 a3 a4 a5 a6 a7 a8 a9 a10 a11 a12 a13 a14 a15 → (∀ (b1 : A1) (b2 : A2) (b3 : A3) (b4 : A4) (b5 : A5) (b6 : A6) (b7 : A7) (b8 : A8) (b9 : A9) (b10 : A10) (b11 : A11) (b12 : A12) (b13 : A13) (b14 : A14) (b15 : A15), I b1 b2 b3 b4 b5 b6 b7 b8 b9 b10 b11 b12 b13 b14 b15 → μ b1 b2 b3 b4 b5 b6 b7 b8 b9 b10 b11 b12 b13 b14 b15 < μ a1 a2 a3 a4 a5 a6 a7 a8 a9 a10 a11 a12 a13 a14 a15 → W n b1 b2 b3 b4 b5 b6 b7 b8 b9 b10 b11 b12 b13 b14 b15) → W (n + 1) a1 a2 a3 a4 a5 a6 a7 a8 a9 a10 a11 a12 a13 a14 a15) (a1 : A1) (a2 : A2) (a3 : A3) (a4 : A4) (a5 : A5) (a6 : A6) (a7 : A7) (a8 : A8) (a9 : A9) (a10 : A10) (a11 : A11) (a12 : A12) (a13 : A13) (a14 : A14) (a15 : A15) (h : I a1 a2 a3 a4 a5 a6 a7 a8 a9 a10 a11 a12 a13 a14 a15) : ∃ n, W n a1 a2 a3 a4 a5 a6 a7 a8 a9 a10 a11 a12 a13 a14 a15 :=
  loop_m (σ := A1 × A2 × A3 × A4 × A5 × A6 × A7 × A8 × A9 × A10 × A11 × A12 × A13 × A14 × A15) (fun n s => W n s.1 s.2.1 s.2.2.1 s.2.2.2.1 s.2.2.2.2.1 s.2.2.2.2.2.1 s.2.2.2.2.2.2.1 s.2.2.2.2.2.2.2.1 s.2.2.2.2.2.2.2.2.1 s.2.2.2.2.2.2.2.2.2.1 s.2.2.2.2.2.2.2.2.2.2.1 s.2.2.2.2.2.2.2.2.2.2.2.1 s.2.2.2.2.2.2.2.2.2.2.2.2.1 s.2.2.2.2.2.2.2.2.2.2.2.2.2.1 s.2.2.2.2.2.2.2.2.2.2.2.2.2.2) (fun s => I s.1 s.2.1 s.2.2.1 s.2.2.2.1 s.2.2.2.2.1 s.2.2.2.2.2.1 s.2.2.2.2.2.2.1 s.2.2.2.2.2.2.2.1 s.2.2.2.2.2.2.2.2.1 s.2.2.2.2.2.2.2.2.2.1 s.2.2.2.2.2.2.2.2.2.2.1 s.2.2.2.2.2.2.2.2.2.2.2.1 s.2.2.2.2.2.2.2.2.2.2.2.2.1 s.2.2.2.2.2.2.2.2.2.2.2.2.2.1 s.2.2.2.2.2.2.2.2.2.2.2.2.2.2) (fun s => μ s.1 s.2.1 s.2.2.1 s.2.2.2.1 s.2.2.2.2.1 s.2.2.2.2.2.1 s.2.2.2.2.2.2.1 s.2.2.2.2.2.2.2.1 s.2.2.2.2.2.2.2.2.1 s.2.2.2.2.2.2.2.2.2.1 s.2.2.2.2.2.2.2.2.2.2.1 s.2.2.2.2.2.2.2.2.2.2.2.1 s.2.2.2.2.2.2.2.2.2.2.2.2.1 s.2.2.2.2.2.2.2.2.2.2.2.2.2.1 s.2.2.2.2.2.2.2.2.2.2.2.2.2.2) (fun n s hI hk => hs n s.1 s.2.1 s.2.2.1 s.2.2.2.1 s.2.2.2.2.1 s.2.2.2.2.2.1 s.2.2.2.2.2.2.1 s.2.2.2.2.2.2.2.1 s.2.2.2.2.2.2.2.2.1 s.2.2.2.2.2.2.2.2.2.1 s.2.2.2.2.2.2.2.2.2.2.1 s.2.2.2.2.2.2.2.2.2.2.2.1 s.2.2.2.2.2.2.2.2.2.2.2.2.1 s.2.2.2.2.2.2.2.2.2.2.2.2.2.1 s.2.2.2.2.2.2.2.2.2.2.2.2.2.2 hI (fun b1 b2 b3 b4 b5 b6 b7 b8 b9 b10 b11 b12 b13 b14 b15 h9 hm => hk (b1, b2, b3, b4, b5, b6, b7, b8, b9, b10, b11, b12, b13, b14, b15) h9 hm)) (a1, a2, a3, a4, a5, a6, a7, a8, a9, a10, a11, a12, a13, a14, a15) h
theorem lp16 {A1 A2 A3 A4 A5 A6 A7 A8 A9 A10 A11 A12 A13 A14 A15 A16 : Type} (W : Nat → A1 → A2 → A3 → A4 → A5 → A6 → A7 → A8 → A9 → A10 → A11 → A12 → A13 → A14 → A15 → A16 → Prop) (I : A1 → A2 → A3 → A4 → A5 → A6 → A7 → A8 → A9 → A10 → A11 → A12 → A13 → A14 → A15 → A16 → Prop) (μ : A1 → A2 → A3 → A4 → A5 → A6 → A7 → A8 → A9 → A10 → A11 → A12 → A13 → A14 → A15 → A16 → Nat) (hs : ∀ (n : Nat) (a1 : A1) (a2 : A2) (a3 : A3) (a4 : A4) (a5 : A5) (a6 : A6) (a7 : A7) (a8 : A8) (a9 : A9) (a10 : A10) (a11 : A11) (a12 : A12) (a13 : A13) (a14 : A14) (a15 : A15) (a16 : A16), I a1 a2 a3 a4 a5 a6 a7 a8 a9 a10 a11 a12 a13 a14 a15 a16 → (∀ (b1 : A1) (b2 : A2) (b3 : A3) (b4 : A4) (b5 : A5) (b6 : A6) (b7 : A7) (b8 : A8) (b9 : A9) (b10 : A10) (b11 : A11) (b12 : A12) (b13 : A13) (b14 : A14) (b15 : A15) (b16 : A16), I b1 b2 b3 b4 b5 b6 b7 b8 b9 b10 b11 b12 b13 b14 b15 b16 → μ b1 b2 b3 b4 b5 b6 b7 b8 b9 b10 b11 b12 b13 b14 b15 b16 < μ a1 a2 a3 a4 a5 a6 a7 a8 a9 a10 a11 a12 a13 a14 a15 a16 → W n b1 b2 b3 b4 b5 b6 b7 b8 b9 b10 b11 b12 b13 b14 b15 b16) → W (n + 1) a1 a2 a3 a4 a5 a6 a7 a8 a9 a10 a11 a12 a13 a14 a15 a16) (a1 : A1) (a2 : A2) (a3 : A3) (a4 : A4) (a5 : A5) (a6 : A6) (a7 : A7) (a8 : A8) (a9 : A9) (a10 : A10) (a11 : A11) (a12 : A12) (a13 : A13) (a14 : A14) (a15 : A15) (a16 : A16) (h : I a1 a2 a3 a4 a5 a6 a7 a8 a9 a10 a11 a12 a13 a14 a15 a16) : ∃ n, W n a1 a2 a3 a4 a5 a6 a7 a8 a9 a10 a11 a12 a13 a14 a15 a16 :=
  loop_m (σ := A1 × A2 × A3 × A4 × A5 × A6 × A7 × A8 × A9 × A10 × A11 × A12 × A13 × A14 × A15 × A16) (fun n s => W n s.1 s.2.1 s.2.2.1 s.2.2.2.1 s.2.2.2.2.1 s.2.2.2.2.2.1 s.2.2.2.2.2.2.1 s.2.2.2.2.2.2.2.1 s.2.2.2.2.2.2.2.2.1 s.2.2.2.2.2.2.2.2.2.1 s.2.2.2.2.2.2.2.2.2.2.1 s.2.2.2.2.2.2.2.2.2.2.2.1 s.2.2.2.2.2.2.2.2.2.2.2.2.1 s.2.2.2.2.2.2.2.2.2.2.2.2.2.1 s.2.2.2.2.2.2.2.2.2.2.2.2.2.2.1 s.2.2.2.2.2.2.2.2.2.2.2.2.2.2.2) (fun s => I s.1 s.2.1 s.2.2.1 s.2.2.2.1 s.2.2.2.2.1 s.2.2.2.2.2.1 s.2.2.2.2.2.2.1 s.2.2.2.2.2.2.2.1 s.2.2.2.2.2.2.2.2.1 s.2.2.2.2.2.2.2.2.2.1 s.2.2.2.2.2.2.2.2.2.2.1 s.2.2.2.2.2.2.2.2.2.2.2.1 s.2.2.2.2.2.2.2.2.2.2.2.2.1 s.2.2.2.2.2.2.2.2.2.2.2.2.2.1 s.2.2.2.2.2.2.2.2.2.2.2.2.2.2.1 s.2.2.2.2.2.2.2.2.2.2.2.2.2.2.2) (fun s => μ s.1 s.2.1 s.2.2.1 s.2.2.2.1 s.2.2.2.2.1 s.2.2.2.2.2.1 s.2.2.2.2.2.2.1 s.2.2.2.2.2.2.2.1 s.2.2.2.2.2.2.2.2.1 s.2.2.2.2.2.2.2.2.2.1 s.2.2.2.2.2.2.2.2.2.2.1 s.2.2.2.2.2.2.2.2.2.2.2.1 s.2.2.2.2.2.2.2.2.2.2.2.2.1 s.2.2.2.2.2.2.2.2.2.2.2.2.2.1 s.2.2.2.2.2.2.2.2.2.2.2.2.2.2.1 s.2.2.2.2.2.2.2.2.2.2.2.2.2.2.2) (fun n s hI hk => hs n s.1 s.2.1 s.2.2.1 s.2.2.2.1 s.2.2.2.2.1 s.2.2.2.2.2.1 s.2.2.2.2.2.2.1 s.2.2.2.2.2.2.2.1 s.2.2.2.2.2.2.2.2.1 s.2.2.2.2.2.2.2.2.2.1 s.2.2.2.2.2.2.2.2.2.2.1 s.2.2.2.2.2.2.2.2.2.2.2.1 s.2.2.2.2.2.2.2.2.2.2.2.2.1 s.2.2.2.2.2.2.2.2.2.2.2.2.2.1 s.2.2.2.2.2.2.2.2.2.2.2.2.2.2.1 s.2.2.2.2.2.2.2.2.2.2.2.2.2.2.2 hI (fun b1 b2 b3 b4 b5 b6 b7 b8 b9 b10 b11 b12 b13 b14 b15 b16 h9 hm => hk (b1, b2, b3, b4, b5, b6, b7, b8, b9, b10, b11, b12, b13, b14, b15, b16) h9 hm)) (a1, a2, a3, a4, a5, a6, a7, a8, a9, a10, a11, a12, a13, a14, a15, a16) h
theorem pk_least (P : Nat → Prop) (h : ∃ k, P k) : ∃ k, P k ∧ ∀ j, j < k → ¬ P j := by
  obtain ⟨k, hk⟩ := h
  induction k using Nat.strongRecOn with
  | ind k ih =>
    by_cases e : ∃ j, j < k ∧ P j
    · obtain ⟨j, hj, pj⟩ := e
      exact ih j hj pj
    · exact ⟨k, hk, fun j hj pj => e ⟨j, hj, pj⟩⟩
theorem rp1 {ρ A1 : Type} (W : Nat → (ρ → Prop) → A1 → Prop) (ok : A1 → Prop) (μ : A1 → Nat) (val : A1 → ρ)
    (hs : ∀ (d : Nat) (post : ρ → Prop) (a1 : A1), ok a1 → post (val a1) → (∀ (post' : ρ → Prop) (b1 : A1), ok b1 → μ b1 < μ a1 → post' (val b1) → W d post' b1) → W (d + 1) post a1) :
    ∀ (d : Nat) (post : ρ → Prop) (a1 : A1), ok a1 → μ a1 < d → post (val a1) → W d post a1 := by
  intro d
  induction d with
  | zero => intro post a1 _ h; omega
  | succ d ih =>
    intro post a1 ho hm hp
    exact hs d post a1 ho hp (fun post' b1 ho' hm' hp' => ih post' b1 ho' (by omega) hp')
theorem rp2 {ρ A1 A2 : Type} (W : Nat → (ρ → Prop) → A1 → A2 → Prop) (ok : A1 → A2 → Prop) (μ : A1 → A2 → Nat) (val : A1 → A2 → ρ)
    (hs : ∀ (d : Nat) (post : ρ → Prop) (a1 : A1) (a2 : A2), ok a1 a2 → post (val a1 a2) → (∀ (post' : ρ → Prop) (b1 : A1) (b2 : A2), ok b1 b2 → μ b1 b2 < μ a1 a2 → post' (val b1 b2) → W d post' b1 b2) → W (d + 1) post a1 a2) :
    ∀ (d : Nat) (post : ρ → Prop) (a1 : A1) (a2 : A2), ok a1 a2 → μ a1 a2 < d → post (val a1 a2) → W d post a1 a2 := by
  intro d
  induction d with
  | zero => intro post a1 a2 _ h; omega
  | succ d ih =>
    intro post a1 a2 ho hm hp
    exact hs d post a1 a2 ho hp (fun post' b1 b2 ho' hm' hp' => ih post' b1 b2 ho' (by omega) hp')
theorem rp3 {ρ A1 A2 A3 : Type} (W : Nat → (ρ → Prop) → A1 → A2 → A3 → Prop) (ok : A1 → A2 → A3 → Prop) (μ : A1 → A2 → A3 → Nat) (val : A1 → A2 → A3 → ρ)
    (hs : ∀ (d : Nat) (post : ρ → Prop) (a1 : A1) (a2 : A2) (a3 : A3), ok a1 a2 a3 → post (val a1 a2 a3) → (∀ (post' : ρ → Prop) (b1 : A1) (b2 : A2) (b3 : A3), ok b1 b2 b3 → μ b1 b2 b3 < μ a1 a2 a3 → post' (val b1 b2 b3) → W d post' b1 b2 b3) → W (d + 1) post a1 a2 a3) :
    ∀ (d : Nat) (post : ρ → Prop) (a1 : A1) (a2 : A2) (a3 : A3), ok a1 a2 a3 → μ a1 a2 a3 < d → post (val a1 a2 a3) → W d post a1 a2 a3 := by
  intro d
  induction d with
  | zero => intro post a1 a2 a3 _ h; omega
  | succ d ih =>
    intro post a1 a2 a3 ho hm hp
    exact hs d post a1 a2 a3 ho hp (fun post' b1 b2 b3 ho' hm' hp' => ih post' b1 b2 b3 ho' (by omega) hp')
theorem rp4 {ρ A1 A2 A3 A4 : Type} (W : Nat → (ρ → Prop) → A1 → A2 → A3 → A4 → Prop) (ok : A1 → A2 → A3 → A4 → Prop) (μ : A1 → A2 → A3 → A4 → Nat) (val : A1 → A2 → A3 → A4 → ρ)
    (hs : ∀ (d : Nat) (post : ρ → Prop) (a1 : A1) (a2 : A2) (a3 : A3) (a4 : A4), ok a1 a2 a3 a4 → post (val a1 a2 a3 a4) → (∀ (post' : ρ → Prop) (b1 : A1) (b2 : A2) (b3 : A3) (b4 : A4), ok b1 b2 b3 b4 → μ b1 b2 b3 b4 < μ a1 a2 a3 a4 → post' (val b1 b2 b3 b4) → W d post' b1 b2 b3 b4) → W (d + 1) post a1 a2 a3 a4) :
    ∀ (d : Nat) (post : ρ → Prop) (a1 : A1) (a2 : A2) (a3 : A3) (a4 : A4), ok a1 a2 a3 a4 → μ a1 a2 a3 a4 < d → post (val a1 a2 a3 a4) → W d post a1 a2 a3 a4 := by
  intro d
  induction d with
  | zero => intro post a1 a2 a3 a4 _ h; omega
  | succ d ih =>
    intro post a1 a2 a3 a4 ho hm hp
    exact hs d post a1 a2 a3 a4 ho hp (fun post' b1 b2 b3 b4 ho' hm' hp' => ih post' b1 b2 b3 b4 ho' (by omega) hp')
theorem rp5 {ρ A1 A2 A3 A4 A5 : Type} (W : Nat → (ρ → Prop) → A1 → A2 → A3 → A4 → A5 → Prop) (ok : A1 → A2 → A3 → A4 → A5 → Prop) (μ : A1 → A2 → A3 → A4 → A5 → Nat) (val : A1 → A2 → A3 → A4 → A5 → ρ)
    (hs : ∀ (d : Nat) (post : ρ → Prop) (a1 : A1) (a2 : A2) (a3 : A3) (a4 : A4) (a5 : A5), ok a1 a2 a3 a4 a5 → post (val a1 a2 a3 a4 a5) → (∀ (post' : ρ → Prop) (b1 : A1) (b2 : A2) (b3 : A3) (b4 : A4) (b5 : A5), ok b1 b2 b3 b4 b5 → μ b1 b2 b3 b4 b5 < μ a1 a2 a3 a4 a5 → post' (val b1 b2 b3 b4 b5) → W d post' b1 b2 b3 b4 b5) → W (d + 1) post a1 a2 a3 a4 a5) :
    ∀ (d : Nat) (post : ρ → Prop) (a1 : A1) (a2 : A2) (a3 : A3) (a4 : A4) (a5 : A5), ok a1 a2 a3 a4 a5 → μ a1 a2 a3 a4 a5 < d → post (val a1 a2 a3 a4 a5) → W d post a1 a2 a3 a4 a5 := by
  intro d
  induction d with
  | zero => intro post a1 a2 a3 a4 a5 _ h; omega
  | succ d ih =>
    intro post a1 a2 a3 a4 a5 ho hm hp
    exact hs d post a1 a2 a3 a4 a5 ho hp (fun post' b1 b2 b3 b4 b5 ho' hm' hp' => ih post' b1 b2 b3 b4 b5 ho' (by omega) hp')
theorem rp6 {ρ A1 A2 A3 A4 A5 A6 : Type} (W : Nat → (ρ → Prop) → A1 → A2 → A3 → A4 → A5 → A6 → Prop) (ok : A1 → A2 → A3 → A4 → A5 → A6 → Prop) (μ : A1 → A2 → A3 → A4 → A5 → A6 → Nat) (val : A1 → A2 → A3 → A4 → A5 → A6 → ρ)
    (hs : ∀ (d : Nat) (post : ρ → Prop) (a1 : A1) (a2 : A2) (a3 : A3) (a4 : A4) (a5 : A5) (a6 : A6), ok a1 a2 a3 a4 a5 a6 → post (val a1 a2 a3 a4 a5 a6) → (∀ (post' : ρ → Prop) (b1 : A1) (b2 : A2) (b3 : A3) (b4 : A4) (b5 : A5) (b6 : A6), ok b1 b2 b3 b4 b5 b6 → μ b1 b2 b3 b4 b5 b6 < μ a1 a2 a3 a4 a5 a6 → post' (val b1 b2 b3 b4 b5 b6) → W d post' b1 b2 b3 b4 b5 b6) → W (d + 1) post a1 a2 a3 a4 a5 a6) :
    ∀ (d : Nat) (post : ρ → Prop) (a1 : A1) (a2 : A2) (a3 : A3) (a4 : A4) (a5 : A5) (a6 : A6), ok a1 a2 a3 a4 a5 a6 → μ a1 a2 a3 a4 a5 a6 < d → post (val a1 a2 a3 a4 a5 a6) → W d post a1 a2 a3 a4 a5 a6 := by
  intro d
  induction d with
  | zero => intro post a1 a2 a3 a4 a5 a6 _ h; omega
  | succ d ih =>
    intro post a1 a2 a3 a4 a5 a6 ho hm hp
    exact hs d post a1 a2 a3 a4 a5 a6 ho hp (fun post' b1 b2 b3 b4 b5 b6 ho' hm' hp' => ih post' b1 b2 b3 b4 b5 b6 ho' (by omega) hp')
theorem rec_p {σ ρ : Type} (W : Nat → (ρ → Prop) → σ → Prop) (ok : σ → Prop) (μ : σ → Nat) (val : σ → ρ)
    (hs : ∀ d s post, ok s → post (val s) → (∀ s' post', ok s' → μ s' < μ s → post' (val s') → W d post' s') → W (d + 1) post s) :
    ∀ d s post, ok s → μ s < d → post (val s) → W d post s := by
  intro d
  induction d with
  | zero => intro s post _ h; omega
  | succ d ih =>
    intro s post ho hm hp
    exact hs d s post ho hp (fun s' post' ho' hm' hp' => ih s' post' ho' (by omega) hp')
theorem rec_q {σ ρ : Type} (W : Nat → (ρ → Prop) → σ → Prop) (ok : σ → Prop) (μ : σ → Nat) (Q : σ → ρ → Prop)
    (hs : ∀ d s post, ok s → (∀ r, Q s r → post r) → (∀ s' post', ok s' → μ s' < μ s → (∀ r, Q s' r → post' r) → W d post' s') → W (d + 1) post s) :
    ∀ d s post, ok s → μ s < d → (∀ r, Q s r → post r) → W d post s := by
  intro d
  induction d with
  | zero => intro s post _ h; omega
  | succ d ih =>
    intro s post ho hm hp
    exact hs d s post ho hp (fun s' post' ho' hm' hp' => ih s' post' ho' (by omega) hp')
def bx_sum (f : Nat → Int32) : Nat → Int32
  | 0 => 0
  | n + 1 => bx_sum f n + f n
theorem ek_u {A : Prop} {B : Nat → Prop} {k N : Nat} (hk : k < N) (h : B k) : (some k = none → A) ∧ (∀ y : Nat, some k = some y → (y < N ∧ B y)) :=
  ⟨fun z => absurd z (Option.some_ne_none k), fun _ e => (by cases e; exact ⟨hk, h⟩)⟩
theorem ek_nu {A : Prop} {B : Nat → Prop} (h : A) : ((none : Option Nat) = none → A) ∧ (∀ y : Nat, (none : Option Nat) = some y → B y) :=
  ⟨fun _ => h, fun _ e => (by cases e)⟩
theorem ek_if {c d A B : Prop} (e : c ↔ d) (f : d → A) (g : ¬ d → B) : (c → A) ∧ (¬ c → B) :=
  ⟨fun z => f (e.mp z), fun z => g (fun y => z (e.mpr y))⟩
theorem ek_v {α : Sort _} {P : α → Prop} {a b : α} (e : a = b) (h : P b) : P a := e ▸ h
theorem co_some {x : Option Nat} {A : Prop} {B : Nat → Prop} (i : Nat) (h : B i) (hx : x = some i := by rfl) : (x = none → A) ∧ (∀ y : Nat, x = some y → B y) := by
  subst hx
  exact ⟨fun e => (nomatch e), fun y e => Option.some.inj e ▸ h⟩
theorem co_none {x : Option Nat} {A : Prop} {B : Nat → Prop} (h : A) (hx : x = none := by rfl) : (x = none → A) ∧ (∀ y : Nat, x = some y → B y) := by
  subst hx
  exact ⟨fun _ => h, fun y e => (nomatch e)⟩
theorem co_any {x : Option Nat} {A : Prop} {B : Nat → Prop} (hn : x = none → A) (hs : ∀ i : Nat, x = some i → B i) : (x = none → A) ∧ (∀ y : Nat, x = some y → B y) := ⟨hn, hs⟩
theorem co_2 {P : Nat → Prop} (h0 : P 0) (h1 : P 1) {i : Nat} (hi : i < 2) : P i :=
  match i, hi with
  | 0, _ => h0
  | 1, _ => h1
theorem co_3 {P : Nat → Prop} (h0 : P 0) (h1 : P 1) (h2 : P 2) {i : Nat} (hi : i < 3) : P i :=
  match i, hi with
  | 0, _ => h0
  | 1, _ => h1
  | 2, _ => h2
theorem co_4 {P : Nat → Prop} (h0 : P 0) (h1 : P 1) (h2 : P 2) (h3 : P 3) {i : Nat} (hi : i < 4) : P i :=
  match i, hi with
  | 0, _ => h0
  | 1, _ => h1
  | 2, _ => h2
  | 3, _ => h3
theorem co_dec {N : Nat} {P : Nat → Prop} [DecidablePred P] (h : (List.range N).all (fun i => decide (P i)) = true) {i : Nat} (hi : i < N) : P i := by
  have := List.all_eq_true.mp h i (List.mem_range.mpr hi)
  exact of_decide_eq_true this
theorem co_tab {α : Type} {l : List α} {d : α} {P : α → Prop} (h : ∀ a, a ∈ l → P a) {i : Nat} (hi : i < l.length) : P (l.getD i d) := by
  rw [List.getD_eq_getElem?_getD, List.getElem?_eq_getElem hi]
  exact h _ (List.getElem_mem hi)
theorem pk_mu {x : Int32} {L : Nat} (h0 : ¬ x < 0) (h : ¬ nI L ≤ x) (hL : L < 2 ^ 31) : ∃ j : Nat, j < L ∧ x = nI j ∧ x + 1 = nI (j + 1) ∧ x.toNatClampNeg = j ∧ L - (x + 1).toNatClampNeg < L - x.toNatClampNeg := by
  obtain ⟨j, hj, rfl⟩ := nI_of h0
  have hl : j < L := Nat.not_le.mp fun q => h (nI_le q hj)
  refine ⟨j, hl, rfl, nI_1 j, nI_clamp hj, ?_⟩
  rw [nI_1, nI_clamp (by omega), nI_clamp hj]
  omega
theorem op_s {α : Type} {r : Option α} {A : Prop} {B : α → Prop} {y : α} (h : r = some y) (b : B y) : (r = none → A) ∧ ∀ z, r = some z → B z :=
  ⟨fun e => (by rw [h] at e; cases e), fun z e => (by rw [h] at e; cases e; exact b)⟩
def l_holds {α : Type} (a : Nat → Option Nat) (LP : List Nat) (p : Nat → α) (c : Nat) (b : Nat → α) : Prop :=
  ∀ j, j < c → ∃ y, a j = some y ∧ y ∈ LP ∧ p y = b j
theorem l_holds_0 {α : Type} {a : Nat → Option Nat} {LP : List Nat} {p b : Nat → α} : l_holds a LP p 0 b := fun j h => absurd h (Nat.not_lt_zero j)
theorem l_in_new (LP : List Nat) (q : Nat) : q ∈ LP ++ [q] := List.mem_append.mpr (Or.inr (List.mem_singleton.mpr rfl))
def l_sum (b : Nat → Int32) : Nat → Int32
  | 0 => 0
  | k + 1 => l_sum b k + b k
theorem sb_shr0 (x : Int32) : x >>> ((0 : Int32) &&& 31) = x := by
  rw [show ((0 : Int32) &&& 31) = 0 by decide]
  simp
theorem sb_shl0 (x : Int32) : x <<< ((0 : Int32) &&& 31) = x := by
  rw [show ((0 : Int32) &&& 31) = 0 by decide]
  simp
theorem sb_cl0 : (0 : Int32).toNatClampNeg = 0 := by decide
theorem sb_m1 {p : Nat} (h : 0 < p) : nI p + (-1) = nI (p - 1) := by
  obtain ⟨q, rfl⟩ : ∃ q, p = q + 1 := ⟨p - 1, by omega⟩
  exact pk_m1 q
def sb_b (c : Nat) : Int32 := (nI c).toInt8.toInt32
theorem sb_byte : ∀ c, c < 256 → sb_b c &&& 255 = nI c ∧ ((nI c).toUInt32 % 65536).toInt32 = nI c ∧ nI c ≤ 255 := by decide +kernel
def sb_Fit (a : Nat → Int32) : Prop := ∀ j, fits .byte (.int (a j)) = true
def sb_Lat (t : Nat → Nat) (n : Nat) (a : Nat → Int32) : Prop := ∀ j, j < n → t j < 256 ∧ a j = sb_b (t j)
theorem sb_fitB (c : Nat) : fits .byte (.int (sb_b c)) = true := pk_fb _
theorem sb_fit0 : sb_Fit (fun _ => 0) := fun _ => by
  show fits .byte (.int 0) = true
  decide
theorem sb_fitU {a : Nat → Int32} {k : Nat} {x : Int32} (h : sb_Fit a) (hx : fits .byte (.int x) = true) : sb_Fit (upd a k x) := by
  intro j
  by_cases e : j = k
  · subst e
    rw [pk_us]
    exact hx
  · rw [pk_un e]
    exact h j
def sb_cat (t : Nat → Nat) (n : Nat) (s : Nat → Nat) : Nat → Nat := fun j => if j < n then t j else s (j - n)
theorem sb_cat_lo {t s : Nat → Nat} {n j : Nat} (h : j < n) : sb_cat t n s j = t j := if_pos h
theorem sb_cat_hi {t s : Nat → Nat} {n j : Nat} : sb_cat t n s (n + j) = s j := by
  show (if n + j < n then t (n + j) else s (n + j - n)) = s j
  rw [if_neg (by omega), Nat.add_sub_cancel_left]
theorem sb_latPut {t s : Nat → Nat} {n w : Nat} {a a' : Nat → Int32} (h : sb_Lat t n a) (hk : ∀ j, j < n → a' j = a j) (hs : ∀ i, i < w → s i < 256 ∧ a' (n + i) = sb_b (s i)) : sb_Lat (sb_cat t n s) (n + w) a' := by
  intro j hj
  by_cases e : j < n
  · rw [sb_cat_lo e, hk j e]
    exact h j e
  · obtain ⟨i, rfl⟩ : ∃ i, j = n + i := ⟨j - n, by omega⟩
    rw [sb_cat_hi]
    exact hs i (by omega)
theorem sb_latKeep {t : Nat → Nat} {n : Nat} {a a' : Nat → Int32} (h : sb_Lat t n a) (hk : ∀ j, j < n → a' j = a j) : sb_Lat t n a' := fun j hj => by
  rw [hk j hj]
  exact h j hj
def sb_cap (q m : Nat) : Nat := if q ≤ m then m else if 2 * m + 2 < q then q else 2 * m + 2
def sb_Room (q m mc ms : Nat) : Prop := q ≤ m ∨ (1 ≤ mc ∧ sb_cap q m ≤ ms ∧ sb_cap q m ≤ 65536)
theorem sb_cap_ge (q m : Nat) : q ≤ sb_cap q m := by
  unfold sb_cap
  split
  · omega
  · split <;> omega
theorem sb_cap_gem (q m : Nat) : m ≤ sb_cap q m := by
  unfold sb_cap
  split
  · omega
  · split <;> omega
theorem sb_cap_le {q m mc ms : Nat} (hm : m ≤ 65536) (hr : sb_Room q m mc ms) : sb_cap q m ≤ 65536 := by
  rcases hr with h | h
  · rw [sb_cap, if_pos h]
    exact hm
  · exact h.2.2
theorem sb_at {P : Int32 → Prop} {x y : Int32} (e : x = y) (h : P y) : P x := e ▸ h
def sb_dg (w : Nat) : Nat := if w < 10 then 1 else if w < 100 then 2 else if w < 1000 then 3 else if w < 10000 then 4 else if w < 100000 then 5 else if w < 1000000 then 6 else if w < 10000000 then 7 else if w < 100000000 then 8 else if w < 1000000000 then 9 else 10
def sb_dec (v : Nat) : Nat → Nat := fun i => 48 + v / 10 ^ (sb_dg v - 1 - i) % 10
theorem sb_dg_in (w : Nat) : 1 ≤ sb_dg w ∧ sb_dg w ≤ 10 := by
  unfold sb_dg
  constructor <;> (repeat' split) <;> omega
theorem sb_dg100 {w : Nat} (h : 100 ≤ w) (hw : w < 2 ^ 31) : sb_dg w = sb_dg (w / 100) + 2 := by
  rw [sb_dg, sb_dg, if_neg (show ¬ w < 10 by omega), if_neg (show ¬ w < 100 by omega)]
  by_cases h3 : w < 1000
  · rw [if_pos h3, if_pos (show w / 100 < 10 by omega)]
  rw [if_neg h3, if_neg (show ¬ w / 100 < 10 by omega)]
  by_cases h4 : w < 10000
  · rw [if_pos h4, if_pos (show w / 100 < 100 by omega)]
  rw [if_neg h4, if_neg (show ¬ w / 100 < 100 by omega)]
  by_cases h5 : w < 100000
  · rw [if_pos h5, if_pos (show w / 100 < 1000 by omega)]
  rw [if_neg h5, if_neg (show ¬ w / 100 < 1000 by omega)]
  by_cases h6 : w < 1000000
  · rw [if_pos h6, if_pos (show w / 100 < 10000 by omega)]
  rw [if_neg h6, if_neg (show ¬ w / 100 < 10000 by omega)]
  by_cases h7 : w < 10000000
  · rw [if_pos h7, if_pos (show w / 100 < 100000 by omega)]
  rw [if_neg h7, if_neg (show ¬ w / 100 < 100000 by omega)]
  by_cases h8 : w < 100000000
  · rw [if_pos h8, if_pos (show w / 100 < 1000000 by omega)]
  rw [if_neg h8, if_neg (show ¬ w / 100 < 1000000 by omega)]
  by_cases h9 : w < 1000000000
  · rw [if_pos h9, if_pos (show w / 100 < 10000000 by omega)]
  rw [if_neg h9, if_neg (show ¬ w / 100 < 10000000 by omega)]
  rw [if_pos (show w / 100 < 100000000 by omega)]
theorem sb_negT {w : Nat} (h : w < 2 ^ 31) : (-nI w).toInt = -(w : Int) := by
  rw [Int32.toInt_neg, nI_toInt h]
  exact Int.bmod_eq_of_le (by omega) (by omega)
theorem sb_nle {a b : Nat} (ha : a < 2 ^ 31) (hb : b < 2 ^ 31) : -nI a ≤ -nI b ↔ b ≤ a := by
  rw [Int32.le_iff_toInt_le, sb_negT ha, sb_negT hb]
  omega
theorem sb_nlt {a b : Nat} (ha : a < 2 ^ 31) (hb : b < 2 ^ 31) : -nI a < -nI b ↔ b < a := by
  rw [Int32.lt_iff_toInt_lt, sb_negT ha, sb_negT hb]
  omega
theorem sb_cmp {A B : Prop} {x : Int32} (v c : Nat) (f : c ≤ v → A) (g : v < c → B) (hv : v < 2 ^ 31) (hx : x = -nI c := by rfl) (hc : c < 2 ^ 31 := by omega) : (-nI v ≤ x → A) ∧ (¬ -nI v ≤ x → B) := by
  subst hx
  rw [sb_nle hv hc]
  exact ⟨f, fun z => g (by omega)⟩
theorem sb_ndiv {w : Nat} (hw : w < 2 ^ 31) : (-nI w) / 100 = -nI (w / 100) := by
  apply Int32.toInt_inj.mp
  have h100 : (100 : Int32).toInt = 100 := by decide
  rw [Int32.toInt_div, sb_negT hw, h100, sb_negT (by omega), Int.neg_tdiv, Int.tdiv_eq_ediv_of_nonneg (by omega), Int.bmod_eq_of_le (by omega) (by omega)]
  omega
theorem sb_nrem {w : Nat} (hw : w < 2 ^ 31) : (-nI (w / 100)) * 100 - (-nI w) = nI (w % 100) := by
  have h := pk_rem (a := w) (d := 100) hw (by decide) (by decide)
  rw [pk_div hw (by decide) (by decide)] at h
  rw [← h]
  show (-nI (w / 100)) * nI 100 - (-nI w) = nI w - nI (w / 100) * nI 100
  rw [Int32.neg_mul, Int32.sub_neg, Int32.add_comm, ← Int32.sub_eq_add_neg]
end
section
/-! rows on bits, shifts and unsigned numbers, to paste: each family out of a closed proof of our own, whole with what it rests on; each by itself clean at Lean in its own claim (generation 39, form 5). Take a family whole -/
/-! ===== Int32 by its bits: bt x i ===== -/
def bt (x : Int32) (i : Nat) : Bool := x.toBitVec.getLsbD i
theorem b_ext {x y : Int32} (h : ∀ i, i < 32 → bt x i = bt y i) : x = y := Int32.toBitVec_inj.mp (BitVec.eq_of_getLsbD_eq (fun i hi => h i hi))
theorem b_or (x y : Int32) (i : Nat) : bt (x ||| y) i = (bt x i || bt y i) := by unfold bt; rw [Int32.toBitVec_or, BitVec.getLsbD_or]
theorem b_and (x y : Int32) (i : Nat) : bt (x &&& y) i = (bt x i && bt y i) := by unfold bt; rw [Int32.toBitVec_and, BitVec.getLsbD_and]
theorem b_xor (x y : Int32) (i : Nat) : bt (x ^^^ y) i = (bt x i ^^ bt y i) := by unfold bt; rw [Int32.toBitVec_xor, BitVec.getLsbD_xor]
theorem b_big {x : Int32} {i : Nat} (h : 32 ≤ i) : bt x i = false := BitVec.getLsbD_of_ge _ _ h
theorem b_255 (i : Nat) : bt 255 i = decide (i < 8) := by
  rcases Nat.lt_or_ge i 32 with h | h
  · exact (by decide +kernel : ∀ i, i < 32 → bt 255 i = decide (i < 8)) i h
  · rw [b_big h, decide_eq_false (by omega)]
theorem b_65535 (i : Nat) : bt 65535 i = decide (i < 16) := by
  rcases Nat.lt_or_ge i 32 with h | h
  · exact (by decide +kernel : ∀ i, i < 32 → bt 65535 i = decide (i < 16)) i h
  · rw [b_big h, decide_eq_false (by omega)]
theorem b_m1 : ∀ i, i < 32 → bt (-1) i = true := by decide +kernel
theorem b_0 (i : Nat) : bt 0 i = false := BitVec.getLsbD_zero
theorem s_l : ∀ n, n < 32 → ((nI n &&& 31).toBitVec.smod 32).toNat = n := by decide +kernel
theorem s_u : ∀ n, n < 32 → (((nI n).toUInt32 &&& Int32.toUInt32 31).toBitVec % 32).toNat = n := by decide +kernel
theorem b_shl (n : Nat) (hn : n < 32) (x : Int32) {i : Nat} (hi : i < 32) : bt (x <<< (nI n &&& 31)) i = (decide (n ≤ i) && bt x (i - n)) := by
  unfold bt
  rw [Int32.toBitVec_shiftLeft]
  show (x.toBitVec <<< ((nI n &&& 31).toBitVec.smod 32).toNat).getLsbD i = _
  rw [s_l n hn, BitVec.getLsbD_shiftLeft]
  rcases Nat.lt_or_ge i n with h | h
  · simp [h, Nat.not_le.mpr h]
  · simp [hi, h, Nat.not_lt.mpr h]
theorem b_ushr (n : Nat) (hn : n < 32) (x : Int32) (i : Nat) : bt ((x.toUInt32 >>> ((nI n).toUInt32 &&& Int32.toUInt32 31)).toInt32) i = bt x (n + i) := by
  show (x.toUInt32 >>> ((nI n).toUInt32 &&& Int32.toUInt32 31)).toBitVec.getLsbD i = x.toUInt32.toBitVec.getLsbD (n + i)
  rw [UInt32.toBitVec_shiftRight]
  show (x.toUInt32.toBitVec >>> (((nI n).toUInt32 &&& Int32.toUInt32 31).toBitVec % 32).toNat).getLsbD i = _
  rw [s_u n hn, BitVec.getLsbD_ushiftRight]
theorem b_sshr (n : Nat) (hn : n < 32) (x : Int32) {i : Nat} (hi : i < 32) : bt (x >>> (nI n &&& 31)) i = if n + i < 32 then bt x (n + i) else bt x 31 := by
  unfold bt
  rw [Int32.toBitVec_shiftRight]
  show (x.toBitVec.sshiftRight ((nI n &&& 31).toBitVec.smod 32).toNat).getLsbD i = _
  rw [s_l n hn, BitVec.getLsbD_sshiftRight, BitVec.msb_eq_getLsbD_last]
  simp [hi]
theorem b_shl8 (x : Int32) {i : Nat} (hi : i < 32) : bt (x <<< ((8 : Int32) &&& 31)) i = (decide (8 ≤ i) && bt x (i - 8)) := b_shl 8 (by omega) x hi
theorem b_shl16 (x : Int32) {i : Nat} (hi : i < 32) : bt (x <<< ((16 : Int32) &&& 31)) i = (decide (16 ≤ i) && bt x (i - 16)) := b_shl 16 (by omega) x hi
theorem b_shl24 (x : Int32) {i : Nat} (hi : i < 32) : bt (x <<< ((24 : Int32) &&& 31)) i = (decide (24 ≤ i) && bt x (i - 24)) := b_shl 24 (by omega) x hi
theorem b_sshr8 (x : Int32) {i : Nat} (hi : i < 32) : bt (x >>> ((8 : Int32) &&& 31)) i = if 8 + i < 32 then bt x (8 + i) else bt x 31 := b_sshr 8 (by omega) x hi
/-! ===== nI under and, xor, >>>, one bit, 65535 ===== -/
theorem nx_and (a b : Nat) : nI a &&& nI b = nI (a &&& b) := by
  apply Int32.toBitVec_inj.1
  show BitVec.ofNat 32 a &&& BitVec.ofNat 32 b = BitVec.ofNat 32 (a &&& b)
  apply BitVec.eq_of_getLsbD_eq
  intro i hi
  simp [hi]
theorem nx_xor (a b : Nat) : nI a ^^^ nI b = nI (a ^^^ b) := by
  apply Int32.toBitVec_inj.1
  show BitVec.ofNat 32 a ^^^ BitVec.ofNat 32 b = BitVec.ofNat 32 (a ^^^ b)
  apply BitVec.eq_of_getLsbD_eq
  intro i hi
  simp [hi]
theorem nx_cnt : ∀ j : Fin 32, (UInt32.ofNat j.val &&& Int32.toUInt32 31).toNat % 32 = j.val := by decide +kernel
theorem nx_ush {k j : Nat} (hk : k < 65536) (hj : j < 32) : ((nI k).toUInt32 >>> ((nI j).toUInt32 &&& Int32.toUInt32 31)).toInt32 = nI (k >>> j) := by
  have hs : k >>> j ≤ k := by
    rw [Nat.shiftRight_eq_div_pow]
    exact Nat.div_le_self _ _
  have e2 : UInt32.ofNat k >>> (UInt32.ofNat j &&& Int32.toUInt32 31) = UInt32.ofNat (k >>> j) := by
    apply UInt32.toNat_inj.1
    have h1 : (UInt32.ofNat k).toNat = k := Nat.mod_eq_of_lt (by omega)
    have h2 : (UInt32.ofNat (k >>> j)).toNat = k >>> j := Nat.mod_eq_of_lt (by omega)
    rw [UInt32.toNat_shiftRight, nx_cnt ⟨j, hj⟩, h1, h2]
  show (UInt32.ofNat k >>> (UInt32.ofNat j &&& Int32.toUInt32 31)).toInt32 = _
  rw [e2]
  rfl
theorem nx_bit {k j : Nat} (hk : k < 65536) (hj : j < 16) : (((nI k).toUInt32 >>> ((nI j).toUInt32 &&& Int32.toUInt32 31)).toInt32 &&& 1) = 0 ↔ k.testBit j = false := by
  rw [nx_ush hk (by omega)]
  show nI (k >>> j) &&& nI 1 = 0 ↔ _
  rw [nx_and, Nat.and_one_is_mod, ← nI_0, nI_eq (by omega) (by omega), Nat.testBit_eq_decide_div_mod_eq, Nat.shiftRight_eq_div_pow, decide_eq_false_iff_not]
  generalize k / 2 ^ j = z
  omega
theorem nx_mod (k : Nat) : nI k &&& 65535 = nI (k % 65536) := by
  show nI k &&& nI 65535 = _
  rw [nx_and, show (65535 : Nat) = 2 ^ 16 - 1 from rfl, Nat.and_two_pow_sub_one_eq_mod]
theorem nx_m16 {k : Nat} (h : k < 65536) : nI k &&& 65535 = nI k := by rw [nx_mod, Nat.mod_eq_of_lt h]
theorem nx_mask (x : Int32) : ∃ k, k < 65536 ∧ x &&& 65535 = nI k := by
  have e : x = nI x.toBitVec.toNat := by
    apply Int32.toBitVec_inj.1
    show x.toBitVec = BitVec.ofNat 32 x.toBitVec.toNat
    simp
  refine ⟨x.toBitVec.toNat % 65536, Nat.mod_lt _ (by omega), ?_⟩
  rw [← nx_mod, ← e]
end
section
/-! ===== bits and tokens, both sides' small loops ===== -/
theorem zb_1bit : ∀ i, i < 32 → bt 1 i = decide (i = 0) := by decide +kernel
theorem zb_and1 (x : Int32) {c : Nat} (hc : c < 32) : (x >>> (nI c &&& 31)) &&& 1 = if bt x c = true then 1 else 0 := by
  apply b_ext
  intro i hi
  rw [b_and, b_sshr c hc x hi, zb_1bit i hi]
  by_cases h0 : i = 0
  · subst h0
    rw [if_pos (by omega : c + 0 < 32), Nat.add_zero]
    cases hb : bt x c
    · rw [if_neg (by decide)]; rw [b_0]; rfl
    · rw [if_pos rfl]; rw [zb_1bit 0 (by omega)]; rfl
  · rw [decide_eq_false h0, Bool.and_false]
    cases hb : bt x c
    · rw [if_neg (by decide), b_0]
    · rw [if_pos rfl, zb_1bit i hi, decide_eq_false h0]
theorem zb_t0 (x : Int32) {c : Nat} (hc : c < 32) : ((x >>> (nI c &&& 31)) &&& 1) = 0 ↔ bt x c = false := by
  rw [zb_and1 x hc]
  cases hb : bt x c
  · rw [if_neg (by decide)]; exact ⟨fun _ => rfl, fun _ => rfl⟩
  · rw [if_pos rfl]; exact ⟨fun z => absurd z (by decide), fun z => absurd z (by decide)⟩
theorem zb_t1 (x : Int32) {c : Nat} (hc : c < 32) : ((x >>> (nI c &&& 31)) &&& 1) = 1 ↔ bt x c = true := by
  rw [zb_and1 x hc]
  cases hb : bt x c
  · rw [if_neg (by decide)]; exact ⟨fun z => absurd z (by decide), fun z => absurd z (by decide)⟩
  · rw [if_pos rfl]; exact ⟨fun _ => rfl, fun _ => rfl⟩
theorem zb_shl1 {c i : Nat} (hc : c < 32) (hi : i < 32) : bt ((1 : Int32) <<< (nI c &&& 31)) i = decide (i = c) := by
  rw [b_shl c hc 1 hi]
  by_cases h : c ≤ i
  · rw [zb_1bit (i - c) (by omega), decide_eq_true h, Bool.true_and]
    by_cases h2 : i = c
    · rw [decide_eq_true h2, decide_eq_true (by omega)]
    · rw [decide_eq_false h2, decide_eq_false (by omega)]
  · rw [decide_eq_false h, Bool.false_and, decide_eq_false (by omega)]
theorem zb_not (x : Int32) {i : Nat} (hi : i < 32) : bt (x ^^^ (-1)) i = !(bt x i) := by
  rw [b_xor, b_m1 i hi]; cases bt x i <;> rfl
theorem zb_nI (m : Nat) {i : Nat} (hi : i < 32) : bt (nI m) i = m.testBit i := by
  show (BitVec.ofNat 32 m).getLsbD i = m.testBit i
  rw [BitVec.getLsbD_ofNat]; simp [hi]
theorem zb_pow {c : Nat} (hc : c < 31) : (1 : Int32) <<< (nI c &&& 31) = nI (2 ^ c) := by
  apply b_ext
  intro i hi
  rw [zb_shl1 (by omega) hi, zb_nI _ hi, Nat.testBit_two_pow]
  by_cases h : i = c
  · rw [decide_eq_true h, decide_eq_true h.symm]
  · rw [decide_eq_false h, decide_eq_false (fun z => h z.symm)]
/-- a set of bits below k is a number below 2 ^ k -/
theorem zb_mask {x : Int32} {k : Nat} (hk : k ≤ 30) (h : ∀ i, k ≤ i → bt x i = false) : ∃ m, m < 2 ^ k ∧ x = nI m := by
  refine ⟨x.toBitVec.toNat, ?_, ?_⟩
  · apply Nat.lt_pow_two_of_testBit
    intro i hi
    have := h i hi
    unfold bt at this
    exact this
  · apply Int32.toBitVec_inj.1
    show x.toBitVec = BitVec.ofNat 32 x.toBitVec.toNat
    simp
/-- token k of a content -/
def zp_nb (x : Int32) (k : Nat) : Int32 := (x >>> (nI (4 * k) &&& 31)) &&& 15
def zp_tk (o x y : Int32) : Int32 := if x = y then x else if x = o then y else if y = o then x else 15
theorem zp_tk_sym (o x y : Int32) : zp_tk o x y = zp_tk o y x := by
  unfold zp_tk
  by_cases h1 : x = y
  · subst h1; rfl
  · rw [if_neg h1, if_neg (fun z : y = x => h1 z.symm)]
    by_cases h2 : x = o
    · rw [if_pos h2]
      by_cases h3 : y = o
      · exact absurd (h2.trans h3.symm) h1
      · rw [if_neg h3, if_pos h2]
    · rw [if_neg h2]
      by_cases h3 : y = o
      · rw [if_pos h3, if_pos h3]
      · rw [if_neg h3, if_neg h3, if_neg h2]
def zp_mx (o x y : Int32) : Nat → Nat → Int32 → Int32
  | 0, _, acc => acc
  | n + 1, k, acc => zp_mx o x y n (k + 1) (acc ||| (zp_tk (zp_nb o k) (zp_nb x k) (zp_nb y k) <<< (nI (4 * k) &&& 31)))
theorem zp_mx_sym (o x y : Int32) : ∀ n k acc, zp_mx o x y n k acc = zp_mx o y x n k acc := by
  intro n
  induction n with
  | zero => intro k acc; rfl
  | succ n ih =>
    intro k acc
    show zp_mx o x y n (k + 1) _ = zp_mx o y x n (k + 1) _
    rw [ih, zp_tk_sym]
def zp_mix (o x y : Int32) : Int32 := zp_mx o x y 4 0 0
theorem zp_mix_sym (o x y : Int32) : zp_mix o x y = zp_mix o y x := zp_mx_sym o x y 4 0 0
def zp_tr (o x y : Int32) : Nat → Nat → Int32
  | 0, _ => 0
  | n + 1, k => if zp_nb x k = zp_nb y k then zp_tr o x y n (k + 1) else if zp_nb x k = zp_nb o k then zp_tr o x y n (k + 1) else if zp_nb y k = zp_nb o k then zp_tr o x y n (k + 1) else 1
def zp_torn (o x y : Int32) : Int32 := zp_tr o x y 4 0
theorem zp_tr_sym (o x y : Int32) : ∀ n k, zp_tr o x y n k = zp_tr o y x n k := by
  intro n
  induction n with
  | zero => intro k; rfl
  | succ n ih =>
    intro k
    show (if zp_nb x k = zp_nb y k then zp_tr o x y n (k + 1) else if zp_nb x k = zp_nb o k then zp_tr o x y n (k + 1) else if zp_nb y k = zp_nb o k then zp_tr o x y n (k + 1) else 1) = (if zp_nb y k = zp_nb x k then zp_tr o y x n (k + 1) else if zp_nb y k = zp_nb o k then zp_tr o y x n (k + 1) else if zp_nb x k = zp_nb o k then zp_tr o y x n (k + 1) else 1)
    rw [ih]
    by_cases h1 : zp_nb x k = zp_nb y k
    · rw [if_pos h1, if_pos h1.symm]
    · rw [if_neg h1, if_neg (fun z : zp_nb y k = zp_nb x k => h1 z.symm)]
      by_cases h2 : zp_nb x k = zp_nb o k
      · rw [if_pos h2]
        by_cases h3 : zp_nb y k = zp_nb o k
        · rw [if_pos h3]
        · rw [if_neg h3, if_pos h2]
      · rw [if_neg h2, if_neg h2]
theorem zp_torn_sym (o x y : Int32) : zp_torn o x y = zp_torn o y x := zp_tr_sym o x y 4 0
theorem zp_tr_01 (o x y : Int32) : ∀ n k, zp_tr o x y n k = 0 ∨ zp_tr o x y n k = 1 := by
  intro n
  induction n with
  | zero => intro k; exact Or.inl rfl
  | succ n ih =>
    intro k
    show (if zp_nb x k = zp_nb y k then zp_tr o x y n (k + 1) else if zp_nb x k = zp_nb o k then zp_tr o x y n (k + 1) else if zp_nb y k = zp_nb o k then zp_tr o x y n (k + 1) else 1) = 0 ∨ (if zp_nb x k = zp_nb y k then zp_tr o x y n (k + 1) else if zp_nb x k = zp_nb o k then zp_tr o x y n (k + 1) else if zp_nb y k = zp_nb o k then zp_tr o x y n (k + 1) else 1) = 1
    by_cases h1 : zp_nb x k = zp_nb y k
    · rw [if_pos h1]; exact ih _
    · rw [if_neg h1]
      by_cases h2 : zp_nb x k = zp_nb o k
      · rw [if_pos h2]; exact ih _
      · rw [if_neg h2]
        by_cases h3 : zp_nb y k = zp_nb o k
        · rw [if_pos h3]; exact ih _
        · rw [if_neg h3]; exact Or.inr rfl
def zp_lr (x y : Int32) : Nat → Nat → Nat → Nat
  | 0, _, acc => acc
  | n + 1, k, acc => if zp_nb x k = zp_nb y k then zp_lr x y n (k + 1) (acc + 1) else zp_lr x y n (k + 1) acc
def zp_lk (x y : Int32) : Nat := zp_lr x y 4 0 0
theorem zp_lr_le (x y : Int32) : ∀ n k acc, zp_lr x y n k acc ≤ acc + n := by
  intro n
  induction n with
  | zero => intro k acc; exact Nat.le_refl _
  | succ n ih =>
    intro k acc
    show (if zp_nb x k = zp_nb y k then zp_lr x y n (k + 1) (acc + 1) else zp_lr x y n (k + 1) acc) ≤ _
    have h1 := ih (k + 1) (acc + 1)
    have h2 := ih (k + 1) acc
    by_cases h : zp_nb x k = zp_nb y k
    · rw [if_pos h]; omega
    · rw [if_neg h]; omega
theorem zp_lk_le (x y : Int32) : zp_lk x y ≤ 4 := by have := zp_lr_le x y 4 0 0; unfold zp_lk; omega
theorem zp_xor0 (x y : Int32) {k : Nat} (hk : k < 8) : (((x ^^^ y) >>> (nI (4 * k) &&& 31)) &&& 15) = 0 ↔ zp_nb x k = zp_nb y k := by
  have e : ((x ^^^ y) >>> (nI (4 * k) &&& 31)) &&& 15 = zp_nb x k ^^^ zp_nb y k := by
    unfold zp_nb
    apply b_ext
    intro i hi
    rw [b_and, b_xor, b_and, b_and, b_sshr _ (by omega) _ hi, b_sshr _ (by omega) _ hi, b_sshr _ (by omega) _ hi, b_xor, b_xor]
    by_cases h : 4 * k + i < 32
    · rw [if_pos h, if_pos h, if_pos h]
      cases bt x (4 * k + i) <;> cases bt y (4 * k + i) <;> cases bt 15 i <;> rfl
    · rw [if_neg h, if_neg h, if_neg h]
      cases bt x 31 <;> cases bt y 31 <;> cases bt 15 i <;> rfl
  rw [e]
  constructor
  · intro h
    apply b_ext
    intro i _
    have h2 : bt (zp_nb x k ^^^ zp_nb y k) i = bt 0 i := congrArg (fun z => bt z i) h
    rw [b_xor, b_0] at h2
    revert h2
    cases bt (zp_nb x k) i <;> cases bt (zp_nb y k) i <;> simp
  · intro h
    rw [h]
    apply b_ext
    intro i _
    rw [b_xor, b_0]
    cases bt (zp_nb y k) i <;> rfl
/-- all tokens plain: 1, else 0 -/
def zp_pl (w : Int32) : Nat → Nat → Int32
  | 0, _ => 1
  | n + 1, k => if zp_nb w k = 0 then 0 else if zp_nb w k = 15 then 0 else zp_pl w n (k + 1)
theorem zp_pl_01 (w : Int32) : ∀ n k, zp_pl w n k = 0 ∨ zp_pl w n k = 1 := by
  intro n
  induction n with
  | zero => intro k; exact Or.inr rfl
  | succ n ih =>
    intro k
    show (if zp_nb w k = 0 then 0 else if zp_nb w k = 15 then 0 else zp_pl w n (k + 1)) = 0 ∨ (if zp_nb w k = 0 then 0 else if zp_nb w k = 15 then 0 else zp_pl w n (k + 1)) = 1
    by_cases h1 : zp_nb w k = 0
    · rw [if_pos h1]; exact Or.inl rfl
    · rw [if_neg h1]
      by_cases h2 : zp_nb w k = 15
      · rw [if_pos h2]; exact Or.inl rfl
      · rw [if_neg h2]; exact ih _
/-- how many of n flags from q on are set -/
def zp_cnt (f : Nat → Int32) : Nat → Nat → Nat → Nat
  | 0, _, acc => acc
  | n + 1, q, acc => zp_cnt f n (q + 1) (if f q = 0 then acc else acc + 1)
theorem zp_cnt_z (f : Nat → Int32) : ∀ n q acc, (∀ j, q ≤ j → j < q + n → f j = 0) → zp_cnt f n q acc = acc := by
  intro n
  induction n with
  | zero => intro q acc h; rfl
  | succ n ih =>
    intro q acc h
    show zp_cnt f n (q + 1) (if f q = 0 then acc else acc + 1) = acc
    rw [if_pos (h q (by omega) (by omega)), ih (q + 1) acc (fun j h1 h2 => h j (by omega) (by omega))]
theorem zp_cnt_eq (f g : Nat → Int32) (d : Nat) : ∀ n q acc, (∀ j, q ≤ j → j < q + n → f j = g j) → (∀ j, q + n ≤ j → j < q + n + d → g j = 0) → zp_cnt f n q acc = zp_cnt g (n + d) q acc := by
  intro n
  induction n with
  | zero =>
    intro q acc _ h
    rw [Nat.zero_add, zp_cnt_z g d q acc (fun j h1 h2 => h j (by omega) (by omega))]; rfl
  | succ n ih =>
    intro q acc h1 h2
    have e : n + 1 + d = (n + d) + 1 := by omega
    rw [e]
    show zp_cnt f n (q + 1) (if f q = 0 then acc else acc + 1) = zp_cnt g (n + d) (q + 1) (if g q = 0 then acc else acc + 1)
    rw [h1 q (by omega) (by omega)]
    exact ih (q + 1) _ (fun j a b => h1 j (by omega) (by omega)) (fun j a b => h2 j (by omega) (by omega))
/-- n stage rows from r on cleared at q -/
def zp_clr (q : Nat) : (Nat → Int32) → Nat → Nat → Nat → Int32
  | wk, 0, _ => wk
  | wk, n + 1, r => zp_clr q (upd wk (r * 8 + q) 0) n (r + 1)
end
section
/-! ===== X: the small methods ===== -/
section
variable {cp : Int32} {P T N : Nat} {pr an tr kn wn wk wf lb lw ta we ca ou og ar ag : Nat → Int32}
theorem zx_goodPath {post : Int32 → Prop} (p0 : Int32) (hP : P < 2 ^ 31) (h0 : (p0 < 0 ∨ nI P ≤ p0) → post 0) (h1 : ∀ p, p < P → p0 = nI p → post 1) : wpX_goodPath post (cp, nI P, nI T, nI N, pr, an, tr, kn, wn, wk, wf, lb, lw, ta, we, ca, ou, og, ar, ag) p0 := by
  refine br_c (fun h => h0 (Or.inl h)) (fun h => br_c (fun h2 => h0 (Or.inr h2)) (fun h2 => ?_))
  obtain ⟨j, hj, rfl⟩ := nI_of h
  rw [nI_leI hP hj] at h2
  exact h1 j (by omega) rfl
theorem zx_madeCommit {post : Int32 → Prop} (p0 : Int32) (hN : N < 2 ^ 31) (h0 : (p0 < 0 ∨ nI N ≤ p0) → post 0) (h1 : ∀ p, p < N → p0 = nI p → post 1) : wpX_madeCommit post (cp, nI P, nI T, nI N, pr, an, tr, kn, wn, wk, wf, lb, lw, ta, we, ca, ou, og, ar, ag) p0 := by
  refine br_c (fun h => h0 (Or.inl h)) (fun h => br_c (fun h2 => h0 (Or.inr h2)) (fun h2 => ?_))
  obtain ⟨j, hj, rfl⟩ := nI_of h
  rw [nI_leI hN hj] at h2
  exact h1 j (by omega) rfl
theorem zx_setPending {post : SX → Prop} (a b : Int32) (hN : N ≤ 8) (h : post (cp, nI P, nI T, nI N, upd (upd pr (N * 2) a) (N * 2 + 1) b, an, tr, kn, wn, wk, wf, lb, lw, ta, we, ca, ou, og, ar, ag)) : wpX_setPending post (cp, nI P, nI T, nI N, pr, an, tr, kn, wn, wk, wf, lb, lw, ta, we, ca, ou, og, ar, ag) a b := by
  have e1 : nI N * 2 = nI (N * 2) := pk_mul N 2
  have e2 : nI N * 2 + 1 = nI (N * 2 + 1) := by rw [e1, nI_1]
  refine ⟨?_, nm_r (e' := upd pr (N * 2) a) ?_ ⟨?_, nm_r (e' := upd (upd pr (N * 2) a) (N * 2 + 1) b) ?_ h⟩⟩
  · rw [e1]; exact vp_in_nI (by omega) (by omega)
  · rw [e1, nI_clamp (by omega)]
  · rw [e2]; exact vp_in_nI (by omega) (by omega)
  · rw [e2, nI_clamp (by omega)]
theorem zx_clash {post : Int32 → Prop} (o x y : Int32) (h0 : (x = y ∨ x = o ∨ y = o) → post 0) (h1 : ¬ x = y → ¬ x = o → ¬ y = o → post 1) : wpX_clash post (cp, nI P, nI T, nI N, pr, an, tr, kn, wn, wk, wf, lb, lw, ta, we, ca, ou, og, ar, ag) o x y :=
  br_c (fun e => h0 (Or.inl e)) (fun n1 => br_c (fun e => h0 (Or.inr (Or.inl e))) (fun n2 => br_c (fun e => h0 (Or.inr (Or.inr e))) (fun n3 => h1 n1 n2 n3)))
theorem zx_mixToken {post : Int32 → Prop} (o x y : Int32) (h : post (zp_tk o x y)) : wpX_mixToken post (cp, nI P, nI T, nI N, pr, an, tr, kn, wn, wk, wf, lb, lw, ta, we, ca, ou, og, ar, ag) o x y := by
  unfold zp_tk at h
  unfold wpX_mixToken
  refine zx_clash o x y ?_ ?_
  · refine fun e => br_t rfl ?_
    refine br_c (fun e2 => ?_) (fun n2 => ?_)
    · by_cases h1 : x = y
      · rw [if_pos h1] at h; rw [← h1]; exact h
      · rw [if_neg h1, if_pos e2] at h; exact h
    · by_cases h1 : x = y
      · rw [if_pos h1] at h; exact h
      · rcases e with e | e | e
        · exact absurd e h1
        · exact absurd e n2
        · rw [if_neg h1, if_neg n2, if_pos e] at h; exact h
  · intro n1 n2 n3
    refine br_f (by decide) ?_
    rw [if_neg n1, if_neg n2, if_neg n3] at h; exact h
theorem zx_mix6 {post : Int32 → Prop} (o x y : Int32) : ∀ n k acc, k + n = 4 → post (zp_mx o x y n k acc) → wX_mix_6 post o x y cp (nI P) (nI T) (nI N) pr an tr kn wn wk wf lb lw ta we ca ou og ar ag (n + 1) acc (nI (4 * k)) := by
  intro n
  induction n with
  | zero =>
    intro k acc hk h
    exact br_t (nI_le (a := 16) (by omega) (by omega)) h
  | succ n ih =>
    intro k acc hk h
    refine br_f (nI_ge (b := 16) (by omega) (by omega)) (zx_mixToken _ _ _ (nm_e (nm_r (nI_add (4 * k) 4) ?_)))
    exact ih (k + 1) _ (by omega) h
theorem zx_mix {post : Int32 → Prop} (o x y : Int32) (h : post (zp_mix o x y)) : wpX_mix post (cp, nI P, nI T, nI N, pr, an, tr, kn, wn, wk, wf, lb, lw, ta, we, ca, ou, og, ar, ag) o x y := ⟨5, zx_mix6 o x y 4 0 0 rfl h⟩
theorem zx_torn3 {post : Int32 → Prop} (o x y : Int32) : ∀ n k, k + n = 4 → post (zp_tr o x y n k) → wX_torn_3 post o x y cp (nI P) (nI T) (nI N) pr an tr kn wn wk wf lb lw ta we ca ou og ar ag (n + 1) (nI (4 * k)) := by
  intro n
  induction n with
  | zero =>
    intro k hk h
    exact br_t (nI_le (a := 16) (by omega) (by omega)) h
  | succ n ih =>
    intro k hk h
    have h' : post (if zp_nb x k = zp_nb y k then zp_tr o x y n (k + 1) else if zp_nb x k = zp_nb o k then zp_tr o x y n (k + 1) else if zp_nb y k = zp_nb o k then zp_tr o x y n (k + 1) else 1) := h
    refine br_f (nI_ge (b := 16) (by omega) (by omega)) (zx_clash _ _ _ (fun e => br_t rfl (nm_r (nI_add (4 * k) 4) (ih (k + 1) (by omega) ?_))) (fun n1 n2 n3 => br_f (by decide) ?_))
    · by_cases h1 : zp_nb x k = zp_nb y k
      · rw [if_pos h1] at h'; exact h'
      · rw [if_neg h1] at h'
        by_cases h2 : zp_nb x k = zp_nb o k
        · rw [if_pos h2] at h'; exact h'
        · rw [if_neg h2] at h'
          rcases e with e | e | e
          · exact absurd e h1
          · exact absurd e h2
          · have e3 : zp_nb y k = zp_nb o k := e
            rw [if_pos e3] at h'; exact h'
    · have n1' : ¬ zp_nb x k = zp_nb y k := n1
      have n2' : ¬ zp_nb x k = zp_nb o k := n2
      have n3' : ¬ zp_nb y k = zp_nb o k := n3
      rw [if_neg n1', if_neg n2', if_neg n3'] at h'; exact h'
theorem zx_torn {post : Int32 → Prop} (o x y : Int32) (h : post (zp_torn o x y)) : wpX_torn post (cp, nI P, nI T, nI N, pr, an, tr, kn, wn, wk, wf, lb, lw, ta, we, ca, ou, og, ar, ag) o x y := ⟨5, zx_torn3 o x y 4 0 rfl h⟩
theorem zx_plain2 {post : Int32 → Prop} (w : Int32) : ∀ n k, k + n = 4 → post (zp_pl w n k) → wX_plainContent_2 post w cp (nI P) (nI T) (nI N) pr an tr kn wn wk wf lb lw ta we ca ou og ar ag (n + 1) (nI (4 * k)) := by
  intro n
  induction n with
  | zero =>
    intro k hk h
    exact br_t (nI_le (a := 16) (by omega) (by omega)) h
  | succ n ih =>
    intro k hk h
    have h' : post (if zp_nb w k = 0 then 0 else if zp_nb w k = 15 then 0 else zp_pl w n (k + 1)) := h
    refine br_f (nI_ge (b := 16) (by omega) (by omega)) (nm_r (e' := zp_nb w k) rfl (br_c (fun e => ?_) (fun n1 => br_c (fun e => ?_) (fun n2 => nm_r (nI_add (4 * k) 4) (ih (k + 1) (by omega) ?_)))))
    · rw [if_pos e] at h'; exact h'
    · rw [if_neg n1, if_pos e] at h'; exact h'
    · rw [if_neg n1, if_neg n2] at h'; exact h'
theorem zx_plain {post : Int32 → Prop} (w : Int32) (h : post (zp_pl w 4 0)) : wpX_plainContent post (cp, nI P, nI T, nI N, pr, an, tr, kn, wn, wk, wf, lb, lw, ta, we, ca, ou, og, ar, ag) w := ⟨5, zx_plain2 w 4 0 rfl h⟩
theorem zx_at {post : Int32 → Prop} {i r p : Nat} (hi : i < 3) (hta : ta i = nI (r * 8)) (hr : r < 256) (hp : p < 8) (h : post (tr (r * 8 + p))) : wpX_at post (cp, nI P, nI T, nI N, pr, an, tr, kn, wn, wk, wf, lb, lw, ta, we, ca, ou, og, ar, ag) (nI i) (nI p) := by
  have e0 : (nI i).toNatClampNeg = i := nI_clamp (by omega)
  have e1 : ta (nI i).toNatClampNeg + nI p = nI (r * 8 + p) := by rw [e0, hta, nI_add]
  refine ⟨vp_in_nI hi (by omega), ?_, ?_⟩
  · rw [e1]; exact vp_in_nI (by omega) (by omega)
  · rw [e1, nI_clamp (by omega)]; exact h
theorem zx_like21 {post : Int32 → Prop} (x y : Int32) : ∀ n k acc, k + n = 4 → post (nI (zp_lr x y n k acc)) → wX_likeness_21 post (x ^^^ y) cp (nI P) (nI T) (nI N) pr an tr kn wn wk wf lb lw ta we ca ou og ar ag (n + 1) (nI acc) (nI (4 * k)) := by
  intro n
  induction n with
  | zero =>
    intro k acc hk h
    exact br_t (nI_le (a := 16) (by omega) (by omega)) h
  | succ n ih =>
    intro k acc hk h
    have h' : post (nI (if zp_nb x k = zp_nb y k then zp_lr x y n (k + 1) (acc + 1) else zp_lr x y n (k + 1) acc)) := h
    refine br_f (nI_ge (b := 16) (by omega) (by omega)) (br_c (fun e => ?_) (fun e => ?_))
    · rw [zp_xor0 x y (by omega)] at e
      rw [if_pos e] at h'
      exact nm_r (nI_1 acc) (nm_r (nI_add (4 * k) 4) (ih (k + 1) (acc + 1) (by omega) h'))
    · rw [zp_xor0 x y (by omega)] at e
      rw [if_neg e] at h'
      exact nm_r (nI_add (4 * k) 4) (ih (k + 1) acc (by omega) h')
theorem zx_likeness {post : Int32 → Prop} {s r r' p q : Nat} (hs : s < 3) (h0 : ta 0 = nI (r * 8)) (hr : r < 256) (h1 : ta s = nI (r' * 8)) (hr' : r' < 256) (hp : p < 8) (hq : q < 8) (h : post (nI (zp_lk (tr (r * 8 + p)) (tr (r' * 8 + q))))) : wpX_likeness post (cp, nI P, nI T, nI N, pr, an, tr, kn, wn, wk, wf, lb, lw, ta, we, ca, ou, og, ar, ag) (nI s) (nI p) (nI q) := by
  unfold wpX_likeness
  refine zx_at (i := 0) (by omega) h0 hr hp ?_
  refine zx_at hs h1 hr' hq ?_
  refine nm_e ⟨5, ?_⟩
  exact zx_like21 _ _ 4 0 0 rfl h
theorem zx_conf4 {post : Int32 → Prop} (hP : P ≤ 8) : ∀ n q acc, q + n = P → post (nI (zp_cnt wf n q acc)) → wX_conflicts_4 post cp (nI P) (nI T) (nI N) pr an tr kn wn wk wf lb lw ta we ca ou og ar ag (n + 1) (nI acc) (nI q) := by
  intro n
  induction n with
  | zero =>
    intro q acc hq h
    exact br_t (nI_le (by omega) (by omega)) h
  | succ n ih =>
    intro q acc hq h
    have e0 : (nI q).toNatClampNeg = q := nI_clamp (by omega)
    have h' : post (nI (zp_cnt wf n (q + 1) (if wf q = 0 then acc else acc + 1))) := h
    refine br_f (nI_ge (by omega) (by omega)) ⟨vp_in_nI (by omega) (by omega), br_c (fun e => ?_) (fun e => ?_)⟩
    · rw [e0] at e
      rw [if_pos e] at h'
      exact nm_r (nI_1 q) (ih (q + 1) acc (by omega) h')
    · rw [e0] at e
      rw [if_neg e] at h'
      exact nm_r (nI_1 acc) (nm_r (nI_1 q) (ih (q + 1) (acc + 1) (by omega) h'))
theorem zx_conflicts {post : Int32 → Prop} (hP : P ≤ 8) (h : post (nI (zp_cnt wf P 0 0))) : wpX_conflicts post (cp, nI P, nI T, nI N, pr, an, tr, kn, wn, wk, wf, lb, lw, ta, we, ca, ou, og, ar, ag) := ⟨P + 1, zx_conf4 hP P 0 0 (by omega) h⟩
theorem zx_clear9 {post : SX → Prop} {q : Nat} (hq : q < 8) : ∀ n r, r + n = 4 → ∀ wk : Nat → Int32, (∀ wk', (∀ j, wk' j = zp_clr q wk n r j) → post (cp, nI P, nI T, nI N, pr, an, tr, kn, wn, wk', wf, lb, lw, ta, we, ca, ou, og, ar, ag)) → wX_clearConflict_9 post (nI q) cp (nI P) (nI T) (nI N) (n + 1) (nI r) pr an tr kn wn wk wf lb lw ta we ca ou og ar ag := by
  intro n
  induction n with
  | zero =>
    intro r hr wk h
    exact br_t (nI_lt (a := 3) (by omega) (by omega)) (h wk (fun j => rfl))
  | succ n ih =>
    intro r hr wk h
    have e1 : nI r * 8 + nI q = nI (r * 8 + q) := by rw [← nI_add, ← pk_mul]; rfl
    refine br_f (nI_nlt (b := r) (a := 3) (by omega) (by omega)) ⟨?_, nm_r (e' := upd wk (r * 8 + q) 0) ?_ (nm_r (nI_1 r) ?_)⟩
    · rw [e1]; exact vp_in_nI (by omega) (by omega)
    · rw [e1, nI_clamp (by omega)]
    · refine ih (r + 1) (by omega) _ (fun wk' hw => h wk' (fun j => ?_))
      rw [hw j]; rfl
/-- row q of the stages, and the flag, cleared -/
theorem zx_clearConflict {post : SX → Prop} {q : Nat} (hq : q < 8) (h : ∀ wk', (wk' (8 + q) = 0 ∧ wk' (16 + q) = 0 ∧ wk' (24 + q) = 0 ∧ ∀ j, j ≠ 8 + q → j ≠ 16 + q → j ≠ 24 + q → wk' j = wk j) → post (cp, nI P, nI T, nI N, pr, an, tr, kn, wn, wk', upd wf q 0, lb, lw, ta, we, ca, ou, og, ar, ag)) : wpX_clearConflict post (cp, nI P, nI T, nI N, pr, an, tr, kn, wn, wk, wf, lb, lw, ta, we, ca, ou, og, ar, ag) (nI q) := by
  refine ⟨vp_in_nI hq (by omega), nm_r (e' := upd wf q 0) ?_ ⟨4, ?_⟩⟩
  · rw [nI_clamp (by omega)]
  · refine zx_clear9 hq 3 1 rfl wk (fun wk' hw0 => ?_)
    have hw : ∀ j, wk' j = upd (upd (upd wk (8 + q) 0) (16 + q) 0) (24 + q) 0 j := hw0
    refine h wk' ⟨?_, ?_, ?_, ?_⟩
    · rw [hw, pk_un (by omega), pk_un (by omega), pk_us]
    · rw [hw, pk_un (by omega), pk_us]
    · rw [hw, pk_us]
    · intro j h1 h2 h3
      rw [hw, pk_un (by omega), pk_un (by omega), pk_un (by omega)]
/-- what setOut, set write -/
def zz_st (f s : Int32) : Int32 := if f = 0 then 0 else s
def zx_So (q : Nat) (m f s1 s2 s3 : Int32) (ou og ou' og' : Nat → Int32) : Prop :=
  ou' q = m ∧ ou' (8 + q) = zz_st f s1 ∧ ou' (16 + q) = zz_st f s2 ∧ ou' (24 + q) = zz_st f s3 ∧ og' q = f ∧
  (∀ j, j ≠ q → j ≠ 8 + q → j ≠ 16 + q → j ≠ 24 + q → ou' j = ou j) ∧ (∀ j, j ≠ q → og' j = og j)
theorem zx_So_mk {q : Nat} {m f s1 s2 s3 a b c : Int32} {ou og : Nat → Int32} (hq : q < 8) (ha : a = zz_st f s1) (hb : b = zz_st f s2) (hc : c = zz_st f s3) : zx_So q m f s1 s2 s3 ou og (upd (upd (upd (upd ou q m) (8 + q) a) (16 + q) b) (24 + q) c) (upd og q f) := by
  refine ⟨?_, ?_, ?_, ?_, pk_us, ?_, fun j hj => pk_un hj⟩
  · rw [pk_un (by omega), pk_un (by omega), pk_un (by omega), pk_us]
  · rw [pk_un (by omega), pk_un (by omega), pk_us, ha]
  · rw [pk_un (by omega), pk_us, hb]
  · rw [pk_us, hc]
  · intro j h1 h2 h3 h4
    rw [pk_un h4, pk_un h3, pk_un h2, pk_un h1]
theorem zx_setOut {post : SX → Prop} {q : Nat} (m f s1 s2 s3 : Int32) (hq : q < 8) (h : ∀ ou' og', zx_So q m f s1 s2 s3 ou og ou' og' → post (cp, nI P, nI T, nI N, pr, an, tr, kn, wn, wk, wf, lb, lw, ta, we, ca, ou', og', ar, ag)) : wpX_setOut post (cp, nI P, nI T, nI N, pr, an, tr, kn, wn, wk, wf, lb, lw, ta, we, ca, ou, og, ar, ag) (nI q) m f s1 s2 s3 := by
  have c0 : (nI q).toNatClampNeg = q := nI_clamp (by omega)
  have i0 : vp_in (nI q) 32 := vp_in_nI (by omega) (by omega)
  have i1 : vp_in (nI q) 8 := vp_in_nI (by omega) (by omega)
  have e8 : (8 : Int32) + nI q = nI (8 + q) := nI_add 8 q
  have e16 : (16 : Int32) + nI q = nI (16 + q) := nI_add 16 q
  have e24 : (24 : Int32) + nI q = nI (24 + q) := nI_add 24 q
  have j8 : vp_in (8 + nI q) 32 := by rw [e8]; exact vp_in_nI (by omega) (by omega)
  have j16 : vp_in (16 + nI q) 32 := by rw [e16]; exact vp_in_nI (by omega) (by omega)
  have j24 : vp_in (24 + nI q) 32 := by rw [e24]; exact vp_in_nI (by omega) (by omega)
  have c8 : ((8 : Int32) + nI q).toNatClampNeg = 8 + q := by rw [e8]; exact nI_clamp (by omega)
  have c16 : ((16 : Int32) + nI q).toNatClampNeg = 16 + q := by rw [e16]; exact nI_clamp (by omega)
  have c24 : ((24 : Int32) + nI q).toNatClampNeg = 24 + q := by rw [e24]; exact nI_clamp (by omega)
  unfold wpX_setOut
  refine br_c (fun e => ?_) (fun e => ?_)
  · refine ⟨i0, nm_r (e' := upd ou q m) (by rw [c0]) ⟨i1, nm_r (e' := upd og q f) (by rw [c0]) (br_t rfl ?_)⟩⟩
    refine ⟨j8, nm_r (e' := upd (upd ou q m) (8 + q) 0) (by rw [c8]) (br_t rfl ?_)⟩
    refine ⟨j16, nm_r (e' := upd (upd (upd ou q m) (8 + q) 0) (16 + q) 0) (by rw [c16]) (br_t rfl ?_)⟩
    refine ⟨j24, nm_r (e' := upd (upd (upd (upd ou q m) (8 + q) 0) (16 + q) 0) (24 + q) 0) (by rw [c24]) (h _ _ (zx_So_mk hq ?_ ?_ ?_))⟩
    · exact (if_pos e).symm
    · exact (if_pos e).symm
    · exact (if_pos e).symm
  · refine ⟨i0, nm_r (e' := upd ou q m) (by rw [c0]) ⟨i1, nm_r (e' := upd og q f) (by rw [c0]) (br_f (by decide) ?_)⟩⟩
    refine ⟨j8, nm_r (e' := upd (upd ou q m) (8 + q) s1) (by rw [c8]) (br_f (by decide) ?_)⟩
    refine ⟨j16, nm_r (e' := upd (upd (upd ou q m) (8 + q) s1) (16 + q) s2) (by rw [c16]) (br_f (by decide) ?_)⟩
    refine ⟨j24, nm_r (e' := upd (upd (upd (upd ou q m) (8 + q) s1) (16 + q) s2) (24 + q) s3) (by rw [c24]) (h _ _ (zx_So_mk hq ?_ ?_ ?_))⟩
    · exact (if_neg e).symm
    · exact (if_neg e).symm
    · exact (if_neg e).symm
end
end
section
/-! ===== Y: the small methods ===== -/
section
variable {fw fb cp : Int32} {P T N : Nat} {ce pr fl sg yw yc yr : Nat → Int32}
theorem zy_good {post : Int32 → Prop} (p0 : Int32) (hP : P < 2 ^ 31) (h0 : (p0 < 0 ∨ nI P ≤ p0) → post 0) (h1 : ∀ p, p < P → p0 = nI p → post 1) : wpY_good post (fw, fb, cp, nI P, nI T, nI N, ce, pr, fl, sg, yw, yc, yr) p0 := by
  refine br_c (fun h => h0 (Or.inl h)) (fun h => br_c (fun h2 => h0 (Or.inr h2)) (fun h2 => ?_))
  obtain ⟨j, hj, rfl⟩ := nI_of h
  rw [nI_leI hP hj] at h2
  exact h1 j (by omega) rfl
theorem zy_known {post : Int32 → Prop} (p0 : Int32) (hN : N < 2 ^ 31) (h0 : (p0 < 0 ∨ nI N ≤ p0) → post 0) (h1 : ∀ p, p < N → p0 = nI p → post 1) : wpY_known post (fw, fb, cp, nI P, nI T, nI N, ce, pr, fl, sg, yw, yc, yr) p0 := by
  refine br_c (fun h => h0 (Or.inl h)) (fun h => br_c (fun h2 => h0 (Or.inr h2)) (fun h2 => ?_))
  obtain ⟨j, hj, rfl⟩ := nI_of h
  rw [nI_leI hN hj] at h2
  exact h1 j (by omega) rfl
theorem zy_mix6 {post : Int32 → Prop} (o x y : Int32) : ∀ n k acc, k + n = 4 → post (zp_mx o x y n k acc) → wY_mix_6 post o x y fw fb cp (nI P) (nI T) (nI N) ce pr fl sg yw yc yr (n + 1) acc (nI (4 * k)) := by
  intro n
  induction n with
  | zero =>
    intro k acc hk h
    exact br_t (nI_le (a := 16) (by omega) (by omega)) h
  | succ n ih =>
    intro k acc hk h
    have h' : post (zp_mx o x y n (k + 1) (acc ||| ((if zp_nb x k = zp_nb y k then zp_nb x k else if zp_nb x k = zp_nb o k then zp_nb y k else if zp_nb y k = zp_nb o k then zp_nb x k else 15) <<< (nI (4 * k) &&& 31)))) := h
    refine br_f (nI_ge (b := 16) (by omega) (by omega)) (nm_r (e' := zp_nb o k) rfl (nm_r (e' := zp_nb x k) rfl (nm_r (e' := zp_nb y k) rfl (br_c (fun e1 => ?_) (fun n1 => br_c (fun e2 => ?_) (fun n2 => br_c (fun e3 => ?_) (fun n3 => ?_)))))))
    · rw [if_pos e1] at h'
      exact nm_e (nm_r (nI_add (4 * k) 4) (ih (k + 1) _ (by omega) h'))
    · rw [if_neg n1, if_pos e2] at h'
      exact nm_e (nm_r (nI_add (4 * k) 4) (ih (k + 1) _ (by omega) h'))
    · rw [if_neg n1, if_neg n2, if_pos e3] at h'
      exact nm_e (nm_r (nI_add (4 * k) 4) (ih (k + 1) _ (by omega) h'))
    · rw [if_neg n1, if_neg n2, if_neg n3] at h'
      exact nm_e (nm_r (nI_add (4 * k) 4) (ih (k + 1) _ (by omega) h'))
theorem zy_mix {post : Int32 → Prop} (o x y : Int32) (h : post (zp_mix o x y)) : wpY_mix post (fw, fb, cp, nI P, nI T, nI N, ce, pr, fl, sg, yw, yc, yr) o x y := ⟨5, zy_mix6 o x y 4 0 0 rfl h⟩
theorem zy_torn3 {post : Int32 → Prop} (o x y : Int32) : ∀ n k, k + n = 4 → post (zp_tr o x y n k) → wY_torn_3 post o x y fw fb cp (nI P) (nI T) (nI N) ce pr fl sg yw yc yr (n + 1) (nI (4 * k)) := by
  intro n
  induction n with
  | zero =>
    intro k hk h
    exact br_t (nI_le (a := 16) (by omega) (by omega)) h
  | succ n ih =>
    intro k hk h
    have h' : post (if zp_nb x k = zp_nb y k then zp_tr o x y n (k + 1) else if zp_nb x k = zp_nb o k then zp_tr o x y n (k + 1) else if zp_nb y k = zp_nb o k then zp_tr o x y n (k + 1) else 1) := h
    refine br_f (nI_ge (b := 16) (by omega) (by omega)) (nm_r (e' := zp_nb o k) rfl (nm_r (e' := zp_nb x k) rfl (nm_r (e' := zp_nb y k) rfl (br_c (fun e1 => ?_) (fun n1 => br_c (fun e2 => ?_) (fun n2 => br_c (fun e3 => ?_) (fun n3 => ?_)))))))
    · rw [if_pos e1] at h'
      exact nm_r (nI_add (4 * k) 4) (ih (k + 1) (by omega) h')
    · rw [if_neg n1, if_pos e2] at h'
      exact nm_r (nI_add (4 * k) 4) (ih (k + 1) (by omega) h')
    · rw [if_neg n1, if_neg n2, if_pos e3] at h'
      exact nm_r (nI_add (4 * k) 4) (ih (k + 1) (by omega) h')
    · rw [if_neg n1, if_neg n2, if_neg n3] at h'
      exact h'
theorem zy_torn {post : Int32 → Prop} (o x y : Int32) (h : post (zp_torn o x y)) : wpY_torn post (fw, fb, cp, nI P, nI T, nI N, ce, pr, fl, sg, yw, yc, yr) o x y := ⟨5, zy_torn3 o x y 4 0 rfl h⟩
theorem zy_sc124 {post : Int32 → Prop} (x y : Int32) : ∀ n k acc, k + n = 4 → post (nI (zp_lr x y n k acc)) → wY_score_124 post x y fw fb cp (nI P) (nI T) (nI N) ce pr fl sg yw yc yr (n + 1) (nI acc) (nI (4 * k)) := by
  intro n
  induction n with
  | zero =>
    intro k acc hk h
    exact br_t (nI_le (a := 16) (by omega) (by omega)) h
  | succ n ih =>
    intro k acc hk h
    have h' : post (nI (if zp_nb x k = zp_nb y k then zp_lr x y n (k + 1) (acc + 1) else zp_lr x y n (k + 1) acc)) := h
    refine br_f (nI_ge (b := 16) (by omega) (by omega)) (br_c (fun e => ?_) (fun e => ?_))
    · have e' : zp_nb x k = zp_nb y k := e
      rw [if_pos e'] at h'
      exact nm_r (nI_1 acc) (nm_r (nI_add (4 * k) 4) (ih (k + 1) (acc + 1) (by omega) h'))
    · have e' : ¬ zp_nb x k = zp_nb y k := e
      rw [if_neg e'] at h'
      exact nm_r (nI_add (4 * k) 4) (ih (k + 1) acc (by omega) h')
theorem zy_merge89 {post : Int32 → SY → Prop} : ∀ n q acc, q + n = 8 → post (nI (zp_cnt fl n q acc)) (fw, fb, cp, nI P, nI T, nI N, ce, pr, fl, sg, yw, yc, yr) → wY_merge_89 post fw fb cp (nI P) (nI T) (nI N) ce pr fl sg yw yc yr (n + 1) (nI acc) (nI q) := by
  intro n
  induction n with
  | zero =>
    intro q acc hq h
    exact br_t (nI_le (a := 8) (by omega) (by omega)) h
  | succ n ih =>
    intro q acc hq h
    have e0 : (nI q).toNatClampNeg = q := nI_clamp (by omega)
    have h' : post (nI (zp_cnt fl n (q + 1) (if fl q = 0 then acc else acc + 1))) (fw, fb, cp, nI P, nI T, nI N, ce, pr, fl, sg, yw, yc, yr) := h
    refine br_f (nI_ge (b := 8) (by omega) (by omega)) ⟨vp_in_nI (by omega) (by omega), br_c (fun e => ?_) (fun e => ?_)⟩
    · rw [e0] at e
      rw [if_pos e] at h'
      exact nm_r (nI_1 q) (ih (q + 1) acc (by omega) h')
    · rw [e0] at e
      rw [if_neg e] at h'
      exact nm_r (nI_1 acc) (nm_r (nI_1 q) (ih (q + 1) (acc + 1) (by omega) h'))
/-- what set writes: cell t * 8 + q, flag q, stages q -/
def zy_Se (t q : Nat) (m f s1 s2 s3 : Int32) (ce fl sg ce' fl' sg' : Nat → Int32) : Prop :=
  ce' (t * 8 + q) = m ∧ fl' q = f ∧ sg' q = zz_st f s1 ∧ sg' (8 + q) = zz_st f s2 ∧ sg' (16 + q) = zz_st f s3 ∧
  (∀ j, j ≠ t * 8 + q → ce' j = ce j) ∧ (∀ j, j ≠ q → fl' j = fl j) ∧ (∀ j, j ≠ q → j ≠ 8 + q → j ≠ 16 + q → sg' j = sg j)
theorem zy_Se_mk {t q : Nat} {m f s1 s2 s3 a b c : Int32} {ce fl sg : Nat → Int32} (hq : q < 8) (ha : a = zz_st f s1) (hb : b = zz_st f s2) (hc : c = zz_st f s3) : zy_Se t q m f s1 s2 s3 ce fl sg (upd ce (t * 8 + q) m) (upd fl q f) (upd (upd (upd sg q a) (8 + q) b) (16 + q) c) := by
  refine ⟨pk_us, pk_us, ?_, ?_, ?_, fun j hj => pk_un hj, fun j hj => pk_un hj, ?_⟩
  · rw [pk_un (by omega), pk_un (by omega), pk_us, ha]
  · rw [pk_un (by omega), pk_us, hb]
  · rw [pk_us, hc]
  · intro j h1 h2 h3
    rw [pk_un h3, pk_un h2, pk_un h1]
theorem zy_set {post : SY → Prop} {t q : Nat} (m f s1 s2 s3 : Int32) (ht : t < 258) (hq : q < 8) (h : ∀ ce' fl' sg', zy_Se t q m f s1 s2 s3 ce fl sg ce' fl' sg' → post (fw, fb, cp, nI P, nI T, nI N, ce', pr, fl', sg', yw, yc, yr)) : wpY_set post (fw, fb, cp, nI P, nI T, nI N, ce, pr, fl, sg, yw, yc, yr) (nI t) (nI q) m f s1 s2 s3 := by
  have et : nI t * 8 + nI q = nI (t * 8 + q) := by rw [← nI_add, ← pk_mul]; rfl
  have it : vp_in (nI t * 8 + nI q) 2064 := by rw [et]; exact vp_in_nI (by omega) (by omega)
  have ct' : (nI t * 8 + nI q).toNatClampNeg = t * 8 + q := by rw [et]; exact nI_clamp (by omega)
  have c0 : (nI q).toNatClampNeg = q := nI_clamp (by omega)
  have i1 : vp_in (nI q) 8 := vp_in_nI (by omega) (by omega)
  have i2 : vp_in (nI q) 24 := vp_in_nI (by omega) (by omega)
  have e8 : (8 : Int32) + nI q = nI (8 + q) := nI_add 8 q
  have e16 : (16 : Int32) + nI q = nI (16 + q) := nI_add 16 q
  have j8 : vp_in (8 + nI q) 24 := by rw [e8]; exact vp_in_nI (by omega) (by omega)
  have j16 : vp_in (16 + nI q) 24 := by rw [e16]; exact vp_in_nI (by omega) (by omega)
  have c8 : ((8 : Int32) + nI q).toNatClampNeg = 8 + q := by rw [e8]; exact nI_clamp (by omega)
  have c16 : ((16 : Int32) + nI q).toNatClampNeg = 16 + q := by rw [e16]; exact nI_clamp (by omega)
  refine ⟨it, nm_r (e' := upd ce (t * 8 + q) m) (by rw [ct']) ⟨i1, nm_r (e' := upd fl q f) (by rw [c0]) (br_c (fun e => ?_) (fun e => ?_))⟩⟩
  · refine ⟨i2, nm_r (e' := upd sg q 0) (by rw [c0]) (br_t e ?_)⟩
    refine ⟨j8, nm_r (e' := upd (upd sg q 0) (8 + q) 0) (by rw [c8]) (br_t e ?_)⟩
    refine ⟨j16, nm_r (e' := upd (upd (upd sg q 0) (8 + q) 0) (16 + q) 0) (by rw [c16]) (h _ _ _ (zy_Se_mk hq ?_ ?_ ?_))⟩
    · exact (if_pos e).symm
    · exact (if_pos e).symm
    · exact (if_pos e).symm
  · refine ⟨i2, nm_r (e' := upd sg q s1) (by rw [c0]) (br_f e ?_)⟩
    refine ⟨j8, nm_r (e' := upd (upd sg q s1) (8 + q) s2) (by rw [c8]) (br_f e ?_)⟩
    refine ⟨j16, nm_r (e' := upd (upd (upd sg q s1) (8 + q) s2) (16 + q) s3) (by rw [c16]) (h _ _ _ (zy_Se_mk hq ?_ ?_ ?_))⟩
    · exact (if_neg e).symm
    · exact (if_neg e).symm
    · exact (if_neg e).symm
/-- a row copied: s to t -/
theorem zy_copy2 {post : SY → Prop} {s t : Nat} (hs : s < 258) (ht : t < 258) (hne : s ≠ t) (ce0 : Nat → Int32) : ∀ n q (ce : Nat → Int32), q + n = 8 → (∀ j, j < q → ce (t * 8 + j) = ce0 (s * 8 + j)) → (∀ j, (j < t * 8 + 0 ∨ t * 8 + q ≤ j) → ce j = ce0 j) → (∀ ce', (∀ j, j < 8 → ce' (t * 8 + j) = ce0 (s * 8 + j)) → (∀ j, (j < t * 8 ∨ t * 8 + 8 ≤ j) → ce' j = ce0 j) → post (fw, fb, cp, nI P, nI T, nI N, ce', pr, fl, sg, yw, yc, yr)) → wY_copy_2 post (nI s) (nI t) fw fb cp (nI P) (nI T) (nI N) (n + 1) (nI q) ce pr fl sg yw yc yr := by
  intro n
  induction n with
  | zero =>
    intro q ce hq h1 h2 h
    have : q = 8 := by omega
    subst this
    exact br_t (nI_le (a := 8) (by omega) (by omega)) (h ce h1 h2)
  | succ n ih =>
    intro q ce hq h1 h2 h
    have es : nI s * 8 + nI q = nI (s * 8 + q) := by rw [← nI_add, ← pk_mul]; rfl
    have et : nI t * 8 + nI q = nI (t * 8 + q) := by rw [← nI_add, ← pk_mul]; rfl
    refine br_f (nI_ge (b := 8) (by omega) (by omega)) ⟨?_, ?_, nm_r (e' := upd ce (t * 8 + q) (ce (s * 8 + q))) ?_ (nm_r (nI_1 q) (ih (q + 1) _ (by omega) ?_ ?_ h))⟩
    · rw [es]; exact vp_in_nI (by omega) (by omega)
    · rw [et]; exact vp_in_nI (by omega) (by omega)
    · rw [es, et, nI_clamp (by omega), nI_clamp (by omega)]
    · intro j hj
      by_cases e : j = q
      · subst e
        rw [pk_us]; exact h2 _ (by omega)
      · rw [pk_un (by omega)]; exact h1 j (by omega)
    · intro j hj
      rw [pk_un (by omega)]; exact h2 j (by omega)
theorem zy_copy {post : SY → Prop} {s t : Nat} (hs : s < 258) (ht : t < 258) (hne : s ≠ t) (h : ∀ ce', (∀ j, j < 8 → ce' (t * 8 + j) = ce (s * 8 + j)) → (∀ j, (j < t * 8 ∨ t * 8 + 8 ≤ j) → ce' j = ce j) → post (fw, fb, cp, nI P, nI T, nI N, ce', pr, fl, sg, yw, yc, yr)) : wpY_copy post (fw, fb, cp, nI P, nI T, nI N, ce, pr, fl, sg, yw, yc, yr) (nI s) (nI t) :=
  ⟨9, zy_copy2 hs ht hne ce 8 0 ce rfl (fun j hj => absurd hj (by omega)) (fun _ _ => rfl) h⟩
end
end
section
/-! ===== the graph: closures, best common ancestors ===== -/
def zg_cl (an : Nat → Int32) (s : Int32) : Nat → Nat → Int32 → Int32
  | 0, _, acc => acc
  | n + 1, c, acc => zg_cl an s n (c + 1) (if bt s c = true then acc ||| an c else acc)
def zg_clo (an : Nat → Int32) (s : Int32) : Int32 := zg_cl an s 8 0 0
theorem zg_cl_bt {an : Nat → Int32} {s : Int32} {d : Nat} : ∀ n c acc, bt (zg_cl an s n c acc) d = true ↔ (bt acc d = true ∨ ∃ e, c ≤ e ∧ e < c + n ∧ bt s e = true ∧ bt (an e) d = true) := by
  intro n
  induction n with
  | zero =>
    intro c acc
    exact ⟨fun h => Or.inl h, fun h => h.elim id (fun ⟨e, h1, h2, _⟩ => absurd h2 (by omega))⟩
  | succ n ih =>
    intro c acc
    show bt (zg_cl an s n (c + 1) (if bt s c = true then acc ||| an c else acc)) d = true ↔ _
    rw [ih]
    by_cases h : bt s c = true
    · rw [if_pos h, b_or, Bool.or_eq_true]
      constructor
      · rintro ((h1 | h1) | ⟨e, h1, h2, h3⟩)
        · exact Or.inl h1
        · exact Or.inr ⟨c, by omega, by omega, h, h1⟩
        · exact Or.inr ⟨e, by omega, by omega, h3⟩
      · rintro (h1 | ⟨e, h1, h2, h3, h4⟩)
        · exact Or.inl (Or.inl h1)
        · by_cases he : e = c
          · subst he; exact Or.inl (Or.inr h4)
          · exact Or.inr ⟨e, by omega, by omega, h3, h4⟩
    · rw [if_neg h]
      constructor
      · rintro (h1 | ⟨e, h1, h2, h3⟩)
        · exact Or.inl h1
        · exact Or.inr ⟨e, by omega, by omega, h3⟩
      · rintro (h1 | ⟨e, h1, h2, h3, h4⟩)
        · exact Or.inl h1
        · by_cases he : e = c
          · subst he; exact absurd h3 h
          · exact Or.inr ⟨e, by omega, by omega, h3, h4⟩
theorem zg_cl_stop {an : Nat → Int32} {s : Int32} : ∀ n c acc, (∀ e, c ≤ e → bt s e = false) → zg_cl an s n c acc = acc := by
  intro n
  induction n with
  | zero => intro c acc h; rfl
  | succ n ih =>
    intro c acc h
    show zg_cl an s n (c + 1) (if bt s c = true then acc ||| an c else acc) = acc
    rw [if_neg (by rw [h c (by omega)]; decide), ih (c + 1) acc (fun e he => h e (by omega))]
theorem zg_cl_cong {an an' : Nat → Int32} {s : Int32} : ∀ n c acc, (∀ e, bt s e = true → an e = an' e) → zg_cl an s n c acc = zg_cl an' s n c acc := by
  intro n
  induction n with
  | zero => intro c acc h; rfl
  | succ n ih =>
    intro c acc h
    show zg_cl an s n (c + 1) (if bt s c = true then acc ||| an c else acc) = zg_cl an' s n (c + 1) (if bt s c = true then acc ||| an' c else acc)
    by_cases hb : bt s c = true
    · rw [if_pos hb, if_pos hb, h c hb]; exact ih _ _ h
    · rw [if_neg hb, if_neg hb]; exact ih _ _ h
theorem zg_clo_bt {an : Nat → Int32} {s : Int32} {d : Nat} : bt (zg_clo an s) d = true ↔ ∃ e, e < 8 ∧ bt s e = true ∧ bt (an e) d = true := by
  unfold zg_clo
  rw [zg_cl_bt, b_0]
  constructor
  · rintro (h | ⟨e, h1, h2, h3⟩)
    · exact absurd h (by decide)
    · exact ⟨e, by omega, h3⟩
  · rintro ⟨e, h1, h3⟩
    exact Or.inr ⟨e, by omega, by omega, h3⟩
theorem zg_bool {a b : Bool} (h : a = true ↔ b = true) : a = b := by
  cases a <;> cases b <;> simp_all
theorem zg_clo_single {an : Nat → Int32} {d : Nat} (hd : d < 8) : zg_clo an ((1 : Int32) <<< (nI d &&& 31)) = an d := by
  apply b_ext
  intro i _
  apply zg_bool
  rw [zg_clo_bt]
  constructor
  · rintro ⟨e, h1, h2, h3⟩
    rw [zb_shl1 (by omega) (by omega), decide_eq_true_eq] at h2
    subst h2; exact h3
  · intro h
    exact ⟨d, hd, by rw [zb_shl1 (by omega) (by omega), decide_eq_true_eq], h⟩
def zg_bs (an : Nat → Int32) (com : Int32) : Nat → Nat → Int32 → Int32
  | 0, _, r => r
  | n + 1, d, r => zg_bs an com n (d + 1) (if bt com d = true then r &&& ((an d &&& (((1 : Int32) <<< (nI d &&& 31)) ^^^ (-1))) ^^^ (-1)) else r)
def zg_com (an : Nat → Int32) (x y : Int32) : Int32 := zg_clo an x &&& zg_clo an y
def zg_best (an : Nat → Int32) (x y : Int32) : Int32 := zg_bs an (zg_com an x y) 8 0 (zg_com an x y)
theorem zg_bs_sub {an : Nat → Int32} {com : Int32} {i : Nat} : ∀ n d r, bt (zg_bs an com n d r) i = true → bt r i = true := by
  intro n
  induction n with
  | zero => intro d r h; exact h
  | succ n ih =>
    intro d r h
    have h' := ih (d + 1) (if bt com d = true then r &&& ((an d &&& (((1 : Int32) <<< (nI d &&& 31)) ^^^ (-1))) ^^^ (-1)) else r) h
    by_cases hb : bt com d = true
    · rw [if_pos hb, b_and, Bool.and_eq_true] at h'
      exact h'.1
    · rw [if_neg hb] at h'; exact h'
theorem zg_bs_stop {an : Nat → Int32} {com : Int32} : ∀ n d r, (∀ e, d ≤ e → bt com e = false) → zg_bs an com n d r = r := by
  intro n
  induction n with
  | zero => intro d r h; rfl
  | succ n ih =>
    intro d r h
    show zg_bs an com n (d + 1) (if bt com d = true then r &&& ((an d &&& (((1 : Int32) <<< (nI d &&& 31)) ^^^ (-1))) ^^^ (-1)) else r) = r
    rw [if_neg (by rw [h d (by omega)]; decide), ih (d + 1) r (fun e he => h e (by omega))]
theorem zg_bs_cong {an an' : Nat → Int32} {com : Int32} : ∀ n d r, (∀ e, bt com e = true → an e = an' e) → zg_bs an com n d r = zg_bs an' com n d r := by
  intro n
  induction n with
  | zero => intro d r h; rfl
  | succ n ih =>
    intro d r h
    show zg_bs an com n (d + 1) (if bt com d = true then r &&& ((an d &&& (((1 : Int32) <<< (nI d &&& 31)) ^^^ (-1))) ^^^ (-1)) else r) = zg_bs an' com n (d + 1) (if bt com d = true then r &&& ((an' d &&& (((1 : Int32) <<< (nI d &&& 31)) ^^^ (-1))) ^^^ (-1)) else r)
    by_cases hb : bt com d = true
    · rw [if_pos hb, if_pos hb, h d hb]; exact ih _ _ h
    · rw [if_neg hb, if_neg hb]; exact ih _ _ h
/-- the graph: parents below, ancestors closed -/
def zi_G (N : Nat) (pr an : Nat → Int32) : Prop :=
  (∀ c, c ≤ N → pr (c * 2) = -1 ∨ ∃ p, p < c ∧ pr (c * 2) = nI p) ∧
  (∀ c, c ≤ N → pr (c * 2 + 1) = -1 ∨ ∃ p, p < c ∧ pr (c * 2 + 1) = nI p) ∧
  (∀ c, c < N → bt (an c) c = true) ∧
  (∀ c, c < N → ∀ d, bt (an c) d = true → d ≤ c) ∧
  (∀ c, c < N → ∀ d, bt (an c) d = true → ∀ e, bt (an d) e = true → bt (an c) e = true) ∧
  (∀ c, c < N → ∀ p, p < c → (pr (c * 2) = nI p ∨ pr (c * 2 + 1) = nI p) → bt (an c) p = true) ∧
  (∀ c, c < N → ∀ d, bt (an c) d = true → d = c ∨ ∃ e, bt (an c) e = true ∧ d < e ∧ (pr (e * 2) = nI d ∨ pr (e * 2 + 1) = nI d))
/-- a set of made commits -/
def zg_V (N : Nat) (s : Int32) : Prop := ∀ e, N ≤ e → bt s e = false
theorem zg_V_lt {N : Nat} {s : Int32} (h : zg_V N s) {e : Nat} (he : bt s e = true) : e < N := by
  rcases Nat.lt_or_ge e N with h1 | h1
  · exact h1
  · rw [h e h1] at he; exact absurd he (by decide)
theorem zg_V_single {N c : Nat} (hc : c < N) (hN : N ≤ 8) : zg_V N ((1 : Int32) <<< (nI c &&& 31)) := by
  intro e he
  rcases Nat.lt_or_ge e 32 with h | h
  · rw [zb_shl1 (by omega) h]; exact decide_eq_false (by omega)
  · exact b_big h
/-- what a closure holds is at most the greatest member -/
theorem zg_clo_le {N k : Nat} {pr an : Nat → Int32} {s : Int32} (G : zi_G N pr an) (hk : k ≤ N) (hs : zg_V k s) : zg_V k (zg_clo an s) := by
  intro d hd
  cases hb : bt (zg_clo an s) d
  · rfl
  · rw [zg_clo_bt] at hb
    obtain ⟨e, h1, h2, h3⟩ := hb
    have he := zg_V_lt hs h2
    have := G.2.2.2.1 e (by omega) d h3
    omega
theorem zg_com_le {N k : Nat} {pr an : Nat → Int32} {x y : Int32} (G : zi_G N pr an) (hk : k ≤ N) (hx : zg_V k x) : zg_V k (zg_com an x y) := by
  intro d hd
  unfold zg_com
  rw [b_and, zg_clo_le G hk hx d hd, Bool.false_and]
theorem zg_best_le {N k : Nat} {pr an : Nat → Int32} {x y : Int32} (G : zi_G N pr an) (hk : k ≤ N) (hx : zg_V k x) : zg_V k (zg_best an x y) := by
  intro d hd
  cases hb : bt (zg_best an x y) d
  · rfl
  · have h := zg_bs_sub _ _ _ hb
    rw [zg_com_le G hk hx d hd] at h
    exact absurd h (by decide)
theorem zg_best_cong {N : Nat} {pr an an' : Nat → Int32} {x y : Int32} (G : zi_G N pr an) (hx : zg_V N x) (hy : zg_V N y) (h : ∀ c, c < N → an c = an' c) : zg_best an x y = zg_best an' x y := by
  have e1 : zg_clo an x = zg_clo an' x := zg_cl_cong _ _ _ (fun e he => h e (zg_V_lt hx he))
  have e2 : zg_clo an y = zg_clo an' y := zg_cl_cong _ _ _ (fun e he => h e (zg_V_lt hy he))
  have e3 : zg_com an x y = zg_com an' x y := by unfold zg_com; rw [e1, e2]
  unfold zg_best
  rw [zg_bs_cong _ _ _ (fun e he => h e (zg_V_lt (zg_com_le G (Nat.le_refl _) hx) he)), e3]
section
variable {cp : Int32} {P T N : Nat} {pr an tr kn wn wk wf lb lw ta we ca ou og ar ag : Nat → Int32}
theorem zx_clo4 {post : Int32 → Prop} {s : Int32} (hN : N ≤ 8) (hs : zg_V N s) : ∀ n c acc, c + n = N → post (zg_cl an s (8 - c) c acc) → wX_closure_4 post s cp (nI P) (nI T) (nI N) pr an tr kn wn wk wf lb lw ta we ca ou og ar ag (n + 1) acc (nI c) := by
  intro n
  induction n with
  | zero =>
    intro c acc hc h
    rw [zg_cl_stop _ _ _ (fun e he => hs e (by omega))] at h
    exact br_t (nI_le (by omega) (by omega)) h
  | succ n ih =>
    intro c acc hc h
    have e8 : 8 - c = (8 - (c + 1)) + 1 := by omega
    rw [e8] at h
    have h' : post (zg_cl an s (8 - (c + 1)) (c + 1) (if bt s c = true then acc ||| an c else acc)) := h
    have e0 : (nI c).toNatClampNeg = c := nI_clamp (by omega)
    refine br_f (nI_ge (by omega) (by omega)) (br_c (fun e => ?_) (fun e => ?_))
    · rw [zb_t0 s (by omega)] at e
      rw [if_neg (by rw [e]; decide)] at h'
      exact nm_r (nI_1 c) (ih (c + 1) acc (by omega) h')
    · rw [zb_t0 s (by omega)] at e
      rw [if_pos (by simpa using e)] at h'
      refine ⟨vp_in_nI (by omega) (by omega), nm_r (e' := acc ||| an c) (by rw [e0]) (nm_r (nI_1 c) (ih (c + 1) _ (by omega) h'))⟩
theorem zx_closure {post : Int32 → Prop} {s : Int32} (hN : N ≤ 8) (hs : zg_V N s) (h : post (zg_clo an s)) : wpX_closure post (cp, nI P, nI T, nI N, pr, an, tr, kn, wn, wk, wf, lb, lw, ta, we, ca, ou, og, ar, ag) s :=
  ⟨N + 1, zx_clo4 hN hs N 0 0 (by omega) h⟩
theorem zx_best26 {post : Int32 → Prop} {com : Int32} (hN : N ≤ 8) (hs : zg_V N com) : ∀ n c acc, c + n = N → post (zg_bs an com (8 - c) c acc) → wX_best_26 post com cp (nI P) (nI T) (nI N) pr an tr kn wn wk wf lb lw ta we ca ou og ar ag (n + 1) acc (nI c) := by
  intro n
  induction n with
  | zero =>
    intro c acc hc h
    rw [zg_bs_stop _ _ _ (fun e he => hs e (by omega))] at h
    exact br_t (nI_le (by omega) (by omega)) h
  | succ n ih =>
    intro c acc hc h
    have e8 : 8 - c = (8 - (c + 1)) + 1 := by omega
    rw [e8] at h
    have h' : post (zg_bs an com (8 - (c + 1)) (c + 1) (if bt com c = true then acc &&& ((an c &&& (((1 : Int32) <<< (nI c &&& 31)) ^^^ (-1))) ^^^ (-1)) else acc)) := h
    have e0 : (nI c).toNatClampNeg = c := nI_clamp (by omega)
    refine br_f (nI_ge (by omega) (by omega)) (br_c (fun e => ?_) (fun e => ?_))
    · rw [zb_t0 com (by omega)] at e
      rw [if_neg (by rw [e]; decide)] at h'
      exact nm_r (nI_1 c) (ih (c + 1) acc (by omega) h')
    · rw [zb_t0 com (by omega)] at e
      rw [if_pos (by simpa using e)] at h'
      refine ⟨vp_in_nI (by omega) (by omega), nm_r (e' := an c &&& (((1 : Int32) <<< (nI c &&& 31)) ^^^ (-1))) (by rw [e0]) (nm_e (nm_r (nI_1 c) (ih (c + 1) _ (by omega) h')))⟩
theorem zx_best {post : Int32 → Prop} {x y : Int32} (hN : N ≤ 8) (G : zi_G N pr an) (hx : zg_V N x) (hy : zg_V N y) (h : post (zg_best an x y)) : wpX_best post (cp, nI P, nI T, nI N, pr, an, tr, kn, wn, wk, wf, lb, lw, ta, we, ca, ou, og, ar, ag) x y := by
  unfold wpX_best
  refine zx_closure hN hx (zx_closure hN hy (nm_r (e' := zg_com an x y) rfl ⟨N + 1, ?_⟩))
  exact zx_best26 hN (zg_com_le G (Nat.le_refl _) hx) N 0 _ (by omega) h
end
section
variable {fw fb cp : Int32} {P T N : Nat} {ce pr fl sg yw yc yr : Nat → Int32} {an : Nat → Int32}
/-- the union of the ancestors of s -/
def zg_U (N : Nat) (an : Nat → Int32) (s : Int32) (d : Nat) : Prop := ∃ e, e < N ∧ bt s e = true ∧ bt (an e) d = true
def zg_Q1 (N : Nat) (pr an : Nat → Int32) (s a0 : Int32) (c : Nat) (a : Int32) : Prop :=
  (∀ d, bt a d = true → zg_U N an s d) ∧ (∀ d, bt a0 d = true → bt a d = true) ∧
  (∀ e, e < c → bt a0 e = true → ∀ p, p < e → (pr (e * 2) = nI p ∨ pr (e * 2 + 1) = nI p) → bt a p = true)
theorem zg_orP {a : Int32} {p d : Nat} (hp : p < 31) : bt (a ||| ((1 : Int32) <<< (nI p &&& 31))) d = true ↔ (bt a d = true ∨ d = p) := by
  rw [b_or, Bool.or_eq_true]
  rcases Nat.lt_or_ge d 32 with h | h
  · rw [zb_shl1 (by omega) h, decide_eq_true_eq]
  · rw [b_big h, b_big h]
    exact ⟨fun z => z.elim (fun z => absurd z (by decide)) (fun z => absurd z (by decide)), fun z => z.elim (fun z => absurd z (by decide)) (fun z => absurd z (by omega))⟩
theorem zy_anc13 {post : Int32 → Prop} {J4 : Int32 → Int32 → Prop} {x3 s a0 : Int32} (hN : N ≤ 8) (G : zi_G N pr an) : ∀ n c a, c + n = 8 → zg_Q1 N pr an s a0 c a → (∀ a', zg_Q1 N pr an s a0 8 a' → J4 a' (x3 + 1)) → wY_ancestors_13 post J4 x3 fw fb cp (nI P) (nI T) (nI N) ce pr fl sg yw yc yr (n + 1) a (nI c) := by
  intro n
  induction n with
  | zero =>
    intro c a hc hq h
    have : c = 8 := by omega
    subst this
    exact br_t (nI_le (a := 8) (by omega) (by omega)) (nm_e (h a hq))
  | succ n ih =>
    intro c a hc hq h
    have e2 : (2 : Int32) * nI c = nI (c * 2) := (pk_mul 2 c).trans (congrArg nI (Nat.mul_comm 2 c))
    have e3 : (2 : Int32) * nI c + 1 = nI (c * 2 + 1) := by rw [e2, nI_1]
    have i2 : vp_in ((2 : Int32) * nI c) 18 := by rw [e2]; exact vp_in_nI (by omega) (by omega)
    have i3 : vp_in ((2 : Int32) * nI c + 1) 18 := by rw [e3]; exact vp_in_nI (by omega) (by omega)
    have c2 : ((2 : Int32) * nI c).toNatClampNeg = c * 2 := by rw [e2]; exact nI_clamp (by omega)
    have c3 : ((2 : Int32) * nI c + 1).toNatClampNeg = c * 2 + 1 := by rw [e3]; exact nI_clamp (by omega)
    refine br_f (nI_ge (b := 8) (by omega) (by omega)) (br_c (fun e => ?_) (fun e => ?_))
    · rw [zb_t1 a (by omega)] at e
      -- c is in: its parents are added
      have hU := hq.1 c e
      obtain ⟨e0, he0, hs0, ha0⟩ := hU
      have hcN : c < N := by have := G.2.2.2.1 e0 he0 c ha0; omega
      -- a parent of c is in the union
      have hpU : ∀ p, p < c → (pr (c * 2) = nI p ∨ pr (c * 2 + 1) = nI p) → zg_U N an s p := fun p hp hpp => ⟨e0, he0, hs0, G.2.2.2.2.1 e0 he0 c ha0 p (G.2.2.2.2.2.1 c hcN p hp hpp)⟩
      -- the second parent, from a set that holds the first
      have H2 : ∀ b, (∀ d, bt b d = true → zg_U N an s d) → (∀ d, bt a d = true → bt b d = true) → (∀ p, p < c → pr (c * 2) = nI p → bt b p = true) → wY_ancestors_69 post J4 (wY_ancestors_13 post J4 x3 fw fb cp (nI P) (nI T) (nI N) ce pr fl sg yw yc yr (n + 1)) b x3 (nI c) 1 fw fb cp (nI P) (nI T) (nI N) ce pr fl sg yw yc yr := by
        intro b hb1 hb2 hb3
        refine br_f (by decide) ⟨i3, br_c (fun f => ?_) (fun f => ⟨i3, ?_⟩)⟩
        · rw [c3] at f
          refine nm_r (nI_1 c) (ih (c + 1) b (by omega) ⟨hb1, fun d hd => hb2 d (hq.2.1 d hd), ?_⟩ h)
          intro e' he' h0 p hp hpp
          by_cases hec : e' = c
          · subst hec
            rcases hpp with hpp | hpp
            · exact hb3 p hp hpp
            · rw [f] at hpp
              exact absurd hpp (by
                intro z
                have := congrArg Int32.toInt z
                rw [nI_toInt (by omega)] at this
                have h2 : (-1 : Int32).toInt = -1 := by decide
                omega)
          · exact hb2 p (hq.2.2 e' (by omega) h0 p hp hpp)
        · rw [c3] at f
          rw [c3]
          rcases G.2.1 c (by omega) with g | ⟨p1, hp1, g⟩
          · exact absurd g f
          · rw [g]
            refine nm_e (nm_r (nI_1 c) (ih (c + 1) _ (by omega) ⟨?_, ?_, ?_⟩ h))
            · intro d hd
              rw [zg_orP (by omega)] at hd
              rcases hd with hd | hd
              · exact hb1 d hd
              · subst hd; exact hpU d hp1 (Or.inr g)
            · intro d hd
              rw [zg_orP (by omega)]
              exact Or.inl (hb2 d (hq.2.1 d hd))
            · intro e' he' h0 p hp hpp
              rw [zg_orP (by omega)]
              by_cases hec : e' = c
              · subst hec
                rcases hpp with hpp | hpp
                · exact Or.inl (hb3 p hp hpp)
                · rw [g, nI_eq (by omega) (by omega)] at hpp
                  exact Or.inr hpp.symm
              · exact Or.inl (hb2 p (hq.2.2 e' (by omega) h0 p hp hpp))
      refine br_f (by decide) ⟨i2, br_c (fun f => ?_) (fun f => ⟨i2, ?_⟩)⟩
      · rw [c2] at f
        refine H2 a hq.1 (fun d hd => hd) ?_
        intro p hp hpp
        rw [f] at hpp
        exact absurd hpp (by
          intro z
          have := congrArg Int32.toInt z
          rw [nI_toInt (by omega)] at this
          have h2 : (-1 : Int32).toInt = -1 := by decide
          omega)
      · rw [c2] at f
        rw [c2]
        rcases G.1 c (by omega) with g | ⟨p1, hp1, g⟩
        · exact absurd g f
        · rw [g]
          refine nm_e (H2 _ ?_ ?_ ?_)
          · intro d hd
            rw [zg_orP (by omega)] at hd
            rcases hd with hd | hd
            · exact hq.1 d hd
            · subst hd; exact hpU d hp1 (Or.inl g)
          · intro d hd
            rw [zg_orP (by omega)]; exact Or.inl hd
          · intro p hp hpp
            rw [zg_orP (by omega)]
            rw [g, nI_eq (by omega) (by omega)] at hpp
            exact Or.inr hpp.symm
    · rw [zb_t1 a (by omega)] at e
      refine br_t rfl (br_t rfl (nm_r (nI_1 c) (ih (c + 1) a (by omega) ⟨hq.1, hq.2.1, ?_⟩ h)))
      intro e' he' h0 p hp hpp
      by_cases hec : e' = c
      · subst hec; exact absurd (hq.2.1 _ h0) e
      · exact hq.2.2 e' (by omega) h0 p hp hpp
theorem zy_anc4 {post : Int32 → Prop} {s : Int32} (hN : N ≤ 8) (G : zi_G N pr an) (hs : zg_V N s) (h : post (zg_clo an s)) : ∀ n r a, r + n = 8 → (∀ d, bt a d = true → zg_U N an s d) → (∀ d, bt s d = true → bt a d = true) → (∀ d, 8 ≤ d + r → zg_U N an s d → bt a d = true) → wY_ancestors_4 post fw fb cp (nI P) (nI T) (nI N) ce pr fl sg yw yc yr (n + 1) a (nI r) := by
  intro n
  induction n with
  | zero =>
    intro r a hr h1 h2 h3
    have e : a = zg_clo an s := by
      apply b_ext
      intro i _
      apply zg_bool
      rw [zg_clo_bt]
      constructor
      · intro z
        obtain ⟨e, he, z1, z2⟩ := h1 i z
        exact ⟨e, by omega, z1, z2⟩
      · rintro ⟨e, he, z1, z2⟩
        exact h3 i (by omega) ⟨e, zg_V_lt hs z1, z1, z2⟩
    rw [e]
    exact br_t (nI_le (a := 8) (by omega) (by omega)) h
  | succ n ih =>
    intro r a hr h1 h2 h3
    refine br_f (nI_ge (b := 8) (by omega) (by omega)) ⟨9, ?_⟩
    refine zy_anc13 (s := s) (a0 := a) hN G 8 0 a rfl ⟨h1, fun d hd => hd, fun e he => absurd he (by omega)⟩ ?_
    intro a' hq
    rw [nI_1]
    refine ih (r + 1) a' (by omega) hq.1 (fun d hd => hq.2.1 d (h2 d hd)) ?_
    intro d hd hU
    obtain ⟨e0, he0, hs0, ha0⟩ := hU
    rcases G.2.2.2.2.2.2 e0 he0 d ha0 with z | ⟨e, z1, z2, z3⟩
    · subst z; exact hq.2.1 _ (h2 _ hs0)
    · have hle := G.2.2.2.1 e0 he0 e z1
      exact hq.2.2 e (by omega) (h3 e (by omega) ⟨e0, he0, hs0, z1⟩) d z2 z3
theorem zy_ancestors {post : Int32 → Prop} {s : Int32} (hN : N ≤ 8) (G : zi_G N pr an) (hs : zg_V N s) (h : post (zg_clo an s)) : wpY_ancestors post (fw, fb, cp, nI P, nI T, nI N, ce, pr, fl, sg, yw, yc, yr) s := by
  refine ⟨9, zy_anc4 (an := an) hN G hs h 8 0 s rfl ?_ (fun d hd => hd) ?_⟩
  · intro d hd
    have := zg_V_lt hs hd
    exact ⟨d, this, hd, G.2.2.1 d this⟩
  · intro d hd hU
    obtain ⟨e0, he0, hs0, ha0⟩ := hU
    have hle := G.2.2.2.1 e0 he0 d ha0
    omega
theorem zy_best26 {post : Int32 → Prop} {com : Int32} (hN : N ≤ 8) (G : zi_G N pr an) (hc : zg_V N com) : ∀ n d r, d + n = 8 → post (zg_bs an com n d r) → wY_best_26 post com fw fb cp (nI P) (nI T) (nI N) ce pr fl sg yw yc yr (n + 1) r (nI d) := by
  intro n
  induction n with
  | zero =>
    intro d r hd h
    exact br_t (nI_le (a := 8) (by omega) (by omega)) h
  | succ n ih =>
    intro d r hd h
    have h' : post (zg_bs an com n (d + 1) (if bt com d = true then r &&& ((an d &&& (((1 : Int32) <<< (nI d &&& 31)) ^^^ (-1))) ^^^ (-1)) else r)) := h
    refine br_f (nI_ge (b := 8) (by omega) (by omega)) (br_c (fun e => ?_) (fun e => ?_))
    · rw [zb_t1 com (by omega)] at e
      rw [if_pos e] at h'
      refine zy_ancestors (an := an) hN G (zg_V_single (zg_V_lt hc e) hN) ?_
      rw [zg_clo_single (by omega)]
      exact nm_e (nm_r (nI_1 d) (ih (d + 1) _ (by omega) h'))
    · rw [zb_t1 com (by omega)] at e
      rw [if_neg e] at h'
      exact nm_r (nI_1 d) (ih (d + 1) _ (by omega) h')
theorem zy_best {post : Int32 → Prop} {x y : Int32} (hN : N ≤ 8) (G : zi_G N pr an) (hx : zg_V N x) (hy : zg_V N y) (h : post (zg_best an x y)) : wpY_best post (fw, fb, cp, nI P, nI T, nI N, ce, pr, fl, sg, yw, yc, yr) x y := by
  unfold wpY_best
  refine zy_ancestors (an := an) hN G hx (zy_ancestors (an := an) hN G hy (nm_r (e' := zg_com an x y) rfl ⟨9, ?_⟩))
  exact zy_best26 (an := an) hN G (zg_com_le G (Nat.le_refl _) hx) 8 0 _ rfl h
end
end
section
/-! ===== the largest member of a set: m = 2 ^ j + r ===== -/
def zg_tp (m : Int32) : Nat → Nat → Int32 → Int32
  | 0, _, acc => acc
  | n + 1, c, acc => zg_tp m n (c + 1) (if bt m c = true then (1 : Int32) <<< (nI c &&& 31) else acc)
theorem zg_tp_stop {m : Int32} : ∀ n c acc, (∀ e, c ≤ e → bt m e = false) → zg_tp m n c acc = acc := by
  intro n
  induction n with
  | zero => intro c acc h; rfl
  | succ n ih =>
    intro c acc h
    show zg_tp m n (c + 1) (if bt m c = true then (1 : Int32) <<< (nI c &&& 31) else acc) = acc
    rw [if_neg (by rw [h c (by omega)]; decide), ih (c + 1) acc (fun e he => h e (by omega))]
theorem zg_m_j {j r : Nat} (hr : r < 2 ^ j) (hj : j < 8) : bt (nI (2 ^ j + r)) j = true := by
  rw [zb_nI _ (by omega), Nat.testBit_two_pow_add_eq, Nat.testBit_lt_two_pow hr]; rfl
theorem zg_m_gt {j r e : Nat} (hr : r < 2 ^ j) (he : j < e) : bt (nI (2 ^ j + r)) e = false := by
  rcases Nat.lt_or_ge e 32 with h | h
  · rw [zb_nI _ h]
    apply Nat.testBit_lt_two_pow
    have h1 : 2 ^ (j + 1) ≤ 2 ^ e := Nat.pow_le_pow_right (by omega) (by omega)
    have h2 : 2 ^ (j + 1) = 2 ^ j * 2 := Nat.pow_succ 2 j
    omega
  · exact b_big h
theorem zg_m_lt {j r e : Nat} (he : e < j) (hj : j < 8) : bt (nI (2 ^ j + r)) e = bt (nI r) e := by
  rw [zb_nI _ (by omega), zb_nI _ (by omega), Nat.testBit_two_pow_add_gt he]
theorem zg_tp_eq {j r : Nat} (hr : r < 2 ^ j) (hj : j < 8) : ∀ n c acc, c + n = 8 → c ≤ j → zg_tp (nI (2 ^ j + r)) n c acc = (1 : Int32) <<< (nI j &&& 31) := by
  intro n
  induction n with
  | zero => intro c acc h1 h2; omega
  | succ n ih =>
    intro c acc h1 h2
    show zg_tp (nI (2 ^ j + r)) n (c + 1) (if bt (nI (2 ^ j + r)) c = true then (1 : Int32) <<< (nI c &&& 31) else acc) = _
    by_cases hc : c = j
    · subst hc
      rw [if_pos (zg_m_j hr hj), zg_tp_stop _ _ _ (fun e he => zg_m_gt hr (by omega))]
    · exact ih (c + 1) _ (by omega) (by omega)
theorem zg_V_nI {k r : Nat} (hr : r < 2 ^ k) : zg_V k (nI r) := by
  intro e he
  rcases Nat.lt_or_ge e 32 with h | h
  · rw [zb_nI _ h]
    exact Nat.testBit_lt_two_pow (Nat.lt_of_lt_of_le hr (Nat.pow_le_pow_right (by omega) he))
  · exact b_big h
theorem zg_rest {j r : Nat} (hr : r < 2 ^ j) (hj : j < 8) : nI (2 ^ j + r) &&& (((1 : Int32) <<< (nI j &&& 31)) ^^^ (-1)) = nI r := by
  apply b_ext
  intro i hi
  rw [b_and, zb_not _ hi, zb_shl1 (by omega) hi]
  rcases Nat.lt_trichotomy i j with h | h | h
  · rw [zg_m_lt h hj, decide_eq_false (by omega)]; cases bt (nI r) i <;> rfl
  · subst h
    rw [decide_eq_true rfl, zg_V_nI hr _ (Nat.le_refl _)]; cases bt (nI (2 ^ i + r)) i <;> rfl
  · rw [zg_m_gt hr h, zg_V_nI hr i (by omega)]; rfl
theorem zg_pw8 : ∀ j, j < 8 → 2 ^ j ≤ 128 := by decide
theorem zg_pw : ∀ j, j ≤ 8 → 2 ^ j ≤ 256 := by decide
/-- every number but 0 is 2 ^ j + r -/
theorem zg_split {m : Nat} (h0 : 0 < m) : ∃ j r, r < 2 ^ j ∧ m = 2 ^ j + r := by
  refine ⟨m.log2, m - 2 ^ m.log2, ?_, ?_⟩
  · have h1 := Nat.log2_self_le (n := m) (by omega)
    have h2 := Nat.lt_log2_self (n := m)
    have h3 : 2 ^ (m.log2 + 1) = 2 ^ m.log2 * 2 := Nat.pow_succ 2 _
    omega
  · have h1 := Nat.log2_self_le (n := m) (by omega)
    omega
theorem zg_split_lt {j r k : Nat} (h : 2 ^ j + r < 2 ^ k) : j < k := by
  rcases Nat.lt_or_ge j k with h1 | h1
  · exact h1
  · have := Nat.pow_le_pow_right (n := 2) (by omega) h1
    omega
section
variable {cp : Int32} {P T N : Nat} {pr an tr kn wn wk wf lb lw ta we ca ou og ar ag : Nat → Int32}
theorem zx_top4 {post : Int32 → Prop} {m : Int32} : ∀ n c acc, c + n = 8 → post (zg_tp m n c acc) → wX_topOf_4 post m cp (nI P) (nI T) (nI N) pr an tr kn wn wk wf lb lw ta we ca ou og ar ag (n + 1) acc (nI c) := by
  intro n
  induction n with
  | zero =>
    intro c acc hc h
    exact br_t (nI_le (a := 8) (by omega) (by omega)) h
  | succ n ih =>
    intro c acc hc h
    have h' : post (zg_tp m n (c + 1) (if bt m c = true then (1 : Int32) <<< (nI c &&& 31) else acc)) := h
    refine br_f (nI_ge (b := 8) (by omega) (by omega)) (br_c (fun e => ?_) (fun e => ?_))
    · rw [zb_t0 m (by omega)] at e
      rw [if_neg (by rw [e]; decide)] at h'
      exact nm_r (nI_1 c) (ih (c + 1) acc (by omega) h')
    · rw [zb_t0 m (by omega)] at e
      rw [if_pos (by simpa using e)] at h'
      exact nm_e (nm_r (nI_1 c) (ih (c + 1) _ (by omega) h'))
theorem zx_topOf {post : Int32 → Prop} {j r : Nat} (hr : r < 2 ^ j) (hj : j < 8) (h : post (nI (2 ^ j))) : wpX_topOf post (cp, nI P, nI T, nI N, pr, an, tr, kn, wn, wk, wf, lb, lw, ta, we, ca, ou, og, ar, ag) (nI (2 ^ j + r)) := by
  refine ⟨9, zx_top4 8 0 0 rfl ?_⟩
  rw [zg_tp_eq hr hj 8 0 0 rfl (by omega), zb_pow (by omega)]
  exact h
end
section
variable {fw fb cp : Int32} {P T N : Nat} {ce pr fl sg yw yc yr : Nat → Int32}
theorem zy_top19 {post : SY → Prop} {J2 : Int32 → Int32 → Int32 → Int32 → Int32 → Int32 → Int32 → (Nat → Int32) → (Nat → Int32) → (Nat → Int32) → (Nat → Int32) → (Nat → Int32) → (Nat → Int32) → (Nat → Int32) → Prop} {x1 m : Int32} {K : Int32 → Prop} (hK : ∀ t, K t → ((m = t → (∀ y : Int32, y = m + 1 → J2 y fw fb cp (nI P) (nI T) (nI N) ce pr fl sg yw yc yr)) ∧ (¬ m = t → (∀ y : Int32, y = m - t → (wpY_best (fun r => (wpY_threeWay (fun u => match u with | (g1, g2, g3, g4, g5, g6, g7, g8, g9, g10, g11, g12, g13) => (∀ z : Int32, z = m + 1 → J2 z g1 g2 g3 g4 g5 g6 g7 g8 g9 g10 g11 g12 g13)) (fw, fb, cp, nI P, nI T, nI N, ce, pr, fl, sg, yw, yc, yr) r y t m)) (fw, fb, cp, nI P, nI T, nI N, ce, pr, fl, sg, yw, yc, yr) y t))))) : ∀ n c acc, c + n = 8 → K (zg_tp m n c acc) → wY_virtualTrees_19 post J2 x1 m fw fb cp (nI P) (nI T) (nI N) ce pr fl sg yw yc yr (n + 1) acc (nI c) := by
  intro n
  induction n with
  | zero =>
    intro c acc hc h
    exact br_t (nI_le (a := 8) (by omega) (by omega)) (hK acc h)
  | succ n ih =>
    intro c acc hc h
    have h' : K (zg_tp m n (c + 1) (if bt m c = true then (1 : Int32) <<< (nI c &&& 31) else acc)) := h
    refine br_f (nI_ge (b := 8) (by omega) (by omega)) (br_c (fun e => ?_) (fun e => ?_))
    · rw [zb_t1 m (by omega)] at e
      rw [if_pos e] at h'
      exact nm_e (nm_r (nI_1 c) (ih (c + 1) _ (by omega) h'))
    · rw [zb_t1 m (by omega)] at e
      rw [if_neg e] at h'
      exact nm_r (nI_1 c) (ih (c + 1) acc (by omega) h')
end
end
section
/-! ===== renames, pure: the greedy choice ===== -/
/-- the pair p, q is free -/
def zr_ok (O S w c : Nat → Int32) (p q : Nat) : Bool := decide (¬ O p = 0 ∧ S p = 0 ∧ w p = -1 ∧ O q = 0 ∧ ¬ S q = 0 ∧ c q = -1)
theorem zr_ok_iff {O S w c : Nat → Int32} {p q : Nat} : zr_ok O S w c p q = true ↔ (¬ O p = 0 ∧ S p = 0 ∧ w p = -1 ∧ O q = 0 ∧ ¬ S q = 0 ∧ c q = -1) := decide_eq_true_iff
def zr_stp (O S : Nat → Int32) (s p q : Nat) (x : (Nat → Int32) × (Nat → Int32)) : (Nat → Int32) × (Nat → Int32) :=
  if zr_ok O S x.1 x.2 p q = true ∧ zp_lk (O p) (S q) = s then (upd x.1 p (nI q), upd x.2 q (nI p)) else x
def zr_scn (O S : Nat → Int32) (s : Nat) : Nat → Nat → (Nat → Int32) × (Nat → Int32) → (Nat → Int32) × (Nat → Int32)
  | 0, _, x => x
  | n + 1, k, x => zr_scn O S s n (k + 1) (zr_stp O S s (k / 8) (k % 8) x)
/-- scores t + j - 1 down to t -/
def zr_sca (O S : Nat → Int32) (t : Nat) : Nat → (Nat → Int32) × (Nat → Int32) → (Nat → Int32) × (Nat → Int32)
  | 0, x => x
  | j + 1, x => zr_sca O S t j (zr_scn O S (t + j) 64 0 x)
def zr_0 (O S : Nat → Int32) : (Nat → Int32) × (Nat → Int32) := (fun p => if O p = 0 then -1 else if S p = 0 then -1 else nI p, fun _ => -1)
def zr_all (t : Nat) (O S : Nat → Int32) : (Nat → Int32) × (Nat → Int32) := zr_sca O S t (5 - t) (zr_0 O S)
theorem zr_scn_add {O S : Nat → Int32} {s : Nat} : ∀ n m k x, zr_scn O S s (n + m) k x = zr_scn O S s m (k + n) (zr_scn O S s n k x) := by
  intro n
  induction n with
  | zero => intro m k x; rw [Nat.zero_add]; rfl
  | succ n ih =>
    intro m k x
    have e : n + 1 + m = (n + m) + 1 := by omega
    have e2 : k + (n + 1) = (k + 1) + n := by omega
    rw [e, e2]
    show zr_scn O S s (n + m) (k + 1) _ = zr_scn O S s m (k + 1 + n) (zr_scn O S s n (k + 1) _)
    rw [ih]
/-- steps where nothing is free -/
theorem zr_scn_no {O S : Nat → Int32} {s : Nat} : ∀ n k x, (∀ i, k ≤ i → i < k + n → zr_ok O S x.1 x.2 (i / 8) (i % 8) = false) → zr_scn O S s n k x = x := by
  intro n
  induction n with
  | zero => intro k x _; rfl
  | succ n ih =>
    intro k x h
    have e : zr_stp O S s (k / 8) (k % 8) x = x := by
      unfold zr_stp
      rw [if_neg]
      rintro ⟨h1, _⟩
      rw [h k (by omega) (by omega)] at h1
      exact absurd h1 (by decide)
    show zr_scn O S s n (k + 1) (zr_stp O S s (k / 8) (k % 8) x) = x
    rw [e]
    exact ih (k + 1) x (fun i h1 h2 => h i (by omega) (by omega))
/-- what holds of the maps at all times -/
def zr_inv (O S : Nat → Int32) (x : (Nat → Int32) × (Nat → Int32)) : Prop :=
  (∀ p, p < 8 → x.1 p = -1 ∨ ∃ q, q < 8 ∧ x.1 p = nI q ∧ ¬ S q = 0) ∧
  (∀ q, q < 8 → x.2 q = -1 ∨ ∃ p, p < 8 ∧ x.2 q = nI p ∧ x.1 p = nI q ∧ ¬ O p = 0 ∧ ¬ S q = 0 ∧ O q = 0)
theorem zr_m1 {n : Nat} (h : n < 2 ^ 31) : ¬ nI n = -1 := by
  intro z
  have := congrArg Int32.toInt z
  rw [nI_toInt h] at this
  have h2 : (-1 : Int32).toInt = -1 := by decide
  omega
theorem zr_stp_inv {O S : Nat → Int32} {s p q : Nat} {x : (Nat → Int32) × (Nat → Int32)} (hp : p < 8) (hq : q < 8) (h : zr_inv O S x) : zr_inv O S (zr_stp O S s p q x) := by
  unfold zr_stp
  by_cases hc : zr_ok O S x.1 x.2 p q = true ∧ zp_lk (O p) (S q) = s
  · rw [if_pos hc]
    obtain ⟨h1, h2, h3, h4, h5, h6⟩ := zr_ok_iff.mp hc.1
    refine ⟨?_, ?_⟩
    · intro p' hp'
      by_cases e : p' = p
      · subst e; exact Or.inr ⟨q, hq, pk_us, h5⟩
      · rcases h.1 p' hp' with z | ⟨q', z1, z2, z3⟩
        · exact Or.inl ((pk_un e).trans z)
        · exact Or.inr ⟨q', z1, (pk_un e).trans z2, z3⟩
    · intro q' hq'
      by_cases e : q' = q
      · subst e; exact Or.inr ⟨p, hp, pk_us, pk_us, h1, h5, h4⟩
      · rcases h.2 q' hq' with z | ⟨p', z1, z2, z3, z4, z5, z6⟩
        · exact Or.inl ((pk_un e).trans z)
        · refine Or.inr ⟨p', z1, (pk_un e).trans z2, ?_, z4, z5, z6⟩
          by_cases e2 : p' = p
          · subst e2; rw [h3] at z3; exact absurd z3.symm (zr_m1 (by omega))
          · exact (pk_un e2).trans z3
  · rw [if_neg hc]; exact h
theorem zr_scn_inv {O S : Nat → Int32} {s : Nat} : ∀ n k x, k + n ≤ 64 → zr_inv O S x → zr_inv O S (zr_scn O S s n k x) := by
  intro n
  induction n with
  | zero => intro k x _ h; exact h
  | succ n ih =>
    intro k x hk h
    exact ih (k + 1) _ (by omega) (zr_stp_inv (by omega) (by omega) h)
theorem zr_sca_inv {O S : Nat → Int32} {t : Nat} : ∀ j x, zr_inv O S x → zr_inv O S (zr_sca O S t j x) := by
  intro j
  induction j with
  | zero => intro x h; exact h
  | succ j ih => intro x h; exact ih _ (zr_scn_inv 64 0 x (by omega) h)
theorem zr_0_inv (O S : Nat → Int32) : zr_inv O S (zr_0 O S) := by
  refine ⟨?_, fun q _ => Or.inl rfl⟩
  intro p hp
  show (if O p = 0 then -1 else if S p = 0 then -1 else nI p) = -1 ∨ ∃ q, q < 8 ∧ (if O p = 0 then -1 else if S p = 0 then -1 else nI p) = nI q ∧ ¬ S q = 0
  by_cases h1 : O p = 0
  · rw [if_pos h1]; exact Or.inl rfl
  · rw [if_neg h1]
    by_cases h2 : S p = 0
    · rw [if_pos h2]; exact Or.inl rfl
    · rw [if_neg h2]; exact Or.inr ⟨p, hp, rfl, h2⟩
theorem zr_all_inv (t : Nat) (O S : Nat → Int32) : zr_inv O S (zr_all t O S) := zr_sca_inv _ _ (zr_0_inv O S)
/-- beyond the paths nothing happens -/
def zr_far (P : Nat) (x : (Nat → Int32) × (Nat → Int32)) : Prop := ∀ p, P ≤ p → x.1 p = -1 ∧ x.2 p = -1
theorem zr_stp_far {O S : Nat → Int32} {s p q P : Nat} {x : (Nat → Int32) × (Nat → Int32)} (hO : ∀ p, P ≤ p → O p = 0) (hS : ∀ p, P ≤ p → S p = 0) (h : zr_far P x) : zr_far P (zr_stp O S s p q x) := by
  unfold zr_stp
  by_cases hc : zr_ok O S x.1 x.2 p q = true ∧ zp_lk (O p) (S q) = s
  · rw [if_pos hc]
    obtain ⟨h1, h2, h3, h4, h5, h6⟩ := zr_ok_iff.mp hc.1
    have hp : p < P := by
      rcases Nat.lt_or_ge p P with z | z
      · exact z
      · exact absurd (hO p z) h1
    have hq : q < P := by
      rcases Nat.lt_or_ge q P with z | z
      · exact z
      · exact absurd (hS q z) h5
    intro p' hp'
    exact ⟨(pk_un (by omega)).trans (h p' hp').1, (pk_un (by omega)).trans (h p' hp').2⟩
  · rw [if_neg hc]; exact h
theorem zr_scn_far {O S : Nat → Int32} {s P : Nat} (hO : ∀ p, P ≤ p → O p = 0) (hS : ∀ p, P ≤ p → S p = 0) : ∀ n k x, zr_far P x → zr_far P (zr_scn O S s n k x) := by
  intro n
  induction n with
  | zero => intro k x h; exact h
  | succ n ih => intro k x h; exact ih (k + 1) _ (zr_stp_far hO hS h)
theorem zr_sca_far {O S : Nat → Int32} {t P : Nat} (hO : ∀ p, P ≤ p → O p = 0) (hS : ∀ p, P ≤ p → S p = 0) : ∀ j x, zr_far P x → zr_far P (zr_sca O S t j x) := by
  intro j
  induction j with
  | zero => intro x h; exact h
  | succ j ih => intro x h; exact ih _ (zr_scn_far hO hS 64 0 x h)
theorem zr_all_far {O S : Nat → Int32} {P : Nat} (t : Nat) (hO : ∀ p, P ≤ p → O p = 0) (hS : ∀ p, P ≤ p → S p = 0) : zr_far P (zr_all t O S) :=
  zr_sca_far hO hS _ _ (fun p hp => ⟨if_pos (hO p hp), rfl⟩)
/-! ===== the same by rounds that choose the best pair ===== -/
/-- how many of the first n sources are free -/
def zr_fs (O S w : Nat → Int32) : Nat → Nat
  | 0 => 0
  | n + 1 => zr_fs O S w n + (if ¬ O n = 0 ∧ S n = 0 ∧ w n = -1 then 1 else 0)
theorem zr_fs_le (O S w : Nat → Int32) : ∀ n, zr_fs O S w n ≤ n := by
  intro n
  induction n with
  | zero => exact Nat.le_refl _
  | succ n ih =>
    show zr_fs O S w n + (if ¬ O n = 0 ∧ S n = 0 ∧ w n = -1 then 1 else 0) ≤ n + 1
    by_cases h : ¬ O n = 0 ∧ S n = 0 ∧ w n = -1
    · rw [if_pos h]; omega
    · rw [if_neg h]; omega
theorem zr_fs_ge {O S w : Nat → Int32} {p : Nat} {v : Int32} : ∀ n, n ≤ p → zr_fs O S (upd w p v) n = zr_fs O S w n := by
  intro n
  induction n with
  | zero => intro _; rfl
  | succ n ih =>
    intro h
    show zr_fs O S (upd w p v) n + (if ¬ O n = 0 ∧ S n = 0 ∧ upd w p v n = -1 then 1 else 0) = zr_fs O S w n + (if ¬ O n = 0 ∧ S n = 0 ∧ w n = -1 then 1 else 0)
    rw [ih (by omega), pk_un (by omega)]
theorem zr_fs_take {O S w : Nat → Int32} {p : Nat} {v : Int32} (h1 : ¬ O p = 0) (h2 : S p = 0) (h3 : w p = -1) (hv : ¬ v = -1) : ∀ n, p < n → zr_fs O S (upd w p v) n + 1 = zr_fs O S w n := by
  intro n
  induction n with
  | zero => intro h; omega
  | succ n ih =>
    intro h
    show zr_fs O S (upd w p v) n + (if ¬ O n = 0 ∧ S n = 0 ∧ upd w p v n = -1 then 1 else 0) + 1 = zr_fs O S w n + (if ¬ O n = 0 ∧ S n = 0 ∧ w n = -1 then 1 else 0)
    by_cases e : p = n
    · subst e
      rw [zr_fs_ge p (Nat.le_refl _), pk_us, if_neg (fun z => hv z.2.2), if_pos ⟨h1, h2, h3⟩]
    · rw [pk_un (fun z => e z.symm), ← ih (by omega)]; omega
/-- score and freedom of pair k -/
def zr_okk (O S : Nat → Int32) (x : (Nat → Int32) × (Nat → Int32)) (k : Nat) : Prop := zr_ok O S x.1 x.2 (k / 8) (k % 8) = true
def zr_lkk (O S : Nat → Int32) (k : Nat) : Nat := zp_lk (O (k / 8)) (S (k % 8))
def zr_take (k : Nat) (x : (Nat → Int32) × (Nat → Int32)) : (Nat → Int32) × (Nat → Int32) := (upd x.1 (k / 8) (nI (k % 8)), upd x.2 (k % 8) (nI (k / 8)))
/-- k is what a round picks -/
def zr_pick (O S : Nat → Int32) (t : Nat) (x : (Nat → Int32) × (Nat → Int32)) (k : Nat) : Prop :=
  k < 64 ∧ zr_okk O S x k ∧ t ≤ zr_lkk O S k ∧ (∀ i, i < 64 → zr_okk O S x i → zr_lkk O S i ≤ zr_lkk O S k) ∧ (∀ i, i < k → zr_okk O S x i → zr_lkk O S i < zr_lkk O S k)
/-- nothing free before (s, k) in the order of the scan -/
def zr_nb (O S : Nat → Int32) (s k : Nat) (x : (Nat → Int32) × (Nat → Int32)) : Prop :=
  ∀ i, i < 64 → zr_okk O S x i → zr_lkk O S i < s ∨ (zr_lkk O S i = s ∧ k ≤ i)
theorem zr_take_sub {O S : Nat → Int32} {x : (Nat → Int32) × (Nat → Int32)} {k i : Nat} (hk : k < 64) (h : zr_okk O S (zr_take k x) i) : zr_okk O S x i ∧ i / 8 ≠ k / 8 := by
  obtain ⟨h1, h2, h3, h4, h5, h6⟩ := zr_ok_iff.mp h
  have h3' : upd x.1 (k / 8) (nI (k % 8)) (i / 8) = -1 := h3
  have h6' : upd x.2 (k % 8) (nI (k / 8)) (i % 8) = -1 := h6
  have e1 : i / 8 ≠ k / 8 := by
    intro e
    rw [e, pk_us] at h3'
    exact zr_m1 (by omega) h3'
  have e2 : i % 8 ≠ k % 8 := by
    intro e
    rw [e, pk_us] at h6'
    exact zr_m1 (by omega) h6'
  rw [pk_un e1] at h3'
  rw [pk_un e2] at h6'
  exact ⟨zr_ok_iff.mpr ⟨h1, h2, h3', h4, h5, h6'⟩, e1⟩
theorem zr_scn_sim {O S : Nat → Int32} {t s : Nat} {W : Nat → (Nat → Int32) × (Nat → Int32) → Prop} (hpick : ∀ n x k, n < 8 → zr_pick O S t x k → W n (zr_take k x) → W (n + 1) x) (hts : t ≤ s) : ∀ m k x n, k + m = 64 → n ≤ 8 → zr_nb O S s k x → zr_fs O S x.1 8 ≤ n → (∀ n', n' ≤ 8 → zr_fs O S (zr_scn O S s m k x).1 8 ≤ n' → zr_nb O S s 64 (zr_scn O S s m k x) → W n' (zr_scn O S s m k x)) → W n x := by
  intro m
  induction m with
  | zero =>
    intro k x n hk hn hb hf h
    have e : k = 64 := by omega
    subst e
    exact h n hn hf hb
  | succ m ih =>
    intro k x n hk hn hb hf h
    by_cases hc : zr_ok O S x.1 x.2 (k / 8) (k % 8) = true ∧ zp_lk (O (k / 8)) (S (k % 8)) = s
    · have e : zr_stp O S s (k / 8) (k % 8) x = zr_take k x := if_pos hc
      have h' : ∀ n', n' ≤ 8 → zr_fs O S (zr_scn O S s m (k + 1) (zr_stp O S s (k / 8) (k % 8) x)).1 8 ≤ n' → zr_nb O S s 64 (zr_scn O S s m (k + 1) (zr_stp O S s (k / 8) (k % 8) x)) → W n' (zr_scn O S s m (k + 1) (zr_stp O S s (k / 8) (k % 8) x)) := h
      rw [e] at h'
      obtain ⟨h1, h2, h3, h4, h5, h6⟩ := zr_ok_iff.mp hc.1
      have hfs : zr_fs O S (zr_take k x).1 8 + 1 = zr_fs O S x.1 8 := zr_fs_take h1 h2 h3 (zr_m1 (by omega)) 8 (by omega)
      obtain ⟨n0, rfl⟩ : ∃ n0, n = n0 + 1 := ⟨n - 1, by omega⟩
      refine hpick n0 x k (by omega) ⟨by omega, hc.1, ?_, ?_, ?_⟩ (ih (k + 1) (zr_take k x) n0 (by omega) (by omega) ?_ (by omega) h')
      · have : zr_lkk O S k = s := hc.2
        omega
      · intro i hi hok
        have : zr_lkk O S k = s := hc.2
        rcases hb i hi hok with z | z <;> omega
      · intro i hi hok
        have : zr_lkk O S k = s := hc.2
        rcases hb i (by omega) hok with z | z <;> omega
      · intro i hi hok
        obtain ⟨z1, z2⟩ := zr_take_sub (by omega) hok
        rcases hb i hi z1 with z | z
        · exact Or.inl z
        · refine Or.inr ⟨z.1, ?_⟩
          have : i ≠ k := fun z => z2 (by rw [z])
          omega
    · have e : zr_stp O S s (k / 8) (k % 8) x = x := if_neg hc
      have h' : ∀ n', n' ≤ 8 → zr_fs O S (zr_scn O S s m (k + 1) (zr_stp O S s (k / 8) (k % 8) x)).1 8 ≤ n' → zr_nb O S s 64 (zr_scn O S s m (k + 1) (zr_stp O S s (k / 8) (k % 8) x)) → W n' (zr_scn O S s m (k + 1) (zr_stp O S s (k / 8) (k % 8) x)) := h
      rw [e] at h'
      refine ih (k + 1) x n (by omega) hn ?_ hf h'
      intro i hi hok
      rcases hb i hi hok with z | z
      · exact Or.inl z
      · refine Or.inr ⟨z.1, ?_⟩
        have : i ≠ k := by
          intro z2
          subst z2
          exact hc ⟨hok, z.1⟩
        omega
theorem zr_sca_sim {O S : Nat → Int32} {t : Nat} {W : Nat → (Nat → Int32) × (Nat → Int32) → Prop} (hpick : ∀ n x k, n < 8 → zr_pick O S t x k → W n (zr_take k x) → W (n + 1) x) : ∀ j x n, n ≤ 8 → (∀ i, i < 64 → zr_okk O S x i → zr_lkk O S i < t + j) → zr_fs O S x.1 8 ≤ n → (∀ n', n' ≤ 8 → (∀ i, i < 64 → zr_okk O S (zr_sca O S t j x) i → zr_lkk O S i < t) → W n' (zr_sca O S t j x)) → W n x := by
  intro j
  induction j with
  | zero =>
    intro x n hn hb hf h
    exact h n hn hb
  | succ j ih =>
    intro x n hn hb hf h
    refine zr_scn_sim (s := t + j) hpick (by omega) 64 0 x n rfl hn ?_ hf ?_
    · intro i hi hok
      have := hb i hi hok
      omega
    · intro n' hn' hf' hb'
      refine ih _ n' hn' ?_ hf' h
      intro i hi hok
      rcases hb' i hi hok with z | z
      · exact z
      · omega
/-- rounds that pick the best pair end where the scan ends -/
theorem zr_all_sim {O S : Nat → Int32} {t : Nat} (ht : t ≤ 4) {W : Nat → (Nat → Int32) × (Nat → Int32) → Prop} (hpick : ∀ n x k, n < 8 → zr_pick O S t x k → W n (zr_take k x) → W (n + 1) x) (hend : ∀ n', n' ≤ 8 → (∀ i, i < 64 → zr_okk O S (zr_all t O S) i → zr_lkk O S i < t) → W n' (zr_all t O S)) : W 8 (zr_0 O S) := by
  refine zr_sca_sim hpick (5 - t) (zr_0 O S) 8 (by omega) ?_ (zr_fs_le _ _ _ 8) hend
  intro i _ _
  have : zr_lkk O S i ≤ 4 := zp_lk_le _ _
  omega
end
section
/-! ===== X: findRenames ===== -/
/-- row r of the table of trees, at place i of the merge at work, is O -/
def zx_Row (P : Nat) (tr ta : Nat → Int32) (i r : Nat) (O : Nat → Int32) : Prop :=
  ta i = nI (r * 8) ∧ r < 256 ∧ (∀ p, p < P → tr (r * 8 + p) = O p) ∧ (∀ p, P ≤ p → O p = 0)
def zx_Rn (sd P : Nat) (x : (Nat → Int32) × (Nat → Int32)) (we0 ca0 we ca : Nat → Int32) : Prop :=
  (∀ p, p < P → we (sd * 8 + p) = x.1 p ∧ ca (sd * 8 + p) = x.2 p) ∧ (∀ j, (j < sd * 8 ∨ sd * 8 + 8 ≤ j) → we j = we0 j ∧ ca j = ca0 j)
theorem zx_i8 (a b : Nat) : nI a * 8 + nI b = nI (a * 8 + b) := by rw [← nI_add, ← pk_mul]; rfl
section
variable {cp : Int32} {P T N : Nat} {pr an tr kn wn wk wf lb lw ta we ca ou og ar ag : Nat → Int32} {O S : Nat → Int32} {sd ro rs : Nat}
theorem zx_atO {post : Int32 → Prop} {i r p : Nat} (hi : i < 3) (hP : P ≤ 8) (hR : zx_Row P tr ta i r O) (hp : p < P) (h : post (O p)) : wpX_at post (cp, nI P, nI T, nI N, pr, an, tr, kn, wn, wk, wf, lb, lw, ta, we, ca, ou, og, ar, ag) (nI i) (nI p) := by
  refine zx_at hi hR.1 hR.2.1 (by omega) ?_
  rw [hR.2.2.1 p hp]; exact h
theorem zx_freeSource {post : Int32 → Prop} {p : Nat} (hsd : sd < 3) (hP : P ≤ 8) (hO : zx_Row P tr ta 0 ro O) (hS : zx_Row P tr ta sd rs S) (hp : p < P) (h1 : (¬ O p = 0 ∧ S p = 0 ∧ we (sd * 8 + p) = -1) → post 1) (h0 : ¬ (¬ O p = 0 ∧ S p = 0 ∧ we (sd * 8 + p) = -1) → post 0) : wpX_freeSource post (cp, nI P, nI T, nI N, pr, an, tr, kn, wn, wk, wf, lb, lw, ta, we, ca, ou, og, ar, ag) (nI sd) (nI p) := by
  have c0 : (nI sd * 8 + nI p).toNatClampNeg = sd * 8 + p := by rw [zx_i8]; exact nI_clamp (by omega)
  have i0 : vp_in (nI sd * 8 + nI p) 24 := by rw [zx_i8]; exact vp_in_nI (by omega) (by omega)
  unfold wpX_freeSource
  refine zx_atO (i := 0) (by omega) hP hO hp (br_c (fun e => h0 (fun z => z.1 e)) (fun n1 => ?_))
  refine zx_atO hsd hP hS hp (br_c (fun e => ⟨i0, br_c (fun f => ?_) (fun f => ?_)⟩) (fun n2 => h0 (fun z => n2 z.2.1)))
  · rw [c0] at f; exact h1 ⟨n1, e, f⟩
  · rw [c0] at f; exact h0 (fun z => f z.2.2)
theorem zx_freeTarget {post : Int32 → Prop} {p : Nat} (hsd : sd < 3) (hP : P ≤ 8) (hO : zx_Row P tr ta 0 ro O) (hS : zx_Row P tr ta sd rs S) (hp : p < P) (h1 : (O p = 0 ∧ ¬ S p = 0 ∧ ca (sd * 8 + p) = -1) → post 1) (h0 : ¬ (O p = 0 ∧ ¬ S p = 0 ∧ ca (sd * 8 + p) = -1) → post 0) : wpX_freeTarget post (cp, nI P, nI T, nI N, pr, an, tr, kn, wn, wk, wf, lb, lw, ta, we, ca, ou, og, ar, ag) (nI sd) (nI p) := by
  have c0 : (nI sd * 8 + nI p).toNatClampNeg = sd * 8 + p := by rw [zx_i8]; exact nI_clamp (by omega)
  have i0 : vp_in (nI sd * 8 + nI p) 24 := by rw [zx_i8]; exact vp_in_nI (by omega) (by omega)
  unfold wpX_freeTarget
  refine zx_atO (i := 0) (by omega) hP hO hp (br_c (fun n1 => ?_) (fun n1 => h0 (fun z => n1 z.1)))
  refine zx_atO hsd hP hS hp (br_c (fun e => h0 (fun z => z.2.1 e)) (fun e => ⟨i0, br_c (fun f => ?_) (fun f => ?_)⟩))
  · rw [c0] at f; exact h1 ⟨n1, e, f⟩
  · rw [c0] at f; exact h0 (fun z => f z.2.2)
theorem zx_tp13 {post : SX → Prop} {J2 : Int32 → (Nat → Int32) → (Nat → Int32) → (Nat → Int32) → (Nat → Int32) → (Nat → Int32) → (Nat → Int32) → (Nat → Int32) → (Nat → Int32) → (Nat → Int32) → (Nat → Int32) → (Nat → Int32) → (Nat → Int32) → (Nat → Int32) → (Nat → Int32) → (Nat → Int32) → (Nat → Int32) → Prop} {s p : Nat} {we0 ca0 : Nat → Int32} (hsd : sd < 3) (hP : P ≤ 8) (hO : zx_Row P tr ta 0 ro O) (hS : zx_Row P tr ta sd rs S) (hp : p < P) (hs : s ≤ 4) : ∀ n q x (we ca : Nat → Int32), q + n = P → zx_Rn sd P x we0 ca0 we ca → (∀ we' ca', zx_Rn sd P (zr_scn O S s (8 - q) (p * 8 + q) x) we0 ca0 we' ca' → J2 (nI (p + 1)) pr an tr kn wn wk wf lb lw ta we' ca' ou og ar ag) → wX_takePairs_13 post J2 (nI sd) (nI s) (nI p) cp (nI P) (nI T) (nI N) (n + 1) (nI q) pr an tr kn wn wk wf lb lw ta we ca ou og ar ag := by
  intro n
  induction n with
  | zero =>
    intro q x we ca hq hR h
    refine br_t (nI_le (by omega) (by omega)) (nm_r (nI_1 p) (h we ca ?_))
    rw [zr_scn_no]
    · exact hR
    · intro i h1 h2
      have e : i % 8 ≥ P := by omega
      cases hb : zr_ok O S x.1 x.2 (i / 8) (i % 8)
      · rfl
      · exact absurd (hS.2.2.2 _ e) (zr_ok_iff.mp hb).2.2.2.2.1
  | succ n ih =>
    intro q x we ca hq hR h
    have e8 : 8 - q = (8 - (q + 1)) + 1 := by omega
    have ek1 : (p * 8 + q) / 8 = p := by omega
    have ek2 : (p * 8 + q) % 8 = q := by omega
    have h' : ∀ we' ca', zx_Rn sd P (zr_scn O S s (8 - (q + 1)) (p * 8 + (q + 1)) (zr_stp O S s p q x)) we0 ca0 we' ca' → J2 (nI (p + 1)) pr an tr kn wn wk wf lb lw ta we' ca' ou og ar ag := by
      intro we' ca' z
      refine h we' ca' ?_
      rw [e8]
      show zx_Rn sd P (zr_scn O S s (8 - (q + 1)) (p * 8 + q + 1) (zr_stp O S s ((p * 8 + q) / 8) ((p * 8 + q) % 8) x)) we0 ca0 we' ca'
      rw [ek1, ek2]; exact z
    have hno : ¬ (zr_ok O S x.1 x.2 p q = true ∧ zp_lk (O p) (S q) = s) → wX_takePairs_13 post J2 (nI sd) (nI s) (nI p) cp (nI P) (nI T) (nI N) (n + 1) (nI (q + 1)) pr an tr kn wn wk wf lb lw ta we ca ou og ar ag := by
      intro hc
      refine ih (q + 1) x we ca (by omega) hR ?_
      have e : zr_stp O S s p q x = x := if_neg hc
      rw [e] at h'; exact h'
    have rp := hR.1 p hp
    have rq := hR.1 q (by omega)
    refine br_f (nI_ge (by omega) (by omega)) (zx_freeSource hsd hP hO hS hp (fun f1 => br_f (by decide) ?_) (fun f0 => br_t rfl (nm_r (nI_1 q) (hno ?_))))
    · refine zx_freeTarget hsd hP hO hS (by omega) (fun f2 => br_f (by decide) ?_) (fun f0 => br_t rfl (nm_r (nI_1 q) (hno ?_)))
      · refine zx_likeness hsd hO.1 hO.2.1 hS.1 hS.2.1 (by omega) (by omega) ?_
        rw [hO.2.2.1 p hp, hS.2.2.1 q (by omega)]
        have hl := zp_lk_le (O p) (S q)
        refine br_c (fun f3 => ?_) (fun f3 => nm_r (nI_1 q) (hno ?_))
        · rw [nI_eq (by omega) (by omega)] at f3
          have hok : zr_ok O S x.1 x.2 p q = true := zr_ok_iff.mpr ⟨f1.1, f1.2.1, rp.1.symm.trans f1.2.2, f2.1, f2.2.1, rq.2.symm.trans f2.2.2⟩
          have e : zr_stp O S s p q x = (upd x.1 p (nI q), upd x.2 q (nI p)) := if_pos ⟨hok, f3⟩
          rw [e] at h'
          refine ⟨?_, nm_r (e' := upd we (sd * 8 + p) (nI q)) ?_ ⟨?_, nm_r (e' := upd ca (sd * 8 + q) (nI p)) ?_ (nm_r (nI_1 q) (ih (q + 1) _ _ _ (by omega) ?_ h'))⟩⟩
          · rw [zx_i8]; exact vp_in_nI (by omega) (by omega)
          · rw [zx_i8, nI_clamp (by omega)]
          · rw [zx_i8]; exact vp_in_nI (by omega) (by omega)
          · rw [zx_i8, nI_clamp (by omega)]
          · refine ⟨?_, ?_⟩
            · intro p' hp'
              refine ⟨?_, ?_⟩
              · by_cases z : p' = p
                · subst z; exact pk_us.trans pk_us.symm
                · exact (pk_un (by omega)).trans ((hR.1 p' hp').1.trans (pk_un z).symm)
              · by_cases z : p' = q
                · subst z; exact pk_us.trans pk_us.symm
                · exact (pk_un (by omega)).trans ((hR.1 p' hp').2.trans (pk_un z).symm)
            · intro j hj
              exact ⟨(pk_un (by omega)).trans (hR.2 j hj).1, (pk_un (by omega)).trans (hR.2 j hj).2⟩
        · rintro ⟨z1, z2⟩
          exact f3 (by rw [z2])
      · rintro ⟨z1, z2⟩
        obtain ⟨g1, g2, g3, g4, g5, g6⟩ := zr_ok_iff.mp z1
        exact f0 ⟨g4, g5, rq.2.trans g6⟩
    · rintro ⟨z1, z2⟩
      obtain ⟨g1, g2, g3, g4, g5, g6⟩ := zr_ok_iff.mp z1
      exact f0 ⟨g1, g2, rp.1.trans g3⟩
theorem zx_tp2 {post : SX → Prop} {s : Nat} {we0 ca0 : Nat → Int32} (hsd : sd < 3) (hP : P ≤ 8) (hO : zx_Row P tr ta 0 ro O) (hS : zx_Row P tr ta sd rs S) (hs : s ≤ 4) : ∀ n p x (we ca : Nat → Int32), p + n = P → zx_Rn sd P x we0 ca0 we ca → (∀ we' ca', zx_Rn sd P (zr_scn O S s (64 - p * 8) (p * 8) x) we0 ca0 we' ca' → post (cp, nI P, nI T, nI N, pr, an, tr, kn, wn, wk, wf, lb, lw, ta, we', ca', ou, og, ar, ag)) → wX_takePairs_2 post (nI sd) (nI s) cp (nI P) (nI T) (nI N) (n + 1) (nI p) pr an tr kn wn wk wf lb lw ta we ca ou og ar ag := by
  intro n
  induction n with
  | zero =>
    intro p x we ca hp hR h
    refine br_t (nI_le (by omega) (by omega)) (h we ca ?_)
    rw [zr_scn_no]
    · exact hR
    · intro i h1 h2
      have e : i / 8 ≥ P := by omega
      cases hb : zr_ok O S x.1 x.2 (i / 8) (i % 8)
      · rfl
      · exact absurd (hO.2.2.2 _ e) (zr_ok_iff.mp hb).1
  | succ n ih =>
    intro p x we ca hp hR h
    refine br_f (nI_ge (by omega) (by omega)) ⟨P + 1, zx_tp13 (O := O) (S := S) hsd hP hO hS (by omega) hs P 0 x we ca (by omega) hR ?_⟩
    intro we' ca' hR'
    refine ih (p + 1) _ we' ca' (by omega) hR' ?_
    intro we'' ca'' hR''
    refine h we'' ca'' ?_
    have e : 64 - p * 8 = 8 + (64 - (p + 1) * 8) := by omega
    rw [e, zr_scn_add]
    have e2 : (p + 1) * 8 = p * 8 + 8 := by omega
    rw [e2] at hR''
    rw [e2]
    exact hR''
theorem zx_takePairs {post : SX → Prop} {s : Nat} {we0 ca0 : Nat → Int32} {x : (Nat → Int32) × (Nat → Int32)} (hsd : sd < 3) (hP : P ≤ 8) (hO : zx_Row P tr ta 0 ro O) (hS : zx_Row P tr ta sd rs S) (hs : s ≤ 4) (hR : zx_Rn sd P x we0 ca0 we ca) (h : ∀ we' ca', zx_Rn sd P (zr_scn O S s 64 0 x) we0 ca0 we' ca' → post (cp, nI P, nI T, nI N, pr, an, tr, kn, wn, wk, wf, lb, lw, ta, we', ca', ou, og, ar, ag)) : wpX_takePairs post (cp, nI P, nI T, nI N, pr, an, tr, kn, wn, wk, wf, lb, lw, ta, we, ca, ou, og, ar, ag) (nI sd) (nI s) :=
  ⟨P + 1, zx_tp2 (O := O) (S := S) hsd hP hO hS hs P 0 x we ca (by omega) hR h⟩
theorem zx_fr74 {post : SX → Prop} {we0 ca0 : Nat → Int32} (hsd : sd < 3) (hP : P ≤ 8) (hT : 1 ≤ T) (hO : zx_Row P tr ta 0 ro O) (hS : zx_Row P tr ta sd rs S) : ∀ j x (we ca : Nat → Int32), T + j ≤ 5 → zx_Rn sd P x we0 ca0 we ca → (∀ we' ca', zx_Rn sd P (zr_sca O S T j x) we0 ca0 we' ca' → post (cp, nI P, nI T, nI N, pr, an, tr, kn, wn, wk, wf, lb, lw, ta, we', ca', ou, og, ar, ag)) → wX_findRenames_74 post (nI sd) (j + 1) (nI (T + j - 1)) cp (nI P) (nI T) (nI N) pr an tr kn wn wk wf lb lw ta we ca ou og ar ag := by
  intro j
  induction j with
  | zero =>
    intro x we ca hj hR h
    exact br_t (nI_lt (by omega) (by omega)) (h we ca hR)
  | succ j ih =>
    intro x we ca hj hR h
    have e1 : T + (j + 1) - 1 = T + j := by omega
    rw [e1]
    refine br_f (nI_nlt (by omega) (by omega)) (zx_takePairs (O := O) (S := S) hsd hP hO hS (by omega) hR ?_)
    intro we' ca' hR'
    refine nm_r (e' := nI (T + j - 1)) (sb_m1 (by omega)) ?_
    exact ih _ we' ca' (by omega) hR' h
theorem zx_fr53 {post : SX → Prop} {J2 : Int32 → (Nat → Int32) → (Nat → Int32) → (Nat → Int32) → (Nat → Int32) → (Nat → Int32) → (Nat → Int32) → (Nat → Int32) → (Nat → Int32) → (Nat → Int32) → (Nat → Int32) → (Nat → Int32) → (Nat → Int32) → (Nat → Int32) → (Nat → Int32) → (Nat → Int32) → (Nat → Int32) → Prop} {p : Nat} {z0 : Int32} (hsd : sd < 3) (hp : p < 8) (h : J2 (nI (p + 1)) pr an tr kn wn wk wf lb lw ta (upd we (sd * 8 + p) z0) (upd ca (sd * 8 + p) (-1)) ou og ar ag) : wX_findRenames_53 post J2 (nI sd) (nI p) z0 (nI sd * 8 + nI p) cp (nI P) (nI T) (nI N) pr an tr kn wn wk wf lb lw ta we ca ou og ar ag := by
  have c0 : (nI sd * 8 + nI p).toNatClampNeg = sd * 8 + p := by rw [zx_i8]; exact nI_clamp (by omega)
  have i0 : vp_in (nI sd * 8 + nI p) 24 := by rw [zx_i8]; exact vp_in_nI (by omega) (by omega)
  exact ⟨i0, nm_r (e' := upd we (sd * 8 + p) z0) (by rw [c0]) ⟨i0, nm_r (e' := upd ca (sd * 8 + p) (-1)) (by rw [c0]) (nm_r (nI_1 p) h)⟩⟩
theorem zx_fr2 {post : SX → Prop} {we0 ca0 : Nat → Int32} (hsd : sd < 3) (hP : P ≤ 8) (hT : 1 ≤ T ∧ T ≤ 4) (hO : zx_Row P tr ta 0 ro O) (hS : zx_Row P tr ta sd rs S) (h : ∀ we' ca', zx_Rn sd P (zr_all T O S) we0 ca0 we' ca' → post (cp, nI P, nI T, nI N, pr, an, tr, kn, wn, wk, wf, lb, lw, ta, we', ca', ou, og, ar, ag)) : ∀ n p (we ca : Nat → Int32), p + n = P → (∀ p', p' < p → we (sd * 8 + p') = (zr_0 O S).1 p' ∧ ca (sd * 8 + p') = (zr_0 O S).2 p') → (∀ j, (j < sd * 8 ∨ sd * 8 + 8 ≤ j) → we j = we0 j ∧ ca j = ca0 j) → wX_findRenames_2 post (nI sd) cp (nI P) (nI T) (nI N) (n + 1) (nI p) pr an tr kn wn wk wf lb lw ta we ca ou og ar ag := by
  intro n
  induction n with
  | zero =>
    intro p we ca hp h1 h2
    have e : p = P := by omega
    subst e
    refine br_t (nI_le (by omega) (by omega)) ⟨(5 - T) + 1, ?_⟩
    have e5 : (4 : Int32) = nI (T + (5 - T) - 1) := congrArg nI (show 4 = T + (5 - T) - 1 by omega)
    rw [e5]
    exact zx_fr74 (O := O) (S := S) hsd hP hT.1 hO hS (5 - T) (zr_0 O S) we ca (by omega) ⟨h1, h2⟩ h
  | succ n ih =>
    intro p we ca hp h1 h2
    have key : ∀ z0, (zr_0 O S).1 p = z0 → wX_findRenames_53 post (wX_findRenames_2 post (nI sd) cp (nI P) (nI T) (nI N) (n + 1)) (nI sd) (nI p) z0 (nI sd * 8 + nI p) cp (nI P) (nI T) (nI N) pr an tr kn wn wk wf lb lw ta we ca ou og ar ag := by
      intro z0 hz
      refine zx_fr53 hsd (by omega) (ih (p + 1) _ _ (by omega) ?_ ?_)
      · intro p' hp'
        by_cases e : p' = p
        · subst e; exact ⟨pk_us.trans hz.symm, pk_us⟩
        · exact ⟨(pk_un (by omega)).trans (h1 p' (by omega)).1, (pk_un (by omega)).trans (h1 p' (by omega)).2⟩
      · intro j hj
        exact ⟨(pk_un (by omega)).trans (h2 j hj).1, (pk_un (by omega)).trans (h2 j hj).2⟩
    refine br_f (nI_ge (by omega) (by omega)) (zx_atO (i := 0) (by omega) hP hO (by omega) (br_c (fun e1 => ?_) (fun e1 => ?_)))
    · exact br_t rfl (key _ (if_pos e1))
    · refine zx_atO hsd hP hS (by omega) (br_c (fun e2 => ?_) (fun e2 => ?_))
      · exact br_t rfl (key _ ((if_neg e1).trans (if_pos e2)))
      · exact br_f (by decide) (key _ ((if_neg e1).trans (if_neg e2)))
theorem zx_findRenames {post : SX → Prop} (hsd : sd < 3) (hP : P ≤ 8) (hT : 1 ≤ T ∧ T ≤ 4) (hO : zx_Row P tr ta 0 ro O) (hS : zx_Row P tr ta sd rs S) (h : ∀ we' ca', zx_Rn sd P (zr_all T O S) we ca we' ca' → post (cp, nI P, nI T, nI N, pr, an, tr, kn, wn, wk, wf, lb, lw, ta, we', ca', ou, og, ar, ag)) : wpX_findRenames post (cp, nI P, nI T, nI N, pr, an, tr, kn, wn, wk, wf, lb, lw, ta, we, ca, ou, og, ar, ag) (nI sd) :=
  ⟨P + 1, zx_fr2 (O := O) (S := S) hsd hP hT hO hS h P 0 we ca (by omega) (fun p' hp' => absurd hp' (by omega)) (fun _ _ => ⟨rfl, rfl⟩)⟩
end
end
section
/-! ===== Y: renames ===== -/
def zy_Row (ce : Nat → Int32) (r : Nat) (O : Nat → Int32) : Prop := r < 258 ∧ ∀ p, p < 8 → ce (r * 8 + p) = O p
def zy_Rn (sd : Nat) (x : (Nat → Int32) × (Nat → Int32)) (yw0 yc0 yw yc : Nat → Int32) : Prop :=
  (∀ p, p < 8 → yw (sd * 8 + p) = x.1 p ∧ yc (sd * 8 + p) = x.2 p) ∧ (∀ j, (j < sd * 8 ∨ sd * 8 + 8 ≤ j) → yw j = yw0 j ∧ yc j = yc0 j)
theorem zr_m1le {n : Nat} (h : n < 2 ^ 31) : (-1 : Int32) ≤ nI n := by
  rw [Int32.le_iff_toInt_le, nI_toInt h]
  have h2 : (-1 : Int32).toInt = -1 := by decide
  omega
section
variable {fw fb cp : Int32} {P T N : Nat} {ce pr fl sg yw yc yr : Nat → Int32} {O S : Nat → Int32} {sd ro rs : Nat}
theorem zy_score {post : Int32 → Prop} {k : Nat} {x : (Nat → Int32) × (Nat → Int32)} {yw0 yc0 : Nat → Int32} (hsd : sd < 2) (hk : k < 64) (hO : zy_Row ce ro O) (hS : zy_Row ce rs S) (hR : zy_Rn sd x yw0 yc0 yw yc) (h1 : zr_okk O S x k → post (nI (zr_lkk O S k))) (h0 : ¬ zr_okk O S x k → post (-1)) : wpY_score post (fw, fb, cp, nI P, nI T, nI N, ce, pr, fl, sg, yw, yc, yr) (nI ro) (nI rs) (nI sd) (nI k) := by
  have hp : k / 8 < 8 := by omega
  have hq : k % 8 < 8 := by omega
  have hro := hO.1
  have hrs := hS.1
  have iOp : vp_in (nI ro * 8 + nI (k / 8)) 2064 := by rw [zx_i8]; exact vp_in_nI (by omega) (by omega)
  have iOq : vp_in (nI ro * 8 + nI (k % 8)) 2064 := by rw [zx_i8]; exact vp_in_nI (by omega) (by omega)
  have iSp : vp_in (nI rs * 8 + nI (k / 8)) 2064 := by rw [zx_i8]; exact vp_in_nI (by omega) (by omega)
  have iSq : vp_in (nI rs * 8 + nI (k % 8)) 2064 := by rw [zx_i8]; exact vp_in_nI (by omega) (by omega)
  have iwp : vp_in (nI sd * 8 + nI (k / 8)) 16 := by rw [zx_i8]; exact vp_in_nI (by omega) (by omega)
  have iwq : vp_in (nI sd * 8 + nI (k % 8)) 16 := by rw [zx_i8]; exact vp_in_nI (by omega) (by omega)
  have eOp : ce (nI ro * 8 + nI (k / 8)).toNatClampNeg = O (k / 8) := by rw [zx_i8, nI_clamp (by omega)]; exact hO.2 _ hp
  have eOq : ce (nI ro * 8 + nI (k % 8)).toNatClampNeg = O (k % 8) := by rw [zx_i8, nI_clamp (by omega)]; exact hO.2 _ hq
  have eSp : ce (nI rs * 8 + nI (k / 8)).toNatClampNeg = S (k / 8) := by rw [zx_i8, nI_clamp (by omega)]; exact hS.2 _ hp
  have eSq : ce (nI rs * 8 + nI (k % 8)).toNatClampNeg = S (k % 8) := by rw [zx_i8, nI_clamp (by omega)]; exact hS.2 _ hq
  have ewp : yw (nI sd * 8 + nI (k / 8)).toNatClampNeg = x.1 (k / 8) := by rw [zx_i8, nI_clamp (by omega)]; exact (hR.1 _ hp).1
  have ewq : yc (nI sd * 8 + nI (k % 8)).toNatClampNeg = x.2 (k % 8) := by rw [zx_i8, nI_clamp (by omega)]; exact (hR.1 _ hq).2
  have n8 : ¬ (8 : Int32) = 0 := by decide
  have hok : zr_okk O S x k ↔ (¬ O (k / 8) = 0 ∧ S (k / 8) = 0 ∧ x.1 (k / 8) = -1 ∧ O (k % 8) = 0 ∧ ¬ S (k % 8) = 0 ∧ x.2 (k % 8) = -1) := zr_ok_iff
  refine ⟨n8, nm_r (e' := nI (k / 8)) (pk_div (d := 8) (by omega) (by omega) (by omega)) ⟨n8, nm_r (e' := nI (k % 8)) (pk_rem (d := 8) (by omega) (by omega) (by omega)) ⟨iOp, nm_r eOp ⟨iSq, nm_r eSq ?_⟩⟩⟩⟩
  refine br_c (fun e => h0 (fun z => (hok.mp z).1 e)) (fun g1 => ⟨iSp, ?_⟩)
  rw [eSp]
  refine br_c (fun g2 => ⟨iwp, ?_⟩) (fun e => h0 (fun z => e (hok.mp z).2.1))
  rw [ewp]
  refine br_c (fun g3 => ?_) (fun e => h0 (fun z => e (hok.mp z).2.2.1))
  refine br_c (fun e => h0 (fun z => (hok.mp z).2.2.2.2.1 e)) (fun g5 => ⟨iOq, ?_⟩)
  rw [eOq]
  refine br_c (fun g4 => ⟨iwq, ?_⟩) (fun e => h0 (fun z => e (hok.mp z).2.2.2.1))
  rw [ewq]
  refine br_c (fun g6 => ⟨5, ?_⟩) (fun e => h0 (fun z => e (hok.mp z).2.2.2.2.2))
  exact zy_sc124 _ _ 4 0 0 rfl (h1 (hok.mpr ⟨g1, g2, g3, g4, g5, g6⟩))
theorem zy_101n {post : SY → Prop} {J80 : Int32 → (Nat → Int32) → (Nat → Int32) → (Nat → Int32) → (Nat → Int32) → (Nat → Int32) → (Nat → Int32) → (Nat → Int32) → Prop} {x4 : Int32} {x : (Nat → Int32) × (Nat → Int32)} {yw0 yc0 : Nat → Int32} (hT : 1 ≤ T ∧ T ≤ 4) (hsd : sd < 2) (hO : zy_Row ce ro O) (hS : zy_Row ce rs S) (hR : zy_Rn sd x yw0 yc0 yw yc) (hno : ∀ i, i < 64 → zr_okk O S x i → zr_lkk O S i < T) (h : post (fw, fb, cp, nI P, nI T, nI N, ce, pr, fl, sg, yw, yc, yr)) : ∀ n k, k + n = 64 → wY_renames_101 post J80 (nI ro) (nI rs) (nI sd) x4 fw fb cp (nI P) (nI T) (nI N) ce pr fl sg yw yc yr (n + 1) (nI (T - 1)) (-1) (nI k) := by
  intro n
  induction n with
  | zero =>
    intro k hk
    exact br_t (nI_le (a := 64) (by omega) (by omega)) (br_f (by decide) h)
  | succ n ih =>
    intro k hk
    refine br_f (nI_ge (b := 64) (by omega) (by omega)) (zy_score (O := O) (S := S) (x := x) hsd (by omega) hO hS hR (fun z => ?_) (fun z => ?_))
    · have := hno k (by omega) z
      exact br_t (nI_le (by omega) (by omega)) (nm_r (nI_1 k) (ih (k + 1) (by omega)))
    · exact br_t (zr_m1le (by omega)) (nm_r (nI_1 k) (ih (k + 1) (by omega)))
theorem zy_101b {post : SY → Prop} {J80 : Int32 → (Nat → Int32) → (Nat → Int32) → (Nat → Int32) → (Nat → Int32) → (Nat → Int32) → (Nat → Int32) → (Nat → Int32) → Prop} {x4 : Int32} {k0 : Nat} {x : (Nat → Int32) × (Nat → Int32)} {yw0 yc0 : Nat → Int32} (hsd : sd < 2) (hO : zy_Row ce ro O) (hS : zy_Row ce rs S) (hR : zy_Rn sd x yw0 yc0 yw yc) (hk0 : k0 < 64) (hmx : ∀ i, i < 64 → zr_okk O S x i → zr_lkk O S i ≤ zr_lkk O S k0) (h : J80 (x4 + 1) ce pr fl sg (upd yw (sd * 8 + k0 / 8) (nI (k0 % 8))) (upd yc (sd * 8 + k0 % 8) (nI (k0 / 8))) yr) : ∀ n k, k + n = 64 → wY_renames_101 post J80 (nI ro) (nI rs) (nI sd) x4 fw fb cp (nI P) (nI T) (nI N) ce pr fl sg yw yc yr (n + 1) (nI (zr_lkk O S k0)) (nI k0) (nI k) := by
  have hl : zr_lkk O S k0 ≤ 4 := zp_lk_le _ _
  intro n
  induction n with
  | zero =>
    intro k hk
    have n8 : ¬ (8 : Int32) = 0 := by decide
    have ed : nI k0 / 8 = nI (k0 / 8) := pk_div (d := 8) (by omega) (by omega) (by omega)
    have em : nI k0 - nI k0 / 8 * 8 = nI (k0 % 8) := pk_rem (d := 8) (by omega) (by omega) (by omega)
    refine br_t (nI_le (a := 64) (by omega) (by omega)) (br_t (nI_pos' (by omega)) ?_)
    rw [em, ed]
    refine ⟨n8, n8, ?_, nm_r (e' := upd yw (sd * 8 + k0 / 8) (nI (k0 % 8))) ?_ ⟨n8, n8, ?_, nm_r (e' := upd yc (sd * 8 + k0 % 8) (nI (k0 / 8))) ?_ (nm_e h)⟩⟩
    · rw [zx_i8]; exact vp_in_nI (by omega) (by omega)
    · rw [zx_i8, nI_clamp (by omega)]
    · rw [zx_i8]; exact vp_in_nI (by omega) (by omega)
    · rw [zx_i8, nI_clamp (by omega)]
  | succ n ih =>
    intro k hk
    refine br_f (nI_ge (b := 64) (by omega) (by omega)) (zy_score (O := O) (S := S) (x := x) hsd (by omega) hO hS hR (fun z => ?_) (fun z => ?_))
    · have := hmx k (by omega) z
      exact br_t (nI_le (by omega) (by omega)) (nm_r (nI_1 k) (ih (k + 1) (by omega)))
    · exact br_t (zr_m1le (by omega)) (nm_r (nI_1 k) (ih (k + 1) (by omega)))
theorem zy_101a {post : SY → Prop} {J80 : Int32 → (Nat → Int32) → (Nat → Int32) → (Nat → Int32) → (Nat → Int32) → (Nat → Int32) → (Nat → Int32) → (Nat → Int32) → Prop} {x4 : Int32} {k0 : Nat} {x : (Nat → Int32) × (Nat → Int32)} {yw0 yc0 : Nat → Int32} (hsd : sd < 2) (hO : zy_Row ce ro O) (hS : zy_Row ce rs S) (hR : zy_Rn sd x yw0 yc0 yw yc) (hk0 : k0 < 64) (hok : zr_okk O S x k0) (hmx : ∀ i, i < 64 → zr_okk O S x i → zr_lkk O S i ≤ zr_lkk O S k0) (hfst : ∀ i, i < k0 → zr_okk O S x i → zr_lkk O S i < zr_lkk O S k0) (h : J80 (x4 + 1) ce pr fl sg (upd yw (sd * 8 + k0 / 8) (nI (k0 % 8))) (upd yc (sd * 8 + k0 % 8) (nI (k0 / 8))) yr) : ∀ n k m pair, k + n = 64 → k ≤ k0 → m < zr_lkk O S k0 → wY_renames_101 post J80 (nI ro) (nI rs) (nI sd) x4 fw fb cp (nI P) (nI T) (nI N) ce pr fl sg yw yc yr (n + 1) (nI m) pair (nI k) := by
  have hl : zr_lkk O S k0 ≤ 4 := zp_lk_le _ _
  intro n
  induction n with
  | zero =>
    intro k m pair hk hkk
    omega
  | succ n ih =>
    intro k m pair hk hkk hm
    refine br_f (nI_ge (b := 64) (by omega) (by omega)) (zy_score (O := O) (S := S) (x := x) hsd (by omega) hO hS hR (fun z => ?_) (fun z => ?_))
    · by_cases e : k = k0
      · subst e
        refine br_f (nI_ge (by omega) (by omega)) (nm_r (nI_1 k) ?_)
        exact zy_101b (O := O) (S := S) (x := x) hsd hO hS hR hk0 hmx h n (k + 1) (by omega)
      · have h2 := hfst k (by omega) z
        by_cases h3 : zr_lkk O S k ≤ m
        · exact br_t (nI_le h3 (by omega)) (nm_r (nI_1 k) (ih (k + 1) m pair (by omega) (by omega) hm))
        · exact br_f (nI_ge (by omega) (by omega)) (nm_r (nI_1 k) (ih (k + 1) _ (nI k) (by omega) (by omega) h2))
    · have e : k ≠ k0 := by
        intro e; subst e; exact z hok
      exact br_t (zr_m1le (by omega)) (nm_r (nI_1 k) (ih (k + 1) m pair (by omega) (by omega) hm))
def zy_W (post : SY → Prop) (ro rs sd : Nat) (yw0 yc0 : Nat → Int32) (fw fb cp : Int32) (P T N : Nat) (ce pr fl sg yr : Nat → Int32) (n : Nat) (x : (Nat → Int32) × (Nat → Int32)) : Prop :=
  ∀ yw yc, zy_Rn sd x yw0 yc0 yw yc → wY_renames_80 post (nI ro) (nI rs) (nI sd) fw fb cp (nI P) (nI T) (nI N) (n + 1) (nI (8 - n)) ce pr fl sg yw yc yr
theorem zy_80 {post : SY → Prop} {yw0 yc0 : Nat → Int32} (hT : 1 ≤ T ∧ T ≤ 4) (hsd : sd < 2) (hO : zy_Row ce ro O) (hS : zy_Row ce rs S) (h : ∀ yw' yc', zy_Rn sd (zr_all T O S) yw0 yc0 yw' yc' → post (fw, fb, cp, nI P, nI T, nI N, ce, pr, fl, sg, yw', yc', yr)) : zy_W post ro rs sd yw0 yc0 fw fb cp P T N ce pr fl sg yr 8 (zr_0 O S) := by
  have e1 : nI T - 1 = nI (T - 1) := pk_sub (b := 1) hT.1
  refine zr_all_sim (t := T) hT.2 ?_ ?_
  · intro n x k hn hp hW yw yc hR
    obtain ⟨p1, p2, p3, p4, p5⟩ := hp
    refine br_f (nI_ge (b := 8) (by omega) (by omega)) (nm_r e1 ⟨65, ?_⟩)
    refine zy_101a (O := O) (S := S) (x := x) hsd hO hS hR p1 p2 p4 p5 ?_ 64 0 (T - 1) (-1) rfl (by omega) (by omega)
    have e2 : nI (8 - (n + 1)) + 1 = nI (8 - n) := by rw [nI_1]; exact congrArg nI (by omega)
    rw [e2]
    refine hW _ _ ⟨?_, ?_⟩
    · intro p hp'
      refine ⟨?_, ?_⟩
      · by_cases z : p = k / 8
        · subst z; exact pk_us.trans pk_us.symm
        · exact (pk_un (by omega)).trans ((hR.1 p hp').1.trans (pk_un z).symm)
      · by_cases z : p = k % 8
        · subst z; exact pk_us.trans pk_us.symm
        · exact (pk_un (by omega)).trans ((hR.1 p hp').2.trans (pk_un z).symm)
    · intro j hj
      exact ⟨(pk_un (by omega)).trans (hR.2 j hj).1, (pk_un (by omega)).trans (hR.2 j hj).2⟩
  · intro n' hn' hno yw yc hR
    by_cases z : n' = 0
    · subst z
      exact br_t (nI_le (a := 8) (by omega) (by omega)) (h yw yc hR)
    · refine br_f (nI_ge (b := 8) (by omega) (by omega)) (nm_r e1 ⟨65, ?_⟩)
      exact zy_101n (O := O) (S := S) (x := zr_all T O S) hT hsd hO hS hR hno (h yw yc hR) 64 0 rfl
theorem zy_rn57 {post : SY → Prop} {J3 : Int32 → (Nat → Int32) → (Nat → Int32) → (Nat → Int32) → (Nat → Int32) → (Nat → Int32) → (Nat → Int32) → (Nat → Int32) → Prop} {p : Nat} {z0 x1 x2 : Int32} (hsd : sd < 2) (hp : p < 8) (h : J3 (nI (p + 1)) ce pr fl sg (upd yw (sd * 8 + p) z0) (upd yc (sd * 8 + p) (-1)) yr) : wY_renames_57 post J3 x1 x2 (nI sd) (nI p) z0 (nI sd * 8 + nI p) fw fb cp (nI P) (nI T) (nI N) ce pr fl sg yw yc yr := by
  have c0 : (nI sd * 8 + nI p).toNatClampNeg = sd * 8 + p := by rw [zx_i8]; exact nI_clamp (by omega)
  have i0 : vp_in (nI sd * 8 + nI p) 16 := by rw [zx_i8]; exact vp_in_nI (by omega) (by omega)
  exact ⟨i0, nm_r (e' := upd yw (sd * 8 + p) z0) (by rw [c0]) ⟨i0, nm_r (e' := upd yc (sd * 8 + p) (-1)) (by rw [c0]) (nm_r (nI_1 p) h)⟩⟩
theorem zy_rn3 {post : SY → Prop} {yw0 yc0 : Nat → Int32} (hT : 1 ≤ T ∧ T ≤ 4) (hsd : sd < 2) (hO : zy_Row ce ro O) (hS : zy_Row ce rs S) (h : ∀ yw' yc', zy_Rn sd (zr_all T O S) yw0 yc0 yw' yc' → post (fw, fb, cp, nI P, nI T, nI N, ce, pr, fl, sg, yw', yc', yr)) : ∀ n p (yw yc : Nat → Int32), p + n = 8 → (∀ p', p' < p → yw (sd * 8 + p') = (zr_0 O S).1 p' ∧ yc (sd * 8 + p') = (zr_0 O S).2 p') → (∀ j, (j < sd * 8 ∨ sd * 8 + 8 ≤ j) → yw j = yw0 j ∧ yc j = yc0 j) → wY_renames_3 post (nI ro) (nI rs) (nI sd) fw fb cp (nI P) (nI T) (nI N) (n + 1) (nI p) ce pr fl sg yw yc yr := by
  intro n
  induction n with
  | zero =>
    intro p yw yc hp h1 h2
    have e : p = 8 := by omega
    subst e
    refine br_t (nI_le (a := 8) (by omega) (by omega)) ⟨9, ?_⟩
    exact zy_80 (O := O) (S := S) hT hsd hO hS h yw yc ⟨h1, h2⟩
  | succ n ih =>
    intro p yw yc hp h1 h2
    have hro := hO.1
    have hrs := hS.1
    have key : ∀ z0, (zr_0 O S).1 p = z0 → wY_renames_57 post (wY_renames_3 post (nI ro) (nI rs) (nI sd) fw fb cp (nI P) (nI T) (nI N) (n + 1)) (nI ro) (nI rs) (nI sd) (nI p) z0 (nI sd * 8 + nI p) fw fb cp (nI P) (nI T) (nI N) ce pr fl sg yw yc yr := by
      intro z0 hz
      refine zy_rn57 hsd (by omega) (ih (p + 1) _ _ (by omega) ?_ ?_)
      · intro p' hp'
        by_cases e : p' = p
        · subst e; exact ⟨pk_us.trans hz.symm, pk_us⟩
        · exact ⟨(pk_un (by omega)).trans (h1 p' (by omega)).1, (pk_un (by omega)).trans (h1 p' (by omega)).2⟩
      · intro j hj
        exact ⟨(pk_un (by omega)).trans (h2 j hj).1, (pk_un (by omega)).trans (h2 j hj).2⟩
    have iO : vp_in (nI ro * 8 + nI p) 2064 := by rw [zx_i8]; exact vp_in_nI (by omega) (by omega)
    have iS : vp_in (nI rs * 8 + nI p) 2064 := by rw [zx_i8]; exact vp_in_nI (by omega) (by omega)
    have eO : ce (nI ro * 8 + nI p).toNatClampNeg = O p := by rw [zx_i8, nI_clamp (by omega)]; exact hO.2 _ (by omega)
    have eS : ce (nI rs * 8 + nI p).toNatClampNeg = S p := by rw [zx_i8, nI_clamp (by omega)]; exact hS.2 _ (by omega)
    refine br_f (nI_ge (b := 8) (by omega) (by omega)) ⟨iO, br_c (fun e1 => ?_) (fun e1 => ⟨iS, br_c (fun e2 => ?_) (fun e2 => ?_)⟩)⟩
    · rw [eO] at e1
      exact key _ (if_pos e1)
    · rw [eO] at e1
      rw [eS] at e2
      exact key _ ((if_neg e1).trans (if_pos e2))
    · rw [eO] at e1
      rw [eS] at e2
      exact key _ ((if_neg e1).trans (if_neg e2))
theorem zy_renames {post : SY → Prop} (hT : 1 ≤ T ∧ T ≤ 4) (hsd : sd < 2) (hO : zy_Row ce ro O) (hS : zy_Row ce rs S) (h : ∀ yw' yc', zy_Rn sd (zr_all T O S) yw yc yw' yc' → post (fw, fb, cp, nI P, nI T, nI N, ce, pr, fl, sg, yw', yc', yr)) : wpY_renames post (fw, fb, cp, nI P, nI T, nI N, ce, pr, fl, sg, yw, yc, yr) (nI ro) (nI rs) (nI sd) :=
  ⟨9, zy_rn3 (O := O) (S := S) hT hsd hO hS h 8 0 yw yc rfl (fun p' hp' => absurd hp' (by omega)) (fun _ _ => ⟨rfl, rfl⟩)⟩
end
end
section
/-! ===== one path of a three-way merge, pure ===== -/
/-- what a side brings: content, flags, the triple's base, own, far -/
def zq_arr (O R w : Nat → Int32) (own cm : Int32) (q : Nat) : Int32 × Int32 × Int32 × Int32 × Int32 :=
  if own = 0 then (own, 0, 0, 0, 0) else if cm = -1 then (own, 0, 0, 0, 0)
  else if w cm.toNatClampNeg = -1 then (own, 4, O cm.toNatClampNeg, own, 0)
  else (zp_mix (O cm.toNatClampNeg) own (R (w cm.toNatClampNeg).toNatClampNeg),
    (if w cm.toNatClampNeg = cm then zp_torn (O cm.toNatClampNeg) own (R (w cm.toNatClampNeg).toNatClampNeg) else if w cm.toNatClampNeg = nI q then zp_torn (O cm.toNatClampNeg) own (R (w cm.toNatClampNeg).toNatClampNeg) else zp_torn (O cm.toNatClampNeg) own (R (w cm.toNatClampNeg).toNatClampNeg) ||| 8),
    O cm.toNatClampNeg, own, R (w cm.toNatClampNeg).toNatClampNeg)
theorem zq_arr_0 {O R w : Nat → Int32} {own cm : Int32} {q : Nat} (h : own = 0 ∨ cm = -1) : zq_arr O R w own cm q = (own, 0, 0, 0, 0) := by
  unfold zq_arr
  by_cases h1 : own = 0
  · rw [if_pos h1]
  · rw [if_neg h1]
    rcases h with h | h
    · exact absurd h h1
    · rw [if_pos h]
theorem zq_arr_d {O R w : Nat → Int32} {own : Int32} {q p : Nat} (hp : p < 8) (h0 : ¬ own = 0) (hw : w p = -1) : zq_arr O R w own (nI p) q = (own, 4, O p, own, 0) := by
  unfold zq_arr
  rw [if_neg h0, if_neg (zr_m1 (by omega)), nI_clamp (by omega), if_pos hw]
theorem zq_arr_r {O R w : Nat → Int32} {own : Int32} {q p pl : Nat} (hp : p < 8) (hpl : pl < 8) (h0 : ¬ own = 0) (hw : w p = nI pl) : zq_arr O R w own (nI p) q = (zp_mix (O p) own (R pl), (if nI pl = nI p then zp_torn (O p) own (R pl) else if nI pl = nI q then zp_torn (O p) own (R pl) else zp_torn (O p) own (R pl) ||| 8), O p, own, R pl) := by
  unfold zq_arr
  rw [if_neg h0, if_neg (zr_m1 (by omega)), nI_clamp (by omega), hw, nI_clamp (by omega), if_neg (zr_m1 (by omega))]
/-- a path with a file in the base: content and flags -/
def zq_old (o x y wa wb i : Int32) : Int32 × Int32 :=
  if wa = i ∧ wb = i then (zp_mix o x y, zp_torn o x y)
  else if (wa = i ∧ wb = -1) ∨ (wa = -1 ∧ wb = i) then (if wa = i then (if x = o then (0, 0) else (x, 2)) else (if y = o then (0, 0) else (y, 2)))
  else (0, 0)
/-- a path without a file in the base: content, flags, stages -/
def zq_new (a b : Int32 × Int32 × Int32 × Int32 × Int32) (al : Bool) : Int32 × Int32 × Int32 × Int32 × Int32 :=
  if a.1 = 0 ∧ b.1 = 0 then (0, 0, 0, 0, 0)
  else if b.1 = 0 ∨ (¬ a.1 = 0 ∧ al = true) then (a.1, a.2.1, a.2.2.1, a.2.2.2.1, a.2.2.2.2)
  else if a.1 = 0 then (b.1, b.2.1, b.2.2.1, b.2.2.2.2, b.2.2.2.1)
  else (zp_mix 0 a.1 b.1, (if a.1 = b.1 then a.2.1 ||| b.2.1 else (a.2.1 ||| b.2.1) ||| 16), 0, a.1, b.1)
def zq_al (c1 c2 : Int32) : Bool := decide (¬ c1 = -1 ∧ c1 = c2)
/-- path q of the merge of A and B over O -/
def zq_pth (t : Nat) (O A B : Nat → Int32) (q : Nat) : Int32 × Int32 × Int32 × Int32 × Int32 :=
  if O q = 0 then zq_new (zq_arr O B (zr_all t O B).1 (A q) ((zr_all t O A).2 q) q) (zq_arr O A (zr_all t O A).1 (B q) ((zr_all t O B).2 q) q) (zq_al ((zr_all t O A).2 q) ((zr_all t O B).2 q))
  else ((zq_old (O q) (A q) (B q) ((zr_all t O A).1 q) ((zr_all t O B).1 q) (nI q)).1, (zq_old (O q) (A q) (B q) ((zr_all t O A).1 q) ((zr_all t O B).1 q) (nI q)).2, O q, A q, B q)
/-- two renames from one place to one place bring the same content -/
theorem zq_alike {t q : Nat} {O A B : Nat → Int32} (hq : q < 8) (h : zq_al ((zr_all t O A).2 q) ((zr_all t O B).2 q) = true) : (zq_arr O B (zr_all t O B).1 (A q) ((zr_all t O A).2 q) q).1 = (zq_arr O A (zr_all t O A).1 (B q) ((zr_all t O B).2 q) q).1 := by
  obtain ⟨h1, h2⟩ := of_decide_eq_true h
  rcases (zr_all_inv t O A).2 q hq with z | ⟨p, a1, a2, a3, a4, a5, a6⟩
  · exact absurd z h1
  rcases (zr_all_inv t O B).2 q hq with z | ⟨p', b1, b2, b3, b4, b5, b6⟩
  · rw [z] at h2; exact absurd h2 h1
  have e : p' = p := by
    rw [a2, b2, nI_eq (by omega) (by omega)] at h2
    exact h2.symm
  subst e
  rw [a2, b2, zq_arr_r a1 hq a5 b3, zq_arr_r a1 hq b5 a3]
  exact zp_mix_sym _ _ _
theorem zq_pth_far {t P q : Nat} {O A B : Nat → Int32} (hO : ∀ p, P ≤ p → O p = 0) (hA : ∀ p, P ≤ p → A p = 0) (hB : ∀ p, P ≤ p → B p = 0) (hq : P ≤ q) : zq_pth t O A B q = (0, 0, 0, 0, 0) := by
  unfold zq_pth
  rw [if_pos (hO q hq), zq_arr_0 (Or.inl (hA q hq)), zq_arr_0 (Or.inl (hB q hq)), hA q hq, hB q hq]
  rfl
/-- the content row of the merge -/
def zq_row (t : Nat) (O A B : Nat → Int32) : Nat → Int32 := fun q => if q < 8 then (zq_pth t O A B q).1 else 0
end
section
/-! ===== X: the three-way merge ===== -/
theorem zx_So_0 {q : Nat} {m s1 s2 s3 : Int32} {ou og ou' og' : Nat → Int32} (h : zx_So q m 0 0 0 0 ou og ou' og') : zx_So q m 0 s1 s2 s3 ou og ou' og' := h
def zx_Ar (sd : Nat) (v : Int32 × Int32 × Int32 × Int32 × Int32) (ar ag ar' ag' : Nat → Int32) : Prop :=
  ar' (sd * 4) = v.1 ∧ ag' sd = v.2.1 ∧ ar' (sd * 4 + 1) = v.2.2.1 ∧ ar' (sd * 4 + 1 + sd) = v.2.2.2.1 ∧ ar' (sd * 4 + 1 + (3 - sd)) = v.2.2.2.2 ∧
  (∀ j, (j < sd * 4 ∨ sd * 4 + 4 ≤ j) → ar' j = ar j) ∧ (∀ j, j ≠ sd → ag' j = ag j)
section
variable {cp : Int32} {P T N : Nat} {pr an tr kn wn wk wf lb lw ta we ca ou og ar ag : Nat → Int32} {O A B S R w : Nat → Int32} {sd ro rs rt q : Nat}
theorem zx_mergeStayed {post : SX → Prop} {ra rb : Nat} (hP : P ≤ 8) (hO : zx_Row P tr ta 0 ro O) (hA : zx_Row P tr ta 1 ra A) (hB : zx_Row P tr ta 2 rb B) (hq : q < P) (h : ∀ ou' og', zx_So q (zp_mix (O q) (A q) (B q)) (zp_torn (O q) (A q) (B q)) (O q) (A q) (B q) ou og ou' og' → post (cp, nI P, nI T, nI N, pr, an, tr, kn, wn, wk, wf, lb, lw, ta, we, ca, ou', og', ar, ag)) : wpX_mergeStayed post (cp, nI P, nI T, nI N, pr, an, tr, kn, wn, wk, wf, lb, lw, ta, we, ca, ou, og, ar, ag) (nI q) := by
  unfold wpX_mergeStayed
  refine zx_atO (i := 0) (by omega) hP hO hq (zx_atO (i := 1) (by omega) hP hA hq (zx_atO (i := 2) (by omega) hP hB hq (zx_mix _ _ _ (zx_torn _ _ _ (br_c (fun e => ?_) (fun e => ?_))))))
  · rw [e] at h
    exact zx_setOut _ _ _ _ _ (by omega) h
  · have e1 : zp_torn (O q) (A q) (B q) = 1 := (zp_tr_01 (O q) (A q) (B q) 4 0).resolve_left e
    rw [e1] at h
    exact zx_setOut _ _ _ _ _ (by omega) h
theorem zx_mergeDeleted {post : SX → Prop} {ra rb : Nat} {kp : Int32} (hP : P ≤ 8) (hO : zx_Row P tr ta 0 ro O) (hA : zx_Row P tr ta 1 ra A) (hB : zx_Row P tr ta 2 rb B) (hq : q < P) (v : Int32 × Int32) (hv : v = (if kp = 1 then (if A q = O q then (0, 0) else (A q, 2)) else (if B q = O q then (0, 0) else (B q, 2)))) (h : ∀ ou' og', zx_So q v.1 v.2 (O q) (A q) (B q) ou og ou' og' → post (cp, nI P, nI T, nI N, pr, an, tr, kn, wn, wk, wf, lb, lw, ta, we, ca, ou', og', ar, ag)) : wpX_mergeDeleted post (cp, nI P, nI T, nI N, pr, an, tr, kn, wn, wk, wf, lb, lw, ta, we, ca, ou, og, ar, ag) (nI q) kp := by
  subst hv
  unfold wpX_mergeDeleted
  refine zx_atO (i := 0) (by omega) hP hO hq (zx_atO (i := 1) (by omega) hP hA hq (zx_atO (i := 2) (by omega) hP hB hq (br_c (fun e => br_c (fun f => ?_) (fun f => ?_)) (fun e => br_c (fun f => ?_) (fun f => ?_)))))
  · rw [if_pos e, if_pos f] at h
    exact zx_setOut _ _ _ _ _ (by omega) h
  · rw [if_pos e, if_neg f] at h
    exact zx_setOut _ _ _ _ _ (by omega) h
  · rw [if_neg e, if_pos f] at h
    exact zx_setOut _ _ _ _ _ (by omega) h
  · rw [if_neg e, if_neg f] at h
    exact zx_setOut _ _ _ _ _ (by omega) h
theorem zx_mergeOld {post : SX → Prop} {ra rb : Nat} {wa wb : Int32} (hP : P ≤ 8) (hO : zx_Row P tr ta 0 ro O) (hA : zx_Row P tr ta 1 ra A) (hB : zx_Row P tr ta 2 rb B) (hq : q < P) (hwa : we (8 + q) = wa) (hwb : we (16 + q) = wb) (h : ∀ ou' og', zx_So q (zq_old (O q) (A q) (B q) wa wb (nI q)).1 (zq_old (O q) (A q) (B q) wa wb (nI q)).2 (O q) (A q) (B q) ou og ou' og' → post (cp, nI P, nI T, nI N, pr, an, tr, kn, wn, wk, wf, lb, lw, ta, we, ca, ou', og', ar, ag)) : wpX_mergeOld post (cp, nI P, nI T, nI N, pr, an, tr, kn, wn, wk, wf, lb, lw, ta, we, ca, ou, og, ar, ag) (nI q) := by
  have e8 : (8 : Int32) + nI q = nI (8 + q) := nI_add 8 q
  have e16 : (16 : Int32) + nI q = nI (16 + q) := nI_add 16 q
  unfold zq_old at h
  have H58 : ∀ g : (wa = nI q ∧ wb = -1) ∨ (wa = -1 ∧ wb = nI q), ¬ (wa = nI q ∧ wb = nI q) → wX_mergeOld_58 post (nI q) wa cp (nI P) (nI T) (nI N) pr an tr kn wn wk wf lb lw ta we ca ou og ar ag := by
    intro g ng
    rw [if_neg ng, if_pos g] at h
    refine br_c (fun e => ?_) (fun e => ?_)
    · rw [if_pos e] at h
      refine zx_mergeDeleted hP hO hA hB hq _ ?_ h
      rw [if_pos rfl]
    · rw [if_neg e] at h
      refine zx_mergeDeleted hP hO hA hB hq _ ?_ h
      rw [if_neg (show ¬ (2 : Int32) = 1 by decide)]
  have H76 : ¬ (wa = nI q ∧ wb = nI q) → ¬ ((wa = nI q ∧ wb = -1) ∨ (wa = -1 ∧ wb = nI q)) → wX_mergeOld_76 post (nI q) cp (nI P) (nI T) (nI N) pr an tr kn wn wk wf lb lw ta we ca ou og ar ag := by
    intro n1 n2
    rw [if_neg n1, if_neg n2] at h
    exact zx_setOut _ _ _ _ _ (by omega) h
  have H48 : ¬ (wa = nI q ∧ wb = nI q) → ¬ (wa = nI q ∧ wb = -1) → wX_mergeOld_48 post (nI q) wa wb cp (nI P) (nI T) (nI N) pr an tr kn wn wk wf lb lw ta we ca ou og ar ag := by
    intro n1 n2
    refine br_c (fun e => br_c (fun f => H58 (Or.inr ⟨e, f⟩) n1) (fun f => H76 n1 (fun z => z.elim n2 (fun z => f z.2)))) (fun e => H76 n1 (fun z => z.elim n2 (fun z => e z.1)))
  have H38 : ¬ (wa = nI q ∧ wb = nI q) → wX_mergeOld_38 post (nI q) wa wb cp (nI P) (nI T) (nI N) pr an tr kn wn wk wf lb lw ta we ca ou og ar ag := by
    intro n1
    refine br_c (fun e => br_c (fun f => H58 (Or.inl ⟨e, f⟩) n1) (fun f => H48 n1 (fun z => f z.2))) (fun e => H48 n1 (fun z => e z.1))
  refine ⟨?_, nm_r (e' := wa) ?_ ⟨?_, nm_r (e' := wb) ?_ (br_c (fun e => br_c (fun f => ?_) (fun f => H38 (fun z => f z.2))) (fun e => H38 (fun z => e z.1)))⟩⟩
  · rw [e8]; exact vp_in_nI (by omega) (by omega)
  · rw [e8, nI_clamp (by omega)]; exact hwa
  · rw [e16]; exact vp_in_nI (by omega) (by omega)
  · rw [e16, nI_clamp (by omega)]; exact hwb
  · rw [if_pos ⟨e, f⟩] at h
    exact zx_mergeStayed hP hO hA hB hq h
theorem zx_Ar_mk {ar ag : Nat → Int32} {m f o own far : Int32} (hsd : sd = 1 ∨ sd = 2) (ar' ag' : Nat → Int32) (h1 : ar' (sd * 4) = m) (h2 : ag' sd = f) (h3 : ar' (sd * 4 + 1) = o) (h4 : ar' (sd * 4 + 1 + sd) = own) (h5 : ar' (sd * 4 + 1 + (3 - sd)) = far) (h6 : ∀ j, (j < sd * 4 ∨ sd * 4 + 4 ≤ j) → ar' j = ar j) (h7 : ∀ j, j ≠ sd → ag' j = ag j) : zx_Ar sd (m, f, o, own, far) ar ag ar' ag' := ⟨h1, h2, h3, h4, h5, h6, h7⟩
theorem zx_arriveRenamed {post : SX → Prop} {p : Nat} (hP : P ≤ 8) (hsd : sd = 1 ∨ sd = 2) (hO : zx_Row P tr ta 0 ro O) (hS : zx_Row P tr ta sd rs S) (hR : zx_Row P tr ta (3 - sd) rt R) (hq : q < P) (hp : p < P) (hw : we ((3 - sd) * 8 + p) = w p) (hwp : w p = -1 ∨ ∃ pl, pl < P ∧ w p = nI pl) (h0 : ¬ S q = 0) (har0 : ar (sd * 4) = S q) (hz : ar (sd * 4 + 1 + (3 - sd)) = 0) (h : ∀ ar' ag', zx_Ar sd (zq_arr O R w (S q) (nI p) q) ar ag ar' ag' → post (cp, nI P, nI T, nI N, pr, an, tr, kn, wn, wk, wf, lb, lw, ta, we, ca, ou, og, ar', ag')) : wpX_arriveRenamed post (cp, nI P, nI T, nI N, pr, an, tr, kn, wn, wk, wf, lb, lw, ta, we, ca, ou, og, ar, ag) (nI q) (nI sd) (nI p) := by
  have e4 : (3 : Int32) - nI sd = nI (3 - sd) := pk_sub (a := 3) (by omega)
  have e5 : nI sd * 4 = nI (sd * 4) := pk_mul sd 4
  have e51 : nI (sd * 4) + 1 = nI (sd * 4 + 1) := nI_1 _
  have e5s : nI (sd * 4) + 1 + nI sd = nI (sd * 4 + 1 + sd) := by rw [e51, nI_add]
  have e5t : nI (sd * 4) + 1 + nI (3 - sd) = nI (sd * 4 + 1 + (3 - sd)) := by rw [e51, nI_add]
  have csd : (nI sd).toNatClampNeg = sd := nI_clamp (by omega)
  have isd : vp_in (nI sd) 3 := vp_in_nI (by omega) (by omega)
  refine nm_r e4 (nm_r e5 (zx_atO (i := 0) (by omega) hP hO hp (zx_atO (by omega) hP hS hq ⟨?_, nm_r (e' := w p) ?_ ⟨?_, nm_r (e' := upd ar (sd * 4 + 1) (O p)) ?_ ⟨?_, nm_r (e' := upd (upd ar (sd * 4 + 1) (O p)) (sd * 4 + 1 + sd) (S q)) ?_ ?_⟩⟩⟩)))
  · rw [zx_i8]; exact vp_in_nI (by omega) (by omega)
  · rw [zx_i8, nI_clamp (by omega)]; exact hw
  · rw [e51]; exact vp_in_nI (by omega) (by omega)
  · rw [e51, nI_clamp (by omega)]
  · rw [e5s]; exact vp_in_nI (by omega) (by omega)
  · rw [e5s, nI_clamp (by omega)]
  · rcases hwp with hwp | ⟨pl, hpl, hwp⟩
    · rw [zq_arr_d (by omega) h0 hwp] at h
      refine br_t hwp ⟨isd, nm_r (e' := upd ag sd 4) (by rw [csd]) (h _ _ (zx_Ar_mk hsd _ _ ?_ pk_us ?_ pk_us ?_ ?_ (fun j hj => pk_un hj)))⟩
      · rw [pk_un (by omega), pk_un (by omega)]; exact har0
      · rw [pk_un (by omega), pk_us]
      · rw [pk_un (by omega), pk_un (by omega)]; exact hz
      · intro j hj
        rw [pk_un (by omega), pk_un (by omega)]
    · rw [zq_arr_r (by omega) (by omega) h0 hwp] at h
      have hn1 : ¬ w p = -1 := by rw [hwp]; exact zr_m1 (by omega)
      refine br_f hn1 ?_
      rw [hwp]
      refine zx_atO (by omega) hP hR hpl ⟨?_, nm_r (e' := upd (upd (upd ar (sd * 4 + 1) (O p)) (sd * 4 + 1 + sd) (S q)) (sd * 4 + 1 + (3 - sd)) (R pl)) ?_ (zx_mix _ _ _ ⟨?_, nm_r (e' := upd (upd (upd (upd ar (sd * 4 + 1) (O p)) (sd * 4 + 1 + sd) (S q)) (sd * 4 + 1 + (3 - sd)) (R pl)) (sd * 4) (zp_mix (O p) (S q) (R pl))) ?_ (zx_torn _ _ _ ?_)⟩)⟩
      · rw [e5t]; exact vp_in_nI (by omega) (by omega)
      · rw [e5t, nI_clamp (by omega)]
      · exact vp_in_nI (by omega) (by omega)
      · rw [nI_clamp (by omega)]
      · have key : ∀ t, t = zp_torn (O p) (S q) (R pl) → wX_arriveRenamed_137 post (nI q) (nI sd) (nI p) (nI pl) t cp (nI P) (nI T) (nI N) pr an tr kn wn wk wf lb lw ta we ca ou og (upd (upd (upd (upd ar (sd * 4 + 1) (O p)) (sd * 4 + 1 + sd) (S q)) (sd * 4 + 1 + (3 - sd)) (R pl)) (sd * 4) (zp_mix (O p) (S q) (R pl))) ag := by
          intro t ht
          rw [← ht] at h
          have fin : ∀ f, f = (if nI pl = nI p then t else if nI pl = nI q then t else t ||| 8) → post (cp, nI P, nI T, nI N, pr, an, tr, kn, wn, wk, wf, lb, lw, ta, we, ca, ou, og, upd (upd (upd (upd ar (sd * 4 + 1) (O p)) (sd * 4 + 1 + sd) (S q)) (sd * 4 + 1 + (3 - sd)) (R pl)) (sd * 4) (zp_mix (O p) (S q) (R pl)), upd ag sd f) := by
            intro f hf
            refine h _ _ (zx_Ar_mk hsd _ _ pk_us (pk_us.trans hf) ?_ ?_ ?_ ?_ (fun j hj => pk_un hj))
            · rw [pk_un (by omega), pk_un (by omega), pk_un (by omega), pk_us]
            · rw [pk_un (by omega), pk_un (by omega), pk_us]
            · rw [pk_un (by omega), pk_us]
            · intro j hj
              rw [pk_un (by omega), pk_un (by omega), pk_un (by omega), pk_un (by omega)]
          refine br_c (fun e => ⟨isd, nm_r (e' := upd ag sd t) (by rw [csd]) (fin _ (if_pos e).symm)⟩) (fun e => br_c (fun f => ⟨isd, nm_r (e' := upd ag sd t) (by rw [csd]) (fin _ ((if_neg e).trans (if_pos f)).symm)⟩) (fun f => nm_e ⟨isd, nm_r (e' := upd ag sd (t ||| 8)) (by rw [csd]) (fin _ ((if_neg e).trans (if_neg f)).symm)⟩))
        refine br_c (fun e => key 0 e.symm) (fun e => key 1 ?_)
        exact ((zp_tr_01 (O p) (S q) (R pl) 4 0).resolve_left e).symm
theorem zx_arrive {post : SX → Prop} {cm : Int32} (hP : P ≤ 8) (hsd : sd = 1 ∨ sd = 2) (hO : zx_Row P tr ta 0 ro O) (hS : zx_Row P tr ta sd rs S) (hR : zx_Row P tr ta (3 - sd) rt R) (hq : q < P) (hcm : ca (sd * 8 + q) = cm) (hcp : cm = -1 ∨ ∃ p, p < P ∧ cm = nI p) (hw : ∀ p, p < P → we ((3 - sd) * 8 + p) = w p) (hwp : ∀ p, p < P → w p = -1 ∨ ∃ pl, pl < P ∧ w p = nI pl) (h : ∀ ar' ag', zx_Ar sd (zq_arr O R w (S q) cm q) ar ag ar' ag' → post (cp, nI P, nI T, nI N, pr, an, tr, kn, wn, wk, wf, lb, lw, ta, we, ca, ou, og, ar', ag')) : wpX_arrive post (cp, nI P, nI T, nI N, pr, an, tr, kn, wn, wk, wf, lb, lw, ta, we, ca, ou, og, ar, ag) (nI q) (nI sd) := by
  have e5 : nI sd * 4 = nI (sd * 4) := pk_mul sd 4
  have csd : (nI sd).toNatClampNeg = sd := nI_clamp (by omega)
  have isd : vp_in (nI sd) 3 := vp_in_nI (by omega) (by omega)
  have e51 : nI (sd * 4) + 1 = nI (sd * 4 + 1) := nI_add _ 1
  have e52 : nI (sd * 4) + 2 = nI (sd * 4 + 2) := nI_add _ 2
  have e53 : nI (sd * 4) + 3 = nI (sd * 4 + 3) := nI_add _ 3
  have a0 : ∀ j, (j < sd * 4 ∨ sd * 4 + 4 ≤ j) → upd (upd (upd (upd ar (sd * 4) (S q)) (sd * 4 + 1) 0) (sd * 4 + 2) 0) (sd * 4 + 3) 0 j = ar j := by
    intro j hj
    rw [pk_un (by omega), pk_un (by omega), pk_un (by omega), pk_un (by omega)]
  have a1 : upd (upd (upd (upd ar (sd * 4) (S q)) (sd * 4 + 1) 0) (sd * 4 + 2) 0) (sd * 4 + 3) 0 (sd * 4) = S q := by
    rw [pk_un (by omega), pk_un (by omega), pk_un (by omega), pk_us]
  have a2 : ∀ i, 1 ≤ i → i ≤ 3 → upd (upd (upd (upd ar (sd * 4) (S q)) (sd * 4 + 1) 0) (sd * 4 + 2) 0) (sd * 4 + 3) 0 (sd * 4 + i) = 0 := by
    intro i h1 h2
    have : i = 1 ∨ i = 2 ∨ i = 3 := by omega
    rcases this with rfl | rfl | rfl
    · rw [pk_un (by omega), pk_un (by omega), pk_us]
    · rw [pk_un (by omega), pk_us]
    · rw [pk_us]
  have a3 : upd (upd (upd (upd ar (sd * 4) (S q)) (sd * 4 + 1) 0) (sd * 4 + 2) 0) (sd * 4 + 3) 0 (sd * 4 + 1 + sd) = 0 := by
    have := a2 (1 + sd) (by omega) (by omega)
    rw [Nat.add_assoc]; exact this
  have a4 : upd (upd (upd (upd ar (sd * 4) (S q)) (sd * 4 + 1) 0) (sd * 4 + 2) 0) (sd * 4 + 3) 0 (sd * 4 + 1 + (3 - sd)) = 0 := by
    have := a2 (1 + (3 - sd)) (by omega) (by omega)
    rw [Nat.add_assoc]; exact this
  unfold wpX_arrive
  refine zx_atO (by omega) hP hS hq ⟨?_, nm_r (e' := cm) ?_ (nm_r e5 ⟨vp_in_nI (by omega) (by omega), nm_r (e' := upd ar (sd * 4) (S q)) ?_ ⟨?_, nm_r (e' := upd (upd ar (sd * 4) (S q)) (sd * 4 + 1) 0) ?_ ⟨?_, nm_r (e' := upd (upd (upd ar (sd * 4) (S q)) (sd * 4 + 1) 0) (sd * 4 + 2) 0) ?_ ⟨?_, nm_r (e' := upd (upd (upd (upd ar (sd * 4) (S q)) (sd * 4 + 1) 0) (sd * 4 + 2) 0) (sd * 4 + 3) 0) ?_ ⟨isd, nm_r (e' := upd ag sd 0) (by rw [csd]) ?_⟩⟩⟩⟩⟩)⟩
  · rw [zx_i8]; exact vp_in_nI (by omega) (by omega)
  · rw [zx_i8, nI_clamp (by omega)]; exact hcm
  · rw [nI_clamp (by omega)]
  · rw [e51]; exact vp_in_nI (by omega) (by omega)
  · rw [e51, nI_clamp (by omega)]
  · rw [e52]; exact vp_in_nI (by omega) (by omega)
  · rw [e52, nI_clamp (by omega)]
  · rw [e53]; exact vp_in_nI (by omega) (by omega)
  · rw [e53, nI_clamp (by omega)]
  · have hz : (S q = 0 ∨ cm = -1) → post (cp, nI P, nI T, nI N, pr, an, tr, kn, wn, wk, wf, lb, lw, ta, we, ca, ou, og, upd (upd (upd (upd ar (sd * 4) (S q)) (sd * 4 + 1) 0) (sd * 4 + 2) 0) (sd * 4 + 3) 0, upd ag sd 0) := by
      intro z
      rw [zq_arr_0 z] at h
      exact h _ _ (zx_Ar_mk hsd _ _ a1 pk_us (a2 1 (by omega) (by omega)) a3 a4 a0 (fun j hj => pk_un hj))
    refine br_c (fun e => hz (Or.inl e)) (fun e => br_c (fun f => hz (Or.inr f)) (fun f => ?_))
    rcases hcp with z | ⟨p, hp, rfl⟩
    · exact absurd z f
    · refine zx_arriveRenamed (O := O) (S := S) (R := R) (w := w) hP hsd hO hS hR hq hp (hw p hp) (hwp p hp) e a1 a4 ?_
      intro ar' ag' hA
      obtain ⟨g1, g2, g3, g4, g5, g6, g7⟩ := hA
      exact h _ _ ⟨g1, g2, g3, g4, g5, fun j hj => (g6 j hj).trans (a0 j hj), fun j hj => (g7 j hj).trans (pk_un hj)⟩
end
end
section
/-! ===== X: settle, and the loop over the paths ===== -/
section
variable {cp : Int32} {P T N : Nat} {pr an tr kn wn wk wf lb lw ta we ca ou og ar ag : Nat → Int32} {O A B : Nat → Int32} {ro ra rb q : Nat}
theorem zx_accept {post : SX → Prop} {sd : Nat} (hsd : sd = 1 ∨ sd = 2) (hq : q < 8) (h : ∀ ou' og', zx_So q (ar (sd * 4)) (ag sd) (ar (sd * 4 + 1)) (ar (sd * 4 + 2)) (ar (sd * 4 + 3)) ou og ou' og' → post (cp, nI P, nI T, nI N, pr, an, tr, kn, wn, wk, wf, lb, lw, ta, we, ca, ou', og', ar, ag)) : wpX_acceptArrival post (cp, nI P, nI T, nI N, pr, an, tr, kn, wn, wk, wf, lb, lw, ta, we, ca, ou, og, ar, ag) (nI q) (nI sd) := by
  have e5 : nI sd * 4 = nI (sd * 4) := pk_mul sd 4
  have csd : (nI sd).toNatClampNeg = sd := nI_clamp (by omega)
  have c0 : (nI (sd * 4)).toNatClampNeg = sd * 4 := nI_clamp (by omega)
  have e51 : nI (sd * 4) + 1 = nI (sd * 4 + 1) := nI_add _ 1
  have e52 : nI (sd * 4) + 2 = nI (sd * 4 + 2) := nI_add _ 2
  have e53 : nI (sd * 4) + 3 = nI (sd * 4 + 3) := nI_add _ 3
  refine nm_r e5 ⟨vp_in_nI (by omega) (by omega), vp_in_nI (by omega) (by omega), ?_, ?_, ?_, ?_⟩
  · rw [e51]; exact vp_in_nI (by omega) (by omega)
  · rw [e52]; exact vp_in_nI (by omega) (by omega)
  · rw [e53]; exact vp_in_nI (by omega) (by omega)
  · rw [e51, e52, e53, csd, c0, nI_clamp (by omega), nI_clamp (by omega), nI_clamp (by omega)]
    exact zx_setOut _ _ _ _ _ hq h
/-- both arrivals at hand -/
def zx_A2 (a b : Int32 × Int32 × Int32 × Int32 × Int32) (ar ag : Nat → Int32) : Prop :=
  ar 4 = a.1 ∧ ag 1 = a.2.1 ∧ ar 5 = a.2.2.1 ∧ ar 6 = a.2.2.2.1 ∧ ar 7 = a.2.2.2.2 ∧
  ar 8 = b.1 ∧ ag 2 = b.2.1 ∧ ar 9 = b.2.2.1 ∧ ar 11 = b.2.2.2.1 ∧ ar 10 = b.2.2.2.2
theorem zx_settle51 {post : SX → Prop} {a b : Int32 × Int32 × Int32 × Int32 × Int32} {al : Bool} {z0 : Int32} (hq : q < 8) (h2 : zx_A2 a b ar ag) (hz : z0 = if al = true then 1 else 0) (hal : al = true → a.1 = b.1) (h : ∀ ou' og', zx_So q (zq_new a b al).1 (zq_new a b al).2.1 (zq_new a b al).2.2.1 (zq_new a b al).2.2.2.1 (zq_new a b al).2.2.2.2 ou og ou' og' → post (cp, nI P, nI T, nI N, pr, an, tr, kn, wn, wk, wf, lb, lw, ta, we, ca, ou', og', ar, ag)) : wX_settle_51 post (nI q) a.1 b.1 z0 cp (nI P) (nI T) (nI N) pr an tr kn wn wk wf lb lw ta we ca ou og ar ag := by
  obtain ⟨g1, g2, g3, g4, g5, g6, g7, g8, g9, g10⟩ := h2
  unfold zq_new at h
  have H83 : ¬ (a.1 = 0 ∧ b.1 = 0) → (b.1 = 0 ∨ (¬ a.1 = 0 ∧ al = true)) → wX_settle_83 post (nI q) cp (nI P) (nI T) (nI N) pr an tr kn wn wk wf lb lw ta we ca ou og ar ag := by
    intro n1 c
    rw [if_neg n1, if_pos c] at h
    refine zx_accept (sd := 1) (Or.inl rfl) hq ?_
    show ∀ ou' og', zx_So q (ar 4) (ag 1) (ar 5) (ar 6) (ar 7) ou og ou' og' → _
    rw [g1, g2, g3, g4, g5]
    exact h
  have H74 : ¬ (a.1 = 0 ∧ b.1 = 0) → wX_settle_74 post (nI q) a.1 b.1 z0 cp (nI P) (nI T) (nI N) pr an tr kn wn wk wf lb lw ta we ca ou og ar ag := by
    intro n1
    refine br_c (fun e => H83 n1 (Or.inl e)) (fun e => br_c (fun f => ?_) (fun f => ?_))
    · have hf : al = false := by
        cases al
        · rfl
        · rw [hz, if_pos rfl] at f; exact absurd f (by decide)
      have n2 : ¬ (b.1 = 0 ∨ (¬ a.1 = 0 ∧ al = true)) := by
        rintro (z | ⟨_, z⟩)
        · exact e z
        · rw [hf] at z; exact absurd z (by decide)
      rw [if_neg n1, if_neg n2] at h
      refine br_c (fun g => ?_) (fun g => ?_)
      · rw [if_pos g] at h
        refine zx_accept (sd := 2) (Or.inr rfl) hq ?_
        show ∀ ou' og', zx_So q (ar 8) (ag 2) (ar 9) (ar 10) (ar 11) ou og ou' og' → _
        rw [g6, g7, g8, g9, g10]
        exact h
      · rw [if_neg g] at h
        refine nm_r (e' := a.2.1 ||| b.2.1) (by rw [g2, g7]) (br_c (fun k => ?_) (fun k => nm_e ?_))
        · rw [if_pos k] at h
          unfold wX_collide_27
          exact zx_mix _ _ _ (zx_setOut _ _ _ _ _ hq h)
        · rw [if_neg k] at h
          unfold wX_collide_27
          exact zx_mix _ _ _ (zx_setOut _ _ _ _ _ hq h)
    · have hf : al = true := by
        cases al
        · rw [hz, if_neg (by decide)] at f; exact absurd rfl f
        · rfl
      refine H83 n1 (Or.inr ⟨fun z => ?_, hf⟩)
      rw [hal hf] at z
      exact e z
  refine br_c (fun e => br_c (fun f => ?_) (fun f => H74 (fun z => f z.2))) (fun e => H74 (fun z => e z.1))
  rw [if_pos ⟨e, f⟩] at h
  exact zx_setOut _ _ _ _ _ hq h
theorem zx_settle {post : SX → Prop} {a b : Int32 × Int32 × Int32 × Int32 × Int32} {c1 c2 : Int32} (hq : q < 8) (h2 : zx_A2 a b ar ag) (hc1 : ca (8 + q) = c1) (hc2 : ca (16 + q) = c2) (hal : zq_al c1 c2 = true → a.1 = b.1) (h : ∀ ou' og', zx_So q (zq_new a b (zq_al c1 c2)).1 (zq_new a b (zq_al c1 c2)).2.1 (zq_new a b (zq_al c1 c2)).2.2.1 (zq_new a b (zq_al c1 c2)).2.2.2.1 (zq_new a b (zq_al c1 c2)).2.2.2.2 ou og ou' og' → post (cp, nI P, nI T, nI N, pr, an, tr, kn, wn, wk, wf, lb, lw, ta, we, ca, ou', og', ar, ag)) : wpX_settle post (cp, nI P, nI T, nI N, pr, an, tr, kn, wn, wk, wf, lb, lw, ta, we, ca, ou, og, ar, ag) (nI q) := by
  have e8 : (8 : Int32) + nI q = nI (8 + q) := nI_add 8 q
  have e16 : (16 : Int32) + nI q = nI (16 + q) := nI_add 16 q
  have c8 : ca ((8 : Int32) + nI q).toNatClampNeg = c1 := by rw [e8, nI_clamp (by omega)]; exact hc1
  have c16 : ca ((16 : Int32) + nI q).toNatClampNeg = c2 := by rw [e16, nI_clamp (by omega)]; exact hc2
  have K0 : zq_al c1 c2 = false → wX_settle_51 post (nI q) a.1 b.1 0 cp (nI P) (nI T) (nI N) pr an tr kn wn wk wf lb lw ta we ca ou og ar ag := fun z => zx_settle51 hq h2 (by rw [z]; rfl) hal h
  refine nm_r h2.1 (nm_r h2.2.2.2.2.2.1 ⟨?_, nm_r c8 (br_c (fun e => K0 ?_) (fun e => ⟨?_, ?_⟩))⟩)
  · rw [e8]; exact vp_in_nI (by omega) (by omega)
  · exact decide_eq_false (fun z => z.1 e)
  · rw [e16]; exact vp_in_nI (by omega) (by omega)
  · rw [c16]
    refine br_c (fun f => ?_) (fun f => K0 (decide_eq_false (fun z => f z.2)))
    have z : zq_al c1 c2 = true := decide_eq_true ⟨e, f⟩
    exact zx_settle51 hq h2 (by rw [z]; rfl) hal h
/-- path j of the result stands in out, outFlags -/
def zx_Dn (v : Int32 × Int32 × Int32 × Int32 × Int32) (j : Nat) (ou og : Nat → Int32) : Prop :=
  ou j = v.1 ∧ ou (8 + j) = zz_st v.2.1 v.2.2.1 ∧ ou (16 + j) = zz_st v.2.1 v.2.2.2.1 ∧ ou (24 + j) = zz_st v.2.1 v.2.2.2.2 ∧ og j = v.2.1
theorem zx_Dn_So {v : Int32 × Int32 × Int32 × Int32 × Int32} {ou og ou' og' : Nat → Int32} (h : zx_So q v.1 v.2.1 v.2.2.1 v.2.2.2.1 v.2.2.2.2 ou og ou' og') : zx_Dn v q ou' og' :=
  ⟨h.1, h.2.1, h.2.2.1, h.2.2.2.1, h.2.2.2.2.1⟩
theorem zx_Dn_keep {v : Int32 × Int32 × Int32 × Int32 × Int32} {m f s1 s2 s3 : Int32} {j : Nat} {ou og ou' og' : Nat → Int32} (hq : q < 8) (hj : j < q) (h : zx_So q m f s1 s2 s3 ou og ou' og') (hd : zx_Dn v j ou og) : zx_Dn v j ou' og' := by
  obtain ⟨_, _, _, _, _, k1, k2⟩ := h
  obtain ⟨d1, d2, d3, d4, d5⟩ := hd
  exact ⟨(k1 j (by omega) (by omega) (by omega) (by omega)).trans d1, (k1 _ (by omega) (by omega) (by omega) (by omega)).trans d2, (k1 _ (by omega) (by omega) (by omega) (by omega)).trans d3, (k1 _ (by omega) (by omega) (by omega) (by omega)).trans d4, (k2 j (by omega)).trans d5⟩
theorem zx_tw43 {post : SX → Prop} (hP : P ≤ 8) (hO : zx_Row P tr ta 0 ro O) (hA : zx_Row P tr ta 1 ra A) (hB : zx_Row P tr ta 2 rb B) (h1 : ∀ p, p < P → we (8 + p) = (zr_all T O A).1 p ∧ ca (8 + p) = (zr_all T O A).2 p) (h2 : ∀ p, p < P → we (16 + p) = (zr_all T O B).1 p ∧ ca (16 + p) = (zr_all T O B).2 p) (h : ∀ ou' og' ar' ag', (∀ j, j < P → zx_Dn (zq_pth T O A B j) j ou' og') → post (cp, nI P, nI T, nI N, pr, an, tr, kn, wn, wk, wf, lb, lw, ta, we, ca, ou', og', ar', ag')) : ∀ n q (ou og ar ag : Nat → Int32), q + n = P → (∀ j, j < q → zx_Dn (zq_pth T O A B j) j ou og) → wX_threeWay_43 post (n + 1) (nI q) cp (nI P) (nI T) (nI N) pr an tr kn wn wk wf lb lw ta we ca ou og ar ag := by
  have wB : ∀ (S : Nat → Int32), (∀ p, P ≤ p → S p = 0) → ∀ p, p < P → (zr_all T O S).1 p = -1 ∨ ∃ pl, pl < P ∧ (zr_all T O S).1 p = nI pl := by
    intro S hS p hp
    rcases (zr_all_inv T O S).1 p (by omega) with z | ⟨pl, z1, z2, z3⟩
    · exact Or.inl z
    · refine Or.inr ⟨pl, ?_, z2⟩
      rcases Nat.lt_or_ge pl P with z | z
      · exact z
      · exact absurd (hS pl z) z3
  have cB : ∀ (S : Nat → Int32), ∀ p, p < P → (zr_all T O S).2 p = -1 ∨ ∃ pl, pl < P ∧ (zr_all T O S).2 p = nI pl := by
    intro S p hp
    rcases (zr_all_inv T O S).2 p (by omega) with z | ⟨pl, z1, z2, _, z3, _⟩
    · exact Or.inl z
    · refine Or.inr ⟨pl, ?_, z2⟩
      rcases Nat.lt_or_ge pl P with z | z
      · exact z
      · exact absurd (hO.2.2.2 pl z) z3
  intro n
  induction n with
  | zero =>
    intro q ou og ar ag hq hd
    have e : q = P := by omega
    subst e
    exact br_t (nI_le (by omega) (by omega)) (h ou og ar ag hd)
  | succ n ih =>
    intro q ou og ar ag hq hd
    refine br_f (nI_ge (by omega) (by omega)) (zx_atO (i := 0) (by omega) hP hO (by omega) (br_c (fun e => ?_) (fun e => ?_)))
    · refine zx_arrive (sd := 1) (O := O) (S := A) (R := B) (w := (zr_all T O B).1) hP (Or.inl rfl) hO hA hB (by omega) (h1 q (by omega)).2 (cB A q (by omega)) (fun p hp => (h2 p hp).1) (wB B hB.2.2.2) ?_
      intro ar1 ag1 hr1
      refine zx_arrive (sd := 2) (O := O) (S := B) (R := A) (w := (zr_all T O A).1) hP (Or.inr rfl) hO hB hA (by omega) (h2 q (by omega)).2 (cB B q (by omega)) (fun p hp => (h1 p hp).1) (wB A hA.2.2.2) ?_
      intro ar2 ag2 hr2
      obtain ⟨a1, a2, a3, a4, a5, _, _⟩ := hr1
      obtain ⟨b1, b2, b3, b4, b5, b6, b7⟩ := hr2
      have ep : zq_pth T O A B q = zq_new (zq_arr O B (zr_all T O B).1 (A q) ((zr_all T O A).2 q) q) (zq_arr O A (zr_all T O A).1 (B q) ((zr_all T O B).2 q) q) (zq_al ((zr_all T O A).2 q) ((zr_all T O B).2 q)) := if_pos e
      refine zx_settle (a := zq_arr O B (zr_all T O B).1 (A q) ((zr_all T O A).2 q) q) (b := zq_arr O A (zr_all T O A).1 (B q) ((zr_all T O B).2 q) q) (c1 := (zr_all T O A).2 q) (c2 := (zr_all T O B).2 q) (by omega) ⟨(b6 4 (by omega)).trans a1, (b7 1 (by omega)).trans a2, (b6 5 (by omega)).trans a3, (b6 6 (by omega)).trans a4, (b6 7 (by omega)).trans a5, b1, b2, b3, b4, b5⟩ (h1 q (by omega)).2 (h2 q (by omega)).2 (zq_alike (by omega)) ?_
      intro ou' og' hs
      rw [← ep] at hs
      refine nm_r (nI_1 q) (ih (q + 1) ou' og' ar2 ag2 (by omega) ?_)
      intro j hj
      by_cases ej : j = q
      · subst ej; exact zx_Dn_So hs
      · exact zx_Dn_keep (by omega) (by omega) hs (hd j (by omega))
    · have ep : zq_pth T O A B q = ((zq_old (O q) (A q) (B q) ((zr_all T O A).1 q) ((zr_all T O B).1 q) (nI q)).1, (zq_old (O q) (A q) (B q) ((zr_all T O A).1 q) ((zr_all T O B).1 q) (nI q)).2, O q, A q, B q) := if_neg e
      refine zx_mergeOld hP hO hA hB (by omega) (h1 q (by omega)).1 (h2 q (by omega)).1 ?_
      intro ou' og' hs
      refine nm_r (nI_1 q) (ih (q + 1) ou' og' ar ag (by omega) ?_)
      intro j hj
      by_cases ej : j = q
      · subst ej; rw [ep]; exact zx_Dn_So hs
      · exact zx_Dn_keep (by omega) (by omega) hs (hd j (by omega))
/-- row r of the table is O -/
def zx_R (P : Nat) (tr : Nat → Int32) (r : Nat) (O : Nat → Int32) : Prop := r < 256 ∧ (∀ p, p < P → tr (r * 8 + p) = O p) ∧ (∀ p, P ≤ p → O p = 0)
theorem zx_threeWay {post : SX → Prop} (hP : P ≤ 8) (hT : 1 ≤ T ∧ T ≤ 4) (hO : zx_R P tr ro O) (hA : zx_R P tr ra A) (hB : zx_R P tr rb B) (h : ∀ ta' we' ca' ou' og' ar' ag', (∀ j, j < P → zx_Dn (zq_pth T O A B j) j ou' og') → (∀ p, p < P → we' (8 + p) = (zr_all T O A).1 p ∧ we' (16 + p) = (zr_all T O B).1 p) → post (cp, nI P, nI T, nI N, pr, an, tr, kn, wn, wk, wf, lb, lw, ta', we', ca', ou', og', ar', ag')) : wpX_threeWay post (cp, nI P, nI T, nI N, pr, an, tr, kn, wn, wk, wf, lb, lw, ta, we, ca, ou, og, ar, ag) (nI ro) (nI ra) (nI rb) := by
  refine nm_r (e' := upd ta 0 (nI (ro * 8))) (by rw [← pk_mul]; rfl) (nm_r (e' := upd (upd ta 0 (nI (ro * 8))) 1 (nI (ra * 8))) (by rw [← pk_mul ra]; rfl) (nm_r (e' := upd (upd (upd ta 0 (nI (ro * 8))) 1 (nI (ra * 8))) 2 (nI (rb * 8))) (by rw [← pk_mul rb]; rfl) ?_))
  have RO : zx_Row P tr (upd (upd (upd ta 0 (nI (ro * 8))) 1 (nI (ra * 8))) 2 (nI (rb * 8))) 0 ro O := ⟨rfl, hO.1, hO.2.1, hO.2.2⟩
  have RA : zx_Row P tr (upd (upd (upd ta 0 (nI (ro * 8))) 1 (nI (ra * 8))) 2 (nI (rb * 8))) 1 ra A := ⟨rfl, hA.1, hA.2.1, hA.2.2⟩
  have RB : zx_Row P tr (upd (upd (upd ta 0 (nI (ro * 8))) 1 (nI (ra * 8))) 2 (nI (rb * 8))) 2 rb B := ⟨rfl, hB.1, hB.2.1, hB.2.2⟩
  generalize upd (upd (upd ta 0 (nI (ro * 8))) 1 (nI (ra * 8))) 2 (nI (rb * 8)) = ta' at RO RA RB ⊢
  refine zx_findRenames (sd := 1) (O := O) (S := A) (by omega) hP hT RO RA ?_
  intro we1 ca1 h1
  refine zx_findRenames (sd := 2) (O := O) (S := B) (by omega) hP hT RO RB ?_
  intro we2 ca2 h2
  have k1 : ∀ p, p < P → we2 (8 + p) = (zr_all T O A).1 p ∧ ca2 (8 + p) = (zr_all T O A).2 p := by
    intro p hp
    have z := h2.2 (8 + p) (by omega)
    have y := h1.1 p hp
    exact ⟨z.1.trans y.1, z.2.trans y.2⟩
  refine ⟨P + 1, zx_tw43 (O := O) (A := A) (B := B) hP RO RA RB k1 h2.1 ?_ P 0 ou og ar ag (by omega) (fun j hj => absurd hj (by omega))⟩
  intro ou' og' ar' ag' hd
  exact h ta' we2 ca2 ou' og' ar' ag' hd (fun p hp => ⟨(k1 p hp).1, (h2.1 p hp).1⟩)
end
end
section
/-! ===== Y: the three-way merge ===== -/
def zy_Ar (sd : Nat) (v : Int32 × Int32 × Int32 × Int32 × Int32) (yr yr' : Nat → Int32) : Prop :=
  yr' (sd * 5) = v.1 ∧ yr' (sd * 5 + 1) = v.2.1 ∧ yr' (sd * 5 + 2) = v.2.2.1 ∧ yr' (sd * 5 + 3 + sd) = v.2.2.2.1 ∧ yr' (sd * 5 + 4 - sd) = v.2.2.2.2 ∧
  (∀ j, (j < sd * 5 ∨ sd * 5 + 5 ≤ j) → yr' j = yr j)
section
variable {fw fb cp : Int32} {P T N : Nat} {ce pr fl sg yw yc yr : Nat → Int32} {O A B S R w : Nat → Int32} {sd ro ra rb rt q k : Nat}
theorem zy_old166 {post : SY → Prop} {m f s1 s2 s3 : Int32} (ht : rt < 258) (hq : q < 8) (h : ∀ ce' fl' sg', zy_Se rt q m f s1 s2 s3 ce fl sg ce' fl' sg' → post (fw, fb, cp, nI P, nI T, nI N, ce', pr, fl', sg', yw, yc, yr)) : wY_oldPath_166 post (nI rt) (nI q) s1 s2 s3 m f fw fb cp (nI P) (nI T) (nI N) ce pr fl sg yw yc yr := by
  unfold wY_oldPath_166
  exact zy_set _ _ _ _ _ ht hq h
theorem zy_oldPath {post : SY → Prop} {wa wb : Int32} (hO : zy_Row ce ro O) (hA : zy_Row ce ra A) (hB : zy_Row ce rb B) (ht : rt < 258) (hq : q < 8) (hwa : yw q = wa) (hwb : yw (8 + q) = wb) (h : ∀ ce' fl' sg', zy_Se rt q (zq_old (O q) (A q) (B q) wa wb (nI q)).1 (zq_old (O q) (A q) (B q) wa wb (nI q)).2 (O q) (A q) (B q) ce fl sg ce' fl' sg' → post (fw, fb, cp, nI P, nI T, nI N, ce', pr, fl', sg', yw, yc, yr)) : wpY_oldPath post (fw, fb, cp, nI P, nI T, nI N, ce, pr, fl, sg, yw, yc, yr) (nI ro) (nI ra) (nI rb) (nI rt) (nI q) := by
  have hro := hO.1
  have hra := hA.1
  have hrb := hB.1
  have iO : vp_in (nI ro * 8 + nI q) 2064 := by rw [zx_i8]; exact vp_in_nI (by omega) (by omega)
  have iA : vp_in (nI ra * 8 + nI q) 2064 := by rw [zx_i8]; exact vp_in_nI (by omega) (by omega)
  have iB : vp_in (nI rb * 8 + nI q) 2064 := by rw [zx_i8]; exact vp_in_nI (by omega) (by omega)
  have eO : ce (nI ro * 8 + nI q).toNatClampNeg = O q := by rw [zx_i8, nI_clamp (by omega)]; exact hO.2 _ hq
  have eA : ce (nI ra * 8 + nI q).toNatClampNeg = A q := by rw [zx_i8, nI_clamp (by omega)]; exact hA.2 _ hq
  have eB : ce (nI rb * 8 + nI q).toNatClampNeg = B q := by rw [zx_i8, nI_clamp (by omega)]; exact hB.2 _ hq
  have e8 : (8 : Int32) + nI q = nI (8 + q) := nI_add 8 q
  unfold zq_old at h
  have H136 : ∀ g : (wa = nI q ∧ wb = -1) ∨ (wa = -1 ∧ wb = nI q), ¬ (wa = nI q ∧ wb = nI q) → wY_oldPath_136 post (nI rt) (nI q) (O q) (A q) (B q) wa 0 0 fw fb cp (nI P) (nI T) (nI N) ce pr fl sg yw yc yr := by
    intro g ng
    rw [if_neg ng, if_pos g] at h
    refine br_c (fun e => ?_) (fun e => ?_)
    · rw [if_pos e] at h
      refine br_c (fun f => ?_) (fun f => ?_)
      · rw [if_pos f] at h
        exact zy_old166 ht hq h
      · rw [if_neg f] at h
        exact zy_old166 ht hq h
    · rw [if_neg e] at h
      refine br_c (fun f => ?_) (fun f => ?_)
      · rw [if_pos f] at h
        exact zy_old166 ht hq h
      · rw [if_neg f] at h
        exact zy_old166 ht hq h
  have H166 : ¬ (wa = nI q ∧ wb = nI q) → ¬ ((wa = nI q ∧ wb = -1) ∨ (wa = -1 ∧ wb = nI q)) → wY_oldPath_166 post (nI rt) (nI q) (O q) (A q) (B q) 0 0 fw fb cp (nI P) (nI T) (nI N) ce pr fl sg yw yc yr := by
    intro n1 n2
    rw [if_neg n1, if_neg n2] at h
    exact zy_old166 ht hq h
  have H123 : ¬ (wa = nI q ∧ wb = nI q) → ¬ (wa = nI q ∧ wb = -1) → wY_oldPath_123 post (nI rt) (nI q) (O q) (A q) (B q) wa wb 0 0 fw fb cp (nI P) (nI T) (nI N) ce pr fl sg yw yc yr := by
    intro n1 n2
    refine br_c (fun e => br_c (fun f => H136 (Or.inr ⟨e, f⟩) n1) (fun f => H166 n1 (fun z => z.elim n2 (fun z => f z.2)))) (fun e => H166 n1 (fun z => z.elim n2 (fun z => e z.1)))
  have H110 : ¬ (wa = nI q ∧ wb = nI q) → wY_oldPath_110 post (nI rt) (nI q) (O q) (A q) (B q) wa wb 0 0 fw fb cp (nI P) (nI T) (nI N) ce pr fl sg yw yc yr := by
    intro n1
    refine br_c (fun e => br_c (fun f => H136 (Or.inl ⟨e, f⟩) n1) (fun f => H123 n1 (fun z => f z.2))) (fun e => H123 n1 (fun z => e z.1))
  refine ⟨iO, nm_r eO ⟨iA, nm_r eA ⟨iB, nm_r eB ⟨vp_in_nI (by omega) (by omega), nm_r (e' := wa) ?_ ⟨?_, nm_r (e' := wb) ?_ (br_c (fun e => br_c (fun f => ?_) (fun f => H110 (fun z => f z.2))) (fun e => H110 (fun z => e z.1)))⟩⟩⟩⟩⟩
  · rw [nI_clamp (by omega)]; exact hwa
  · rw [e8]; exact vp_in_nI (by omega) (by omega)
  · rw [e8, nI_clamp (by omega)]; exact hwb
  · rw [if_pos ⟨e, f⟩] at h
    exact zy_mix _ _ _ (zy_torn _ _ _ (zy_old166 ht hq h))
/-- the flags of a rename -/
def zy_fl (x9 x7 x5 t : Int32) : Int32 := if x9 = x7 then t else if x9 = x5 then t else t ||| 8
theorem zy_197 {post : SY → Prop} {x5 x7 x9 c x y : Int32} (hk : k + 5 ≤ 10) (h : ∀ yr', (yr' k = if x9 = -1 then yr k else zp_mix c x y) → (yr' (k + 1) = if x9 = -1 then 4 else zy_fl x9 x7 x5 (zp_torn c x y)) → yr' (k + 2) = c → yr' (k + 3) = x → yr' (k + 4) = y → (∀ j, (j < k ∨ k + 5 ≤ j) → yr' j = yr j) → post (fw, fb, cp, nI P, nI T, nI N, ce, pr, fl, sg, yw, yc, yr')) : wY_arrive_197 post x5 x7 (nI k) x9 c x y fw fb cp (nI P) (nI T) (nI N) ce pr fl sg yw yc yr := by
  have e1 : nI k + 1 = nI (k + 1) := nI_add k 1
  have e2 : nI k + 2 = nI (k + 2) := nI_add k 2
  have e3 : nI k + 3 = nI (k + 3) := nI_add k 3
  have e4 : nI k + 4 = nI (k + 4) := nI_add k 4
  have i1 : vp_in (nI k + 1) 10 := by rw [e1]; exact vp_in_nI (by omega) (by omega)
  have i2 : vp_in (nI k + 2) 10 := by rw [e2]; exact vp_in_nI (by omega) (by omega)
  have i3 : vp_in (nI k + 3) 10 := by rw [e3]; exact vp_in_nI (by omega) (by omega)
  have i4 : vp_in (nI k + 4) 10 := by rw [e4]; exact vp_in_nI (by omega) (by omega)
  have c0 : (nI k).toNatClampNeg = k := nI_clamp (by omega)
  have c1 : (nI k + 1).toNatClampNeg = k + 1 := by rw [e1]; exact nI_clamp (by omega)
  have c2 : (nI k + 2).toNatClampNeg = k + 2 := by rw [e2]; exact nI_clamp (by omega)
  have c3 : (nI k + 3).toNatClampNeg = k + 3 := by rw [e3]; exact nI_clamp (by omega)
  have c4 : (nI k + 4).toNatClampNeg = k + 4 := by rw [e4]; exact nI_clamp (by omega)
  refine ⟨i2, nm_r (e' := upd yr (k + 2) c) (by rw [c2]) ⟨i3, nm_r (e' := upd (upd yr (k + 2) c) (k + 3) x) (by rw [c3]) ⟨i4, nm_r (e' := upd (upd (upd yr (k + 2) c) (k + 3) x) (k + 4) y) (by rw [c4]) (br_c (fun e => ?_) (fun e => ?_))⟩⟩⟩
  · refine ⟨i1, nm_r (e' := upd (upd (upd (upd yr (k + 2) c) (k + 3) x) (k + 4) y) (k + 1) 4) (by rw [c1]) (h _ ?_ ?_ ?_ ?_ ?_ ?_)⟩
    · rw [if_pos e, pk_un (by omega), pk_un (by omega), pk_un (by omega), pk_un (by omega)]
    · rw [if_pos e, pk_us]
    · rw [pk_un (by omega), pk_un (by omega), pk_un (by omega), pk_us]
    · rw [pk_un (by omega), pk_un (by omega), pk_us]
    · rw [pk_un (by omega), pk_us]
    · intro j hj
      rw [pk_un (by omega), pk_un (by omega), pk_un (by omega), pk_un (by omega)]
  · refine zy_mix _ _ _ ⟨vp_in_nI (by omega) (by omega), nm_r (e' := upd (upd (upd (upd yr (k + 2) c) (k + 3) x) (k + 4) y) k (zp_mix c x y)) (by rw [c0]) (zy_torn _ _ _ ⟨i1, nm_r (e' := upd (upd (upd (upd (upd yr (k + 2) c) (k + 3) x) (k + 4) y) k (zp_mix c x y)) (k + 1) (zp_torn c x y)) (by rw [c1]) ?_⟩)⟩
    have fin : ∀ yr', (∀ j, j ≠ k + 1 → yr' j = upd (upd (upd (upd yr (k + 2) c) (k + 3) x) (k + 4) y) k (zp_mix c x y) j) → yr' (k + 1) = zy_fl x9 x7 x5 (zp_torn c x y) → post (fw, fb, cp, nI P, nI T, nI N, ce, pr, fl, sg, yw, yc, yr') := by
      intro yr' f1 f2
      refine h _ ?_ ?_ ?_ ?_ ?_ ?_
      · rw [if_neg e, f1 _ (by omega), pk_us]
      · rw [if_neg e, f2]
      · rw [f1 _ (by omega), pk_un (by omega), pk_un (by omega), pk_un (by omega), pk_us]
      · rw [f1 _ (by omega), pk_un (by omega), pk_un (by omega), pk_us]
      · rw [f1 _ (by omega), pk_un (by omega), pk_us]
      · intro j hj
        rw [f1 _ (by omega), pk_un (by omega), pk_un (by omega), pk_un (by omega), pk_un (by omega)]
    refine br_c (fun f => fin _ (fun j hj => pk_un hj) (pk_us.trans (if_pos f).symm)) (fun f => br_c (fun g => fin _ (fun j hj => pk_un hj) (pk_us.trans ((if_neg f).trans (if_pos g)).symm)) (fun g => ?_))
    refine ⟨i1, i1, nm_r (e' := upd (upd (upd (upd (upd (upd yr (k + 2) c) (k + 3) x) (k + 4) y) k (zp_mix c x y)) (k + 1) (zp_torn c x y)) (k + 1) (zp_torn c x y ||| 8)) ?_ (fin _ (fun j hj => (pk_un hj).trans (pk_un hj)) (pk_us.trans ((if_neg f).trans (if_neg g)).symm))⟩
    rw [c1, pk_us]
def zy_zr (k : Nat) : (Nat → Int32) → Nat → Nat → Nat → Int32
  | yr, 0, _ => yr
  | yr, n + 1, i => zy_zr k (upd yr (k + i) 0) n (i + 1)
theorem zy_65 {post : SY → Prop} {x1 x2 x3 x4 x5 x6 x7 : Int32} (hk : k + 5 ≤ 10) : ∀ n i (yr : Nat → Int32), i + n = 5 → wY_arrive_65 post x1 x2 x3 x4 x5 x6 x7 (nI k) fw fb cp (nI P) (nI T) (nI N) 1 (nI 5) ce pr fl sg yw yc (zy_zr k yr n i) → wY_arrive_65 post x1 x2 x3 x4 x5 x6 x7 (nI k) fw fb cp (nI P) (nI T) (nI N) (n + 1) (nI i) ce pr fl sg yw yc yr := by
  intro n
  induction n with
  | zero =>
    intro i yr hi h
    have e : i = 5 := by omega
    subst e
    exact h
  | succ n ih =>
    intro i yr hi h
    refine br_f (nI_ge (b := 5) (by omega) (by omega)) ⟨?_, nm_r (e' := upd yr (k + i) 0) ?_ (nm_r (nI_1 i) (ih (i + 1) _ (by omega) h))⟩
    · rw [nI_add]; exact vp_in_nI (by omega) (by omega)
    · rw [nI_add, nI_clamp (by omega)]
end
end
section
/-! ===== Y: arrivals, the loop over the paths ===== -/
section
variable {fw fb cp : Int32} {P T N : Nat} {ce pr fl sg yw yc yr : Nat → Int32} {O A B S R w : Nat → Int32} {sd ro ra rb rt q k : Nat}
theorem zy_159 {post : SY → Prop} {p : Nat} {own far x9 : Int32} (hsd : sd = 0 ∨ sd = 1) (hO : zy_Row ce ro O) (hp : p < 8) (hyr : yr (sd * 5) = own) (h : ∀ yr', zy_Ar sd ((if x9 = -1 then own else zp_mix (O p) own far), (if x9 = -1 then 4 else zy_fl x9 (nI p) (nI q) (zp_torn (O p) own far)), O p, own, far) yr yr' → post (fw, fb, cp, nI P, nI T, nI N, ce, pr, fl, sg, yw, yc, yr')) : wY_arrive_159 post (nI sd) (nI ro) (nI q) own (nI p) (nI (sd * 5)) x9 far fw fb cp (nI P) (nI T) (nI N) ce pr fl sg yw yc yr := by
  have hro := hO.1
  have iO : vp_in (nI ro * 8 + nI p) 2064 := by rw [zx_i8]; exact vp_in_nI (by omega) (by omega)
  have eO : ce (nI ro * 8 + nI p).toNatClampNeg = O p := by rw [zx_i8, nI_clamp (by omega)]; exact hO.2 _ hp
  refine ⟨iO, nm_r eO ?_⟩
  rcases hsd with rfl | rfl
  · refine br_t rfl (br_t rfl (zy_197 (k := 0) (by omega) ?_))
    intro yr' f1 f2 f3 f4 f5 f6
    refine h yr' ⟨?_, f2, f3, f4, f5, f6⟩
    rw [f1]
    have hyr' : yr 0 = own := hyr
    rw [hyr']
  · refine br_f (by decide) (br_f (by decide) (zy_197 (k := 5) (by omega) ?_))
    intro yr' f1 f2 f3 f4 f5 f6
    refine h yr' ⟨?_, ?_, f3, f5, f4, f6⟩
    · have hyr' : yr 5 = own := hyr
      rw [hyr', zp_mix_sym] at f1
      exact f1
    · rw [zp_torn_sym] at f2
      exact f2
theorem zy_arr32 {post : SY → Prop} {own cm : Int32} (hsd : sd = 0 ∨ sd = 1) (hO : zy_Row ce ro O) (hR : zy_Row ce (if sd = 0 then rb else ra) R) (hq : q < 8) (hcm : yc (sd * 8 + q) = cm) (hcp : cm = -1 ∨ ∃ p, p < 8 ∧ cm = nI p) (hw : ∀ p, p < 8 → yw ((1 - sd) * 8 + p) = w p) (hwp : ∀ p, p < 8 → w p = -1 ∨ ∃ pl, pl < 8 ∧ w p = nI pl) (h : ∀ yr', zy_Ar sd (zq_arr O R w own cm q) yr yr' → post (fw, fb, cp, nI P, nI T, nI N, ce, pr, fl, sg, yw, yc, yr')) : wY_arrive_32 post (nI sd) (nI ro) (nI ra) (nI rb) (nI q) own fw fb cp (nI P) (nI T) (nI N) ce pr fl sg yw yc yr := by
  have e5 : nI sd * 5 = nI (sd * 5) := pk_mul sd 5
  have e1 : (1 : Int32) - nI sd = nI (1 - sd) := pk_sub (a := 1) (by omega)
  refine ⟨?_, nm_r (e' := cm) ?_ (nm_r e5 ⟨vp_in_nI (by omega) (by omega), nm_r (e' := upd yr (sd * 5) own) ?_ ⟨5, ?_⟩⟩)⟩
  · rw [zx_i8]; exact vp_in_nI (by omega) (by omega)
  · rw [zx_i8, nI_clamp (by omega)]; exact hcm
  · rw [nI_clamp (by omega)]
  refine zy_65 (k := sd * 5) (by omega) 4 1 (upd yr (sd * 5) own) rfl ?_
  have z0 : ∀ j, zy_zr (sd * 5) (upd yr (sd * 5) own) 4 1 j = upd (upd (upd (upd (upd yr (sd * 5) own) (sd * 5 + 1) 0) (sd * 5 + 2) 0) (sd * 5 + 3) 0) (sd * 5 + 4) 0 j := fun _ => rfl
  generalize zy_zr (sd * 5) (upd yr (sd * 5) own) 4 1 = yr1 at z0 ⊢
  have y0 : yr1 (sd * 5) = own := by rw [z0, pk_un (by omega), pk_un (by omega), pk_un (by omega), pk_un (by omega), pk_us]
  have yi : ∀ i, 1 ≤ i → i ≤ 4 → yr1 (sd * 5 + i) = 0 := by
    intro i h1 h2
    have : i = 1 ∨ i = 2 ∨ i = 3 ∨ i = 4 := by omega
    rcases this with rfl | rfl | rfl | rfl
    · rw [z0, pk_un (by omega), pk_un (by omega), pk_un (by omega), pk_us]
    · rw [z0, pk_un (by omega), pk_un (by omega), pk_us]
    · rw [z0, pk_un (by omega), pk_us]
    · rw [z0, pk_us]
  have yo : ∀ j, (j < sd * 5 ∨ sd * 5 + 5 ≤ j) → yr1 j = yr j := by
    intro j hj
    rw [z0, pk_un (by omega), pk_un (by omega), pk_un (by omega), pk_un (by omega), pk_un (by omega)]
  have y3 : yr1 (sd * 5 + 3 + sd) = 0 := by
    have := yi (3 + sd) (by omega) (by omega)
    rw [Nat.add_assoc]; exact this
  have y4 : yr1 (sd * 5 + 4 - sd) = 0 := by
    have := yi (4 - sd) (by omega) (by omega)
    rw [Nat.add_sub_assoc (by omega)]; exact this
  have hz : (own = 0 ∨ cm = -1) → post (fw, fb, cp, nI P, nI T, nI N, ce, pr, fl, sg, yw, yc, yr1) := by
    intro z
    rw [zq_arr_0 z] at h
    exact h yr1 ⟨y0, yi 1 (by omega) (by omega), yi 2 (by omega) (by omega), y3, y4, yo⟩
  refine br_t (nI_le (a := 5) (by omega) (by omega)) (br_c (fun e => hz (Or.inl e)) (fun e => br_c (fun f => hz (Or.inr f)) (fun f => ?_)))
  rcases hcp with z | ⟨p, hp, rfl⟩
  · exact absurd z f
  rw [e1]
  have ew : yw (nI (1 - sd) * 8 + nI p).toNatClampNeg = w p := by rw [zx_i8, nI_clamp (by omega)]; exact hw p hp
  refine ⟨?_, nm_r ew ?_⟩
  · rw [zx_i8]; exact vp_in_nI (by omega) (by omega)
  rcases hwp p hp with z | ⟨pl, hpl, z⟩
  · refine br_t z (zy_159 (O := O) hsd hO hp y0 ?_)
    intro yr' ha
    rw [z, if_pos rfl, if_pos rfl] at ha
    obtain ⟨f1, f2, f3, f4, f5, f6⟩ := ha
    refine h yr' ?_
    rw [zq_arr_d hp e z]
    exact ⟨f1, f2, f3, f4, f5, fun j hj => (f6 j hj).trans (yo j hj)⟩
  · have hn : ¬ w p = -1 := by rw [z]; exact zr_m1 (by omega)
    refine br_f hn ?_
    rw [z]
    have fin : ∀ far, far = R pl → wY_arrive_157 post (nI sd) (nI ro) (nI q) own (nI p) (nI (sd * 5)) (nI pl) far fw fb cp (nI P) (nI T) (nI N) ce pr fl sg yw yc yr1 := by
      intro far hfar
      subst hfar
      refine zy_159 (O := O) hsd hO hp y0 ?_
      intro yr' ha
      rw [if_neg (zr_m1 (by omega)), if_neg (zr_m1 (by omega))] at ha
      obtain ⟨f1, f2, f3, f4, f5, f6⟩ := ha
      refine h yr' ?_
      rw [zq_arr_r hp hpl e z]
      exact ⟨f1, f2, f3, f4, f5, fun j hj => (f6 j hj).trans (yo j hj)⟩
    rcases hsd with rfl | rfl
    · have hR' : zy_Row ce rb R := hR
      have hrb := hR'.1
      refine br_t rfl ⟨?_, fin _ ?_⟩
      · rw [zx_i8]; exact vp_in_nI (by omega) (by omega)
      · rw [zx_i8, nI_clamp (by omega)]; exact hR'.2 pl hpl
    · have hR' : zy_Row ce ra R := hR
      have hra := hR'.1
      refine br_f (by decide) ⟨?_, fin _ ?_⟩
      · rw [zx_i8]; exact vp_in_nI (by omega) (by omega)
      · rw [zx_i8, nI_clamp (by omega)]; exact hR'.2 pl hpl
theorem zy_arrive {post : SY → Prop} {cm : Int32} (hsd : sd = 0 ∨ sd = 1) (hO : zy_Row ce ro O) (hS : zy_Row ce (if sd = 0 then ra else rb) S) (hR : zy_Row ce (if sd = 0 then rb else ra) R) (hq : q < 8) (hcm : yc (sd * 8 + q) = cm) (hcp : cm = -1 ∨ ∃ p, p < 8 ∧ cm = nI p) (hw : ∀ p, p < 8 → yw ((1 - sd) * 8 + p) = w p) (hwp : ∀ p, p < 8 → w p = -1 ∨ ∃ pl, pl < 8 ∧ w p = nI pl) (h : ∀ yr', zy_Ar sd (zq_arr O R w (S q) cm q) yr yr' → post (fw, fb, cp, nI P, nI T, nI N, ce, pr, fl, sg, yw, yc, yr')) : wpY_arrive post (fw, fb, cp, nI P, nI T, nI N, ce, pr, fl, sg, yw, yc, yr) (nI sd) (nI ro) (nI ra) (nI rb) (nI q) := by
  rcases hsd with rfl | rfl
  · have hS' : zy_Row ce ra S := hS
    have hra := hS'.1
    refine br_t rfl ⟨?_, ?_⟩
    · rw [zx_i8]; exact vp_in_nI (by omega) (by omega)
    · rw [zx_i8, nI_clamp (by omega), hS'.2 q hq]
      exact zy_arr32 (sd := 0) (O := O) (R := R) (w := w) (Or.inl rfl) hO hR hq hcm hcp hw hwp h
  · have hS' : zy_Row ce rb S := hS
    have hrb := hS'.1
    refine br_f (by decide) ⟨?_, ?_⟩
    · rw [zx_i8]; exact vp_in_nI (by omega) (by omega)
    · rw [zx_i8, nI_clamp (by omega), hS'.2 q hq]
      exact zy_arr32 (sd := 1) (O := O) (R := R) (w := w) (Or.inr rfl) hO hR hq hcm hcp hw hwp h
def zy_A2 (a b : Int32 × Int32 × Int32 × Int32 × Int32) (yr : Nat → Int32) : Prop :=
  yr 0 = a.1 ∧ yr 1 = a.2.1 ∧ yr 2 = a.2.2.1 ∧ yr 3 = a.2.2.2.1 ∧ yr 4 = a.2.2.2.2 ∧
  yr 5 = b.1 ∧ yr 6 = b.2.1 ∧ yr 7 = b.2.2.1 ∧ yr 9 = b.2.2.2.1 ∧ yr 8 = b.2.2.2.2
theorem zy_new72 {post : SY → Prop} {a b : Int32 × Int32 × Int32 × Int32 × Int32} {al : Bool} {z0 : Int32} (ht : rt < 258) (hq : q < 8) (h2 : zy_A2 a b yr) (hz : z0 = if al = true then 1 else 0) (h : ∀ ce' fl' sg', zy_Se rt q (zq_new a b al).1 (zq_new a b al).2.1 (zq_new a b al).2.2.1 (zq_new a b al).2.2.2.1 (zq_new a b al).2.2.2.2 ce fl sg ce' fl' sg' → post (fw, fb, cp, nI P, nI T, nI N, ce', pr, fl', sg', yw, yc, yr)) : wY_newPath_72 post (nI rt) (nI q) a.1 b.1 z0 fw fb cp (nI P) (nI T) (nI N) ce pr fl sg yw yc yr := by
  obtain ⟨g1, g2, g3, g4, g5, g6, g7, g8, g9, g10⟩ := h2
  unfold zq_new at h
  have H115 : ¬ (a.1 = 0 ∧ b.1 = 0) → (b.1 = 0 ∨ (¬ a.1 = 0 ∧ al = true)) → wY_newPath_115 post (nI rt) (nI q) a.1 fw fb cp (nI P) (nI T) (nI N) ce pr fl sg yw yc yr := by
    intro n1 c
    rw [if_neg n1, if_pos c] at h
    unfold wY_newPath_115
    rw [g2, g3, g4, g5]
    exact zy_set _ _ _ _ _ ht hq h
  have H152 : ¬ (a.1 = 0 ∧ b.1 = 0) → ¬ (b.1 = 0 ∨ (¬ a.1 = 0 ∧ al = true)) → wY_newPath_152 post (nI rt) (nI q) a.1 b.1 fw fb cp (nI P) (nI T) (nI N) ce pr fl sg yw yc yr := by
    intro n1 n2
    rw [if_neg n1, if_neg n2] at h
    refine br_c (fun e => ?_) (fun e => ?_)
    · rw [if_pos e] at h
      rw [g7, g8, g9, g10]
      exact zy_set _ _ _ _ _ ht hq h
    · rw [if_neg e] at h
      refine zy_mix _ _ _ (nm_r (e' := a.2.1 ||| b.2.1) (by rw [g2, g7]) (br_c (fun k => ?_) (fun k => nm_e ?_)))
      · rw [if_pos k] at h
        unfold wY_newPath_239
        exact zy_set _ _ _ _ _ ht hq h
      · rw [if_neg k] at h
        unfold wY_newPath_239
        exact zy_set _ _ _ _ _ ht hq h
  have H100 : ¬ (a.1 = 0 ∧ b.1 = 0) → wY_newPath_100 post (nI rt) (nI q) a.1 b.1 z0 fw fb cp (nI P) (nI T) (nI N) ce pr fl sg yw yc yr := by
    intro n1
    refine br_c (fun e => H115 n1 (Or.inl e)) (fun e => br_c (fun f => H152 n1 (fun z => z.elim e (fun z => z.1 f))) (fun f => br_c (fun g => H152 n1 ?_) (fun g => H115 n1 (Or.inr ⟨f, ?_⟩))))
    · rintro (z | ⟨_, z⟩)
      · exact e z
      · rw [hz, z, if_pos rfl] at g; exact absurd g (by decide)
    · cases al
      · rw [hz, if_neg (by decide)] at g; exact absurd rfl g
      · rfl
  refine br_c (fun e => br_c (fun f => ?_) (fun f => H100 (fun z => f z.2))) (fun e => H100 (fun z => e z.1))
  rw [if_pos ⟨e, f⟩] at h
  exact zy_set _ _ _ _ _ ht hq h
theorem zy_newPath {post : SY → Prop} (hO : zy_Row ce ro O) (hA : zy_Row ce ra A) (hB : zy_Row ce rb B) (ht : rt < 258) (hq : q < 8) (h1 : ∀ p, p < 8 → yw (0 + p) = (zr_all T O A).1 p ∧ yc (0 + p) = (zr_all T O A).2 p) (h2 : ∀ p, p < 8 → yw (8 + p) = (zr_all T O B).1 p ∧ yc (8 + p) = (zr_all T O B).2 p) (h0 : O q = 0) (h : ∀ ce' fl' sg' yr', zy_Se rt q (zq_pth T O A B q).1 (zq_pth T O A B q).2.1 (zq_pth T O A B q).2.2.1 (zq_pth T O A B q).2.2.2.1 (zq_pth T O A B q).2.2.2.2 ce fl sg ce' fl' sg' → post (fw, fb, cp, nI P, nI T, nI N, ce', pr, fl', sg', yw, yc, yr')) : wpY_newPath post (fw, fb, cp, nI P, nI T, nI N, ce, pr, fl, sg, yw, yc, yr) (nI ro) (nI ra) (nI rb) (nI rt) (nI q) := by
  have wB : ∀ (S : Nat → Int32), ∀ p, p < 8 → (zr_all T O S).1 p = -1 ∨ ∃ pl, pl < 8 ∧ (zr_all T O S).1 p = nI pl := by
    intro S p hp
    rcases (zr_all_inv T O S).1 p (by omega) with z | ⟨pl, z1, z2, z3⟩
    · exact Or.inl z
    · exact Or.inr ⟨pl, z1, z2⟩
  have cB : ∀ (S : Nat → Int32), ∀ p, p < 8 → (zr_all T O S).2 p = -1 ∨ ∃ pl, pl < 8 ∧ (zr_all T O S).2 p = nI pl := by
    intro S p hp
    rcases (zr_all_inv T O S).2 p (by omega) with z | ⟨pl, z1, z2, _⟩
    · exact Or.inl z
    · exact Or.inr ⟨pl, z1, z2⟩
  have ep : zq_pth T O A B q = zq_new (zq_arr O B (zr_all T O B).1 (A q) ((zr_all T O A).2 q) q) (zq_arr O A (zr_all T O A).1 (B q) ((zr_all T O B).2 q) q) (zq_al ((zr_all T O A).2 q) ((zr_all T O B).2 q)) := if_pos h0
  rw [ep] at h
  have c1 : yc q = (zr_all T O A).2 q := by have := (h1 q hq).2; rw [Nat.zero_add] at this; exact this
  have c2 : yc (8 + q) = (zr_all T O B).2 q := (h2 q hq).2
  unfold wpY_newPath
  refine zy_arrive (sd := 0) (O := O) (S := A) (R := B) (w := (zr_all T O B).1) (Or.inl rfl) hO hA hB hq (h1 q hq).2 (cB A q hq) (fun p hp => (h2 p hp).1) (wB B) ?_
  intro yr1 a1
  refine zy_arrive (sd := 1) (O := O) (S := B) (R := A) (w := (zr_all T O A).1) (Or.inr rfl) hO hB hA hq (h2 q hq).2 (cB B q hq) (fun p hp => (h1 p hp).1) (wB A) ?_
  intro yr2 a2
  obtain ⟨d1, d2, d3, d4, d5, _⟩ := a1
  obtain ⟨b1, b2, b3, b4, b5, b6⟩ := a2
  have h2' : zy_A2 (zq_arr O B (zr_all T O B).1 (A q) ((zr_all T O A).2 q) q) (zq_arr O A (zr_all T O A).1 (B q) ((zr_all T O B).2 q) q) yr2 :=
    ⟨(b6 0 (by omega)).trans d1, (b6 1 (by omega)).trans d2, (b6 2 (by omega)).trans d3, (b6 3 (by omega)).trans d4, (b6 4 (by omega)).trans d5, b1, b2, b3, b4, b5⟩
  have e8 : (8 : Int32) + nI q = nI (8 + q) := nI_add 8 q
  have k1 : yc (nI q).toNatClampNeg = (zr_all T O A).2 q := by rw [nI_clamp (by omega)]; exact c1
  have k2 : yc ((8 : Int32) + nI q).toNatClampNeg = (zr_all T O B).2 q := by rw [e8, nI_clamp (by omega)]; exact c2
  have iq : vp_in (nI q) 16 := vp_in_nI (by omega) (by omega)
  have K0 : zq_al ((zr_all T O A).2 q) ((zr_all T O B).2 q) = false → wY_newPath_72 post (nI rt) (nI q) (zq_arr O B (zr_all T O B).1 (A q) ((zr_all T O A).2 q) q).1 (zq_arr O A (zr_all T O A).1 (B q) ((zr_all T O B).2 q) q).1 0 fw fb cp (nI P) (nI T) (nI N) ce pr fl sg yw yc yr2 :=
    fun z => zy_new72 ht hq h2' (by rw [z]; rfl) (fun ce' fl' sg' => h ce' fl' sg' yr2)
  refine nm_r h2'.1 (nm_r h2'.2.2.2.2.2.1 ⟨iq, ?_⟩)
  rw [k1]
  refine br_c (fun e => K0 (decide_eq_false (fun z => z.1 e))) (fun e => ⟨iq, ?_, ?_⟩)
  · rw [e8]; exact vp_in_nI (by omega) (by omega)
  · rw [k2]
    refine br_c (fun f => ?_) (fun f => K0 (decide_eq_false (fun z => f z.2)))
    have z : zq_al ((zr_all T O A).2 q) ((zr_all T O B).2 q) = true := decide_eq_true ⟨e, f⟩
    exact zy_new72 ht hq h2' (by rw [z]; rfl) (fun ce' fl' sg' => h ce' fl' sg' yr2)
/-- path j of the result stands in row rt, flagOf, stageOf -/
def zy_Dn (rt : Nat) (v : Int32 × Int32 × Int32 × Int32 × Int32) (j : Nat) (ce fl sg : Nat → Int32) : Prop :=
  ce (rt * 8 + j) = v.1 ∧ sg j = zz_st v.2.1 v.2.2.1 ∧ sg (8 + j) = zz_st v.2.1 v.2.2.2.1 ∧ sg (16 + j) = zz_st v.2.1 v.2.2.2.2 ∧ fl j = v.2.1
theorem zy_Dn_Se {v : Int32 × Int32 × Int32 × Int32 × Int32} {ce fl sg ce' fl' sg' : Nat → Int32} (h : zy_Se rt q v.1 v.2.1 v.2.2.1 v.2.2.2.1 v.2.2.2.2 ce fl sg ce' fl' sg') : zy_Dn rt v q ce' fl' sg' :=
  ⟨h.1, h.2.2.1, h.2.2.2.1, h.2.2.2.2.1, h.2.1⟩
theorem zy_Dn_keep {v : Int32 × Int32 × Int32 × Int32 × Int32} {m f s1 s2 s3 : Int32} {j : Nat} {ce fl sg ce' fl' sg' : Nat → Int32} (hq : q < 8) (hj : j < q) (h : zy_Se rt q m f s1 s2 s3 ce fl sg ce' fl' sg') (hd : zy_Dn rt v j ce fl sg) : zy_Dn rt v j ce' fl' sg' := by
  obtain ⟨_, _, _, _, _, k1, k2, k3⟩ := h
  obtain ⟨d1, d2, d3, d4, d5⟩ := hd
  exact ⟨(k1 _ (by omega)).trans d1, (k3 _ (by omega) (by omega) (by omega)).trans d2, (k3 _ (by omega) (by omega) (by omega)).trans d3, (k3 _ (by omega) (by omega) (by omega)).trans d4, (k2 _ (by omega)).trans d5⟩
theorem zy_Row_keep {ce ce0 : Nat → Int32} {r : Nat} (hr : r ≠ rt) (h : ∀ j, (j < rt * 8 ∨ rt * 8 + 8 ≤ j) → ce j = ce0 j) (hR : zy_Row ce0 r O) : zy_Row ce r O :=
  ⟨hR.1, fun p hp => (h _ (by omega)).trans (hR.2 p hp)⟩
theorem zy_tw17 {post : SY → Prop} {ce0 : Nat → Int32} (hO : zy_Row ce0 ro O) (hA : zy_Row ce0 ra A) (hB : zy_Row ce0 rb B) (ht : rt < 258) (hor : ro ≠ rt) (har : ra ≠ rt) (hbr : rb ≠ rt) (h1 : ∀ p, p < 8 → yw (0 + p) = (zr_all T O A).1 p ∧ yc (0 + p) = (zr_all T O A).2 p) (h2 : ∀ p, p < 8 → yw (8 + p) = (zr_all T O B).1 p ∧ yc (8 + p) = (zr_all T O B).2 p) (h : ∀ ce' fl' sg' yr', (∀ j, j < 8 → zy_Dn rt (zq_pth T O A B j) j ce' fl' sg') → (∀ j, (j < rt * 8 ∨ rt * 8 + 8 ≤ j) → ce' j = ce0 j) → post (fw, fb, cp, nI P, nI T, nI N, ce', pr, fl', sg', yw, yc, yr')) : ∀ n q (ce fl sg yr : Nat → Int32), q + n = 8 → (∀ j, j < q → zy_Dn rt (zq_pth T O A B j) j ce fl sg) → (∀ j, (j < rt * 8 ∨ rt * 8 + 8 ≤ j) → ce j = ce0 j) → wY_threeWay_17 post (nI ro) (nI ra) (nI rb) (nI rt) (n + 1) (nI q) fw fb cp (nI P) (nI T) (nI N) ce pr fl sg yw yc yr := by
  intro n
  induction n with
  | zero =>
    intro q ce fl sg yr hq hd hk
    have e : q = 8 := by omega
    subst e
    exact br_t (nI_le (a := 8) (by omega) (by omega)) (h ce fl sg yr hd hk)
  | succ n ih =>
    intro q ce fl sg yr hq hd hk
    have RO := zy_Row_keep hor hk hO
    have RA := zy_Row_keep har hk hA
    have RB := zy_Row_keep hbr hk hB
    have hro := RO.1
    have nxt : ∀ ce' fl' sg' yr', zy_Se rt q (zq_pth T O A B q).1 (zq_pth T O A B q).2.1 (zq_pth T O A B q).2.2.1 (zq_pth T O A B q).2.2.2.1 (zq_pth T O A B q).2.2.2.2 ce fl sg ce' fl' sg' → wY_threeWay_17 post (nI ro) (nI ra) (nI rb) (nI rt) (n + 1) (nI (q + 1)) fw fb cp (nI P) (nI T) (nI N) ce' pr fl' sg' yw yc yr' := by
      intro ce' fl' sg' yr' hs
      refine ih (q + 1) ce' fl' sg' yr' (by omega) ?_ ?_
      · intro j hj
        by_cases ej : j = q
        · subst ej; exact zy_Dn_Se hs
        · exact zy_Dn_keep (by omega) (by omega) hs (hd j (by omega))
      · intro j hj
        exact (hs.2.2.2.2.2.1 j (by omega)).trans (hk j hj)
    have iO : vp_in (nI ro * 8 + nI q) 2064 := by rw [zx_i8]; exact vp_in_nI (by omega) (by omega)
    have eO : ce (nI ro * 8 + nI q).toNatClampNeg = O q := by rw [zx_i8, nI_clamp (by omega)]; exact RO.2 _ (by omega)
    refine br_f (nI_ge (b := 8) (by omega) (by omega)) ⟨iO, ?_⟩
    rw [eO]
    refine br_c (fun e => ?_) (fun e => ?_)
    · refine zy_newPath (O := O) (A := A) (B := B) RO RA RB ht (by omega) h1 h2 e ?_
      intro ce' fl' sg' yr' hs
      exact nm_r (nI_1 q) (nxt ce' fl' sg' yr' hs)
    · have ep : zq_pth T O A B q = ((zq_old (O q) (A q) (B q) ((zr_all T O A).1 q) ((zr_all T O B).1 q) (nI q)).1, (zq_old (O q) (A q) (B q) ((zr_all T O A).1 q) ((zr_all T O B).1 q) (nI q)).2, O q, A q, B q) := if_neg e
      refine zy_oldPath (O := O) (A := A) (B := B) RO RA RB ht (by omega) (wa := (zr_all T O A).1 q) (wb := (zr_all T O B).1 q) ?_ (h2 q (by omega)).1 ?_
      · have := (h1 q (by omega)).1; rw [Nat.zero_add] at this; exact this
      · intro ce' fl' sg' hs
        refine nm_r (nI_1 q) (nxt ce' fl' sg' yr ?_)
        rw [ep]; exact hs
theorem zy_threeWay {post : SY → Prop} (hT : 1 ≤ T ∧ T ≤ 4) (hO : zy_Row ce ro O) (hA : zy_Row ce ra A) (hB : zy_Row ce rb B) (ht : rt < 258) (hor : ro ≠ rt) (har : ra ≠ rt) (hbr : rb ≠ rt) (h : ∀ ce' fl' sg' yw' yc' yr', (∀ j, j < 8 → zy_Dn rt (zq_pth T O A B j) j ce' fl' sg') → (∀ j, (j < rt * 8 ∨ rt * 8 + 8 ≤ j) → ce' j = ce j) → (∀ p, p < 8 → yw' p = (zr_all T O A).1 p ∧ yw' (8 + p) = (zr_all T O B).1 p) → post (fw, fb, cp, nI P, nI T, nI N, ce', pr, fl', sg', yw', yc', yr')) : wpY_threeWay post (fw, fb, cp, nI P, nI T, nI N, ce, pr, fl, sg, yw, yc, yr) (nI ro) (nI ra) (nI rb) (nI rt) := by
  unfold wpY_threeWay
  refine zy_renames (sd := 0) (O := O) (S := A) hT (by omega) hO hA ?_
  intro yw1 yc1 h1
  refine zy_renames (sd := 1) (O := O) (S := B) hT (by omega) hO hB ?_
  intro yw2 yc2 h2
  have k1 : ∀ p, p < 8 → yw2 (0 + p) = (zr_all T O A).1 p ∧ yc2 (0 + p) = (zr_all T O A).2 p := by
    intro p hp
    have z := h2.2 (0 + p) (by omega)
    have y := h1.1 p hp
    exact ⟨z.1.trans y.1, z.2.trans y.2⟩
  refine ⟨9, zy_tw17 (O := O) (A := A) (B := B) (ce0 := ce) hO hA hB ht hor har hbr k1 h2.1 ?_ 8 0 ce fl sg yr rfl (fun j hj => absurd hj (by omega)) (fun _ _ => rfl)⟩
  intro ce' fl' sg' yr' hd hk
  refine h ce' fl' sg' yw2 yc2 yr' hd hk (fun p hp => ⟨?_, (h2.1 p hp).1⟩)
  have := (k1 p hp).1
  rw [Nat.zero_add] at this; exact this
end
end
section
/-! ===== X: virtual trees ===== -/
def zx_rw (P : Nat) (tr : Nat → Int32) (m : Nat) : Nat → Int32 := fun q => if q < P then tr (m * 8 + q) else 0
theorem zx_rw_R {P m : Nat} {tr : Nat → Int32} (hm : m < 256) : zx_R P tr m (zx_rw P tr m) :=
  ⟨hm, fun p hp => (if_pos hp).symm, fun p hp => if_neg (by omega)⟩
theorem zx_rw_eq {P m : Nat} {tr tr' : Nat → Int32} (h : ∀ q, q < P → tr' (m * 8 + q) = tr (m * 8 + q)) : zx_rw P tr' m = zx_rw P tr m := by
  funext q
  unfold zx_rw
  by_cases hq : q < P
  · rw [if_pos hq, if_pos hq, h q hq]
  · rw [if_neg hq, if_neg hq]
def zg_b (an : Nat → Int32) (r j : Nat) : Nat := (zg_best an (nI r) (nI (2 ^ j))).toNatClampNeg
theorem zg_b_ok {N j r : Nat} {pr an : Nat → Int32} (G : zi_G N pr an) (hN : N ≤ 8) (hj : j < N) (hr : r < 2 ^ j) : zg_best an (nI r) (nI (2 ^ j)) = nI (zg_b an r j) ∧ zg_b an r j < 2 ^ j := by
  obtain ⟨b, hb, e⟩ := zb_mask (k := j) (by omega) (zg_best_le (y := nI (2 ^ j)) G (by omega) (zg_V_nI hr))
  have h8 := zg_pw8 j (by omega)
  have e2 : zg_b an r j = b := by unfold zg_b; rw [e]; exact nI_clamp (by omega)
  rw [e2]
  exact ⟨e, hb⟩
theorem zg_rest2 {j r : Nat} (hr : r < 2 ^ j) (hj : j < 8) : nI (2 ^ j + r) &&& (nI (2 ^ j) ^^^ (-1)) = nI r := by
  have := zg_rest hr hj
  rw [zb_pow (by omega)] at this
  exact this
theorem zg_uniq {j r j' r' : Nat} (hr' : r' < 2 ^ j') (hr : r < 2 ^ j) (h : 2 ^ j' + r' = 2 ^ j + r) : j' = j ∧ r' = r := by
  have e : j' = j := by
    rcases Nat.lt_trichotomy j' j with z | z | z
    · have h1 : 2 ^ (j' + 1) ≤ 2 ^ j := Nat.pow_le_pow_right (by omega) (by omega)
      have h2 : 2 ^ (j' + 1) = 2 ^ j' * 2 := Nat.pow_succ 2 j'
      omega
    · exact z
    · have h1 : 2 ^ (j + 1) ≤ 2 ^ j' := Nat.pow_le_pow_right (by omega) (by omega)
      have h2 : 2 ^ (j + 1) = 2 ^ j * 2 := Nat.pow_succ 2 j
      omega
  subst e
  exact ⟨rfl, by omega⟩
theorem zz_nar1 : ¬ vp_nar .boolean 1 = 0 := by decide
/-- the known rows: closed, each what its parts give -/
def zi_K (N P T : Nat) (an tr kn : Nat → Int32) : Prop :=
  ¬ kn 0 = 0 ∧ (∀ q, q < P → tr (0 * 8 + q) = 0) ∧ (∀ c, c < N → ¬ kn (2 ^ c) = 0) ∧ (∀ m, m < 256 → ¬ kn m = 0 → m < 2 ^ N) ∧
  (∀ j r, 0 < r → r < 2 ^ j → 2 ^ j + r < 256 → ¬ kn (2 ^ j + r) = 0 → ¬ kn r = 0 ∧ ¬ kn (zg_b an r j) = 0 ∧ zx_rw P tr (2 ^ j + r) = zq_row T (zx_rw P tr (zg_b an r j)) (zx_rw P tr r) (zx_rw P tr (2 ^ j)))
def zi_W (kn wn : Nat → Int32) : Prop := ∀ j, j < 256 → ¬ wn j = 0 → ¬ kn j = 0
section
variable {cp : Int32} {P T N : Nat} {pr an tr kn wn wk wf lb lw ta we ca ou og ar ag : Nat → Int32}
theorem zx_wantParts {post : SX → Prop} {j r : Nat} (hN : N ≤ 8) (G : zi_G N pr an) (hj : j < N) (hr : r < 2 ^ j) (h : post (cp, nI P, nI T, nI N, pr, an, tr, kn, upd (upd wn r (vp_nar .boolean 1)) (zg_b an r j) (vp_nar .boolean 1), wk, wf, lb, lw, ta, we, ca, ou, og, ar, ag)) : wpX_wantParts post (cp, nI P, nI T, nI N, pr, an, tr, kn, wn, wk, wf, lb, lw, ta, we, ca, ou, og, ar, ag) (nI (2 ^ j + r)) := by
  obtain ⟨e, hb⟩ := zg_b_ok G hN hj hr
  have h8 := zg_pw8 j (by omega)
  have hp : 2 ^ j < 2 ^ N := Nat.pow_lt_pow_right (by omega) hj
  unfold wpX_wantParts
  refine zx_topOf hr (by omega) (nm_r (zg_rest2 hr (by omega)) ?_)
  refine zx_best hN G (zg_V_nI (by omega)) (zg_V_nI hp) ?_
  rw [e]
  refine ⟨vp_in_nI (by omega) (by omega), nm_r (e' := upd wn r (vp_nar .boolean 1)) ?_ ⟨vp_in_nI (by omega) (by omega), nm_r (e' := upd (upd wn r (vp_nar .boolean 1)) (zg_b an r j) (vp_nar .boolean 1)) ?_ h⟩⟩
  · rw [nI_clamp (by omega)]
  · rw [nI_clamp (by omega)]
theorem zx_fold31 {post : SX → Prop} {m : Nat} {tr0 : Nat → Int32} (hP : P ≤ 8) (hm : m < 256) (h : ∀ tr', (∀ q, q < P → tr' (m * 8 + q) = ou q) → (∀ i, (i < m * 8 ∨ m * 8 + 8 ≤ i) → tr' i = tr0 i) → post (cp, nI P, nI T, nI N, pr, an, tr', upd kn m (vp_nar .boolean 1), wn, wk, wf, lb, lw, ta, we, ca, ou, og, ar, ag)) : ∀ n q (tr : Nat → Int32), q + n = P → (∀ q', q' < q → tr (m * 8 + q') = ou q') → (∀ i, (i < m * 8 ∨ m * 8 + 8 ≤ i) → tr i = tr0 i) → wX_fold_31 post (nI m) cp (nI P) (nI T) (nI N) (n + 1) (nI q) pr an tr kn wn wk wf lb lw ta we ca ou og ar ag := by
  intro n
  induction n with
  | zero =>
    intro q tr hq h1 h2
    have e : q = P := by omega
    subst e
    refine br_t (nI_le (by omega) (by omega)) ⟨vp_in_nI (by omega) (by omega), nm_r (e' := upd kn m (vp_nar .boolean 1)) ?_ (h tr h1 h2)⟩
    rw [nI_clamp (by omega)]
  | succ n ih =>
    intro q tr hq h1 h2
    refine br_f (nI_ge (by omega) (by omega)) ⟨vp_in_nI (by omega) (by omega), ?_, nm_r (e' := upd tr (m * 8 + q) (ou q)) ?_ (nm_r (nI_1 q) (ih (q + 1) _ (by omega) ?_ ?_))⟩
    · rw [zx_i8]; exact vp_in_nI (by omega) (by omega)
    · rw [zx_i8, nI_clamp (by omega), nI_clamp (by omega)]
    · intro q' hq'
      by_cases e : q' = q
      · subst e; exact pk_us
      · exact (pk_un (by omega)).trans (h1 q' (by omega))
    · intro i hi
      exact (pk_un (by omega)).trans (h2 i hi)
theorem zx_fold {post : SX → Prop} {j r : Nat} (hP : P ≤ 8) (hT : 1 ≤ T ∧ T ≤ 4) (hN : N ≤ 8) (G : zi_G N pr an) (hj : j < N) (hr : r < 2 ^ j) (h : ∀ tr' ta' we' ca' ou' og' ar' ag', (∀ q, q < P → tr' ((2 ^ j + r) * 8 + q) = (zq_pth T (zx_rw P tr (zg_b an r j)) (zx_rw P tr r) (zx_rw P tr (2 ^ j)) q).1) → (∀ i, (i < (2 ^ j + r) * 8 ∨ (2 ^ j + r) * 8 + 8 ≤ i) → tr' i = tr i) → post (cp, nI P, nI T, nI N, pr, an, tr', upd kn (2 ^ j + r) (vp_nar .boolean 1), wn, wk, wf, lb, lw, ta', we', ca', ou', og', ar', ag')) : wpX_fold post (cp, nI P, nI T, nI N, pr, an, tr, kn, wn, wk, wf, lb, lw, ta, we, ca, ou, og, ar, ag) (nI (2 ^ j + r)) := by
  obtain ⟨e, hb⟩ := zg_b_ok G hN hj hr
  have h8 := zg_pw8 j (by omega)
  have hp : 2 ^ j < 2 ^ N := Nat.pow_lt_pow_right (by omega) hj
  unfold wpX_fold
  refine zx_topOf hr (by omega) (nm_r (zg_rest2 hr (by omega)) ?_)
  refine zx_best hN G (zg_V_nI (by omega)) (zg_V_nI hp) ?_
  rw [e]
  refine zx_threeWay hP hT (zx_rw_R (by omega)) (zx_rw_R (by omega)) (zx_rw_R (by omega)) ?_
  intro ta' we' ca' ou' og' ar' ag' hd _
  refine ⟨P + 1, zx_fold31 (m := 2 ^ j + r) (tr0 := tr) hP (by omega) ?_ P 0 tr (by omega) (fun q' hq' => absurd hq' (by omega)) (fun _ _ => rfl)⟩
  intro tr' h1 h2
  exact h tr' ta' we' ca' ou' og' ar' ag' (fun q hq => (h1 q hq).trans (hd q hq).1) h2
/-- going down: what is wanted, but not known, from m + 1 on has its parts wanted -/
def zx_DI (N b0 : Nat) (an kn : Nat → Int32) (m : Nat) (wn : Nat → Int32) : Prop :=
  ¬ wn b0 = 0 ∧ (∀ i, i < 256 → ¬ wn i = 0 → i < 2 ^ N) ∧ (∀ i, i < 256 → ¬ wn i = 0 → kn i = 0 → i ≤ b0) ∧
  (∀ j r, 0 < r → r < 2 ^ j → 2 ^ j + r < 256 → m < 2 ^ j + r → ¬ wn (2 ^ j + r) = 0 → kn (2 ^ j + r) = 0 → ¬ wn r = 0 ∧ ¬ wn (zg_b an r j) = 0)
theorem zx_mono {wn : Nat → Int32} {a b i : Nat} (h : ¬ wn i = 0) : ¬ upd (upd wn a (vp_nar .boolean 1)) b (vp_nar .boolean 1) i = 0 := by
  by_cases e : i = b
  · subst e; rw [pk_us]; exact zz_nar1
  · rw [pk_un e]
    by_cases e2 : i = a
    · subst e2; rw [pk_us]; exact zz_nar1
    · rw [pk_un e2]; exact h
theorem zx_prep9 {post : SX → Prop} {b0 : Nat} (hN : N ≤ 8) (G : zi_G N pr an) (K : zi_K N P T an tr kn) (hb0 : b0 < 2 ^ N) (h : ∀ wn', zx_DI N b0 an kn 0 wn' → ∃ n44, wX_prepare_44 post (nI b0) n44 (nI 1) cp (nI P) (nI T) (nI N) pr an tr kn wn' wk wf lb lw ta we ca ou og ar ag) : ∀ m (wn : Nat → Int32), m ≤ b0 → zx_DI N b0 an kn m wn → wX_prepare_9 post (nI b0) (m + 1) (nI m) cp (nI P) (nI T) (nI N) pr an tr kn wn wk wf lb lw ta we ca ou og ar ag := by
  have hp8 := zg_pw N hN
  intro m
  induction m with
  | zero =>
    intro wn hm hD
    exact br_t (by decide) (h wn hD)
  | succ m ih =>
    intro wn hm hD
    have hsk : (¬ wn (m + 1) = 0 → kn (m + 1) = 0 → False) → zx_DI N b0 an kn m wn := by
      intro hno
      refine ⟨hD.1, hD.2.1, hD.2.2.1, ?_⟩
      intro j r h1 h2 h3 h4 h5 h6
      by_cases e : m + 1 = 2 ^ j + r
      · rw [← e] at h5 h6
        exact (hno h5 h6).elim
      · exact hD.2.2.2 j r h1 h2 h3 (by omega) h5 h6
    have cm : (nI (m + 1)).toNatClampNeg = m + 1 := nI_clamp (by omega)
    refine br_f (nI_nle (by omega) (by omega)) ⟨vp_in_nI (by omega) (by omega), ?_⟩
    rw [cm]
    refine br_c (fun e => nm_r (pk_m1 m) (ih wn (by omega) (hsk (fun z _ => z e)))) (fun e => ⟨vp_in_nI (by omega) (by omega), br_c (fun f => ?_) (fun f => nm_r (pk_m1 m) (ih wn (by omega) (hsk (fun _ z => f z))))⟩)
    obtain ⟨j, r, hr, em⟩ := zg_split (m := m + 1) (by omega)
    have hmN : m + 1 < 2 ^ N := by omega
    have hj : j < N := by
      rw [em] at hmN
      exact zg_split_lt hmN
    rw [em]
    refine zx_wantParts hN G hj hr ?_
    rw [← em]
    refine nm_r (pk_m1 m) (ih _ (by omega) ?_)
    obtain ⟨_, hb⟩ := zg_b_ok G hN hj hr
    refine ⟨zx_mono hD.1, ?_, ?_, ?_⟩
    · intro i hi hw
      by_cases e1 : i = zg_b an r j
      · omega
      · rw [pk_un e1] at hw
        by_cases e2 : i = r
        · omega
        · rw [pk_un e2] at hw
          exact hD.2.1 i hi hw
    · intro i hi hw hk
      by_cases e1 : i = zg_b an r j
      · omega
      · rw [pk_un e1] at hw
        by_cases e2 : i = r
        · omega
        · rw [pk_un e2] at hw
          exact hD.2.2.1 i hi hw hk
    · intro j' r' h1 h2 h3 h4 h5 h6
      by_cases e1 : m + 1 = 2 ^ j' + r'
      · have hjj : j' = j ∧ r' = r := zg_uniq h2 hr (e1.symm.trans em)
        obtain ⟨rfl, rfl⟩ := hjj
        refine ⟨?_, ?_⟩
        · by_cases e2 : r' = zg_b an r' j'
          · rw [← e2, pk_us]; exact zz_nar1
          · rw [pk_un e2, pk_us]; exact zz_nar1
        · rw [pk_us]; exact zz_nar1
      · rw [pk_un (by omega), pk_un (by omega)] at h5
        obtain ⟨g1, g2⟩ := hD.2.2.2 j' r' h1 h2 h3 (by omega) h5 h6
        exact ⟨zx_mono g1, zx_mono g2⟩
end
end
section
/-! ===== X: folding what is wanted, upwards ===== -/
theorem zq_row_x {P t : Nat} {O A B : Nat → Int32} {f : Nat → Int32} (hP : P ≤ 8) (hO : ∀ p, P ≤ p → O p = 0) (hA : ∀ p, P ≤ p → A p = 0) (hB : ∀ p, P ≤ p → B p = 0) (h : ∀ q, q < P → f q = (zq_pth t O A B q).1) : (fun q => if q < P then f q else 0) = zq_row t O A B := by
  funext q
  unfold zq_row
  by_cases hq : q < P
  · rw [if_pos hq, if_pos (by omega), h q hq]
  · rw [if_neg hq]
    by_cases h8 : q < 8
    · rw [if_pos h8, zq_pth_far hO hA hB (by omega)]
    · rw [if_neg h8]
theorem zx_rw_far {P m : Nat} {tr : Nat → Int32} : ∀ p, P ≤ p → zx_rw P tr m p = 0 := fun p hp => if_neg (by omega)
/-- a fold keeps the known rows -/
theorem zi_K_fold {N P T j r : Nat} {pr an tr kn tr' : Nat → Int32} (hP : P ≤ 8) (hN : N ≤ 8) (G : zi_G N pr an) (K : zi_K N P T an tr kn) (hj : j < N) (hr0 : 0 < r) (hr : r < 2 ^ j) (hk : kn (2 ^ j + r) = 0) (hkr : ¬ kn r = 0) (hkb : ¬ kn (zg_b an r j) = 0) (h1 : ∀ q, q < P → tr' ((2 ^ j + r) * 8 + q) = (zq_pth T (zx_rw P tr (zg_b an r j)) (zx_rw P tr r) (zx_rw P tr (2 ^ j)) q).1) (h2 : ∀ i, (i < (2 ^ j + r) * 8 ∨ (2 ^ j + r) * 8 + 8 ≤ i) → tr' i = tr i) : zi_K N P T an tr' (upd kn (2 ^ j + r) (vp_nar .boolean 1)) := by
  obtain ⟨k1, k2, k3, k4, k5⟩ := K
  have hp8 := zg_pw8 j (by omega)
  have keep : ∀ m, m ≠ 2 ^ j + r → zx_rw P tr' m = zx_rw P tr m := by
    intro m hm
    exact zx_rw_eq (fun q hq => h2 _ (by omega))
  have kk : ∀ m, ¬ kn m = 0 → m ≠ 2 ^ j + r := by
    intro m hm e
    rw [e] at hm
    exact hm hk
  have km : ∀ m, ¬ kn m = 0 → ¬ upd kn (2 ^ j + r) (vp_nar .boolean 1) m = 0 := by
    intro m hm
    rw [pk_un (kk m hm)]; exact hm
  have hNp : 2 ^ (j + 1) ≤ 2 ^ N := Nat.pow_le_pow_right (by omega) (by omega)
  have hjp : 2 ^ (j + 1) = 2 ^ j * 2 := Nat.pow_succ 2 j
  refine ⟨km 0 k1, ?_, fun c hc => km _ (k3 c hc), ?_, ?_⟩
  · intro q hq
    rw [h2 _ (by omega)]; exact k2 q hq
  · intro m hm hk'
    by_cases e : m = 2 ^ j + r
    · omega
    · rw [pk_un e] at hk'
      exact k4 m hm hk'
  · intro j' r' g1 g2 g3 g4
    by_cases e : 2 ^ j' + r' = 2 ^ j + r
    · obtain ⟨rfl, rfl⟩ := zg_uniq g2 hr e
      refine ⟨km _ hkr, km _ hkb, ?_⟩
      rw [keep r' (kk _ hkr), keep _ (kk _ hkb), keep _ (kk _ (k3 j' hj))]
      exact zq_row_x hP zx_rw_far zx_rw_far zx_rw_far h1
    · rw [pk_un e] at g4
      obtain ⟨f1, f2, f3⟩ := k5 j' r' g1 g2 g3 g4
      have hj' : j' < N := zg_split_lt (k4 _ g3 g4)
      refine ⟨km _ f1, km _ f2, ?_⟩
      rw [keep _ e, keep _ (kk _ f1), keep _ (kk _ f2), keep _ (kk _ (k3 j' hj'))]
      exact f3
section
variable {cp : Int32} {P T N : Nat} {pr an tr kn wn wk wf lb lw ta we ca ou og ar ag : Nat → Int32}
theorem zx_prep44 {post : SX → Prop} {b0 : Nat} {tr0 : Nat → Int32} (hP : P ≤ 8) (hT : 1 ≤ T ∧ T ≤ 4) (hN : N ≤ 8) (G : zi_G N pr an) (hb0 : b0 < 2 ^ N) (hw1 : ∀ i, i < 256 → ¬ wn i = 0 → i < 2 ^ N) (h : ∀ tr' kn' ta' we' ca' ou' og' ar' ag', zi_K N P T an tr' kn' → (∀ i, i < 256 → i ≤ b0 → ¬ wn i = 0 → ¬ kn' i = 0) → (∀ i, ¬ kn i = 0 → ¬ kn' i = 0) → (∀ c, c < N → ∀ q, q < P → tr' (2 ^ c * 8 + q) = tr0 (2 ^ c * 8 + q)) → post (cp, nI P, nI T, nI N, pr, an, tr', kn', wn, wk, wf, lb, lw, ta', we', ca', ou', og', ar', ag')) : ∀ n m (tr kn' ta we ca ou og ar ag : Nat → Int32), m + n = b0 + 1 → 0 < m → zi_K N P T an tr kn' → (∀ i, i < m → ¬ wn i = 0 → ¬ kn' i = 0) → (∀ i, ¬ kn i = 0 → ¬ kn' i = 0) → (∀ j r, 0 < r → r < 2 ^ j → 2 ^ j + r < 256 → ¬ wn (2 ^ j + r) = 0 → kn' (2 ^ j + r) = 0 → ¬ wn r = 0 ∧ ¬ wn (zg_b an r j) = 0) → (∀ c, c < N → ∀ q, q < P → tr (2 ^ c * 8 + q) = tr0 (2 ^ c * 8 + q)) → wX_prepare_44 post (nI b0) (n + 1) (nI m) cp (nI P) (nI T) (nI N) pr an tr kn' wn wk wf lb lw ta we ca ou og ar ag := by
  have hp8 := zg_pw N hN
  intro n
  induction n with
  | zero =>
    intro m tr kn' ta we ca ou og ar ag hm h0 K hw hk hc htr
    refine br_t (nI_lt (by omega) (by omega)) (h tr kn' ta we ca ou og ar ag K (fun i hi hib hwi => hw i (by omega) hwi) hk htr)
  | succ n ih =>
    intro m tr kn' ta we ca ou og ar ag hm h0 K hw hk hc htr
    have cm : (nI m).toNatClampNeg = m := nI_clamp (by omega)
    have skip : (¬ wn m = 0 → ¬ kn' m = 0) → wX_prepare_44 post (nI b0) (n + 1) (nI (m + 1)) cp (nI P) (nI T) (nI N) pr an tr kn' wn wk wf lb lw ta we ca ou og ar ag := by
      intro hs
      refine ih (m + 1) tr kn' ta we ca ou og ar ag (by omega) (by omega) K ?_ hk hc htr
      intro i hi hwi
      by_cases e : i = m
      · subst e; exact hs hwi
      · exact hw i (by omega) hwi
    refine br_f (nI_nlt (by omega) (by omega)) ⟨vp_in_nI (by omega) (by omega), ?_⟩
    rw [cm]
    refine br_c (fun e => nm_r (nI_1 m) (skip (fun z => absurd e z))) (fun e => ⟨vp_in_nI (by omega) (by omega), br_c (fun f => ?_) (fun f => nm_r (nI_1 m) (skip (fun _ => f)))⟩)
    obtain ⟨j, r, hr, em⟩ := zg_split (m := m) h0
    have hmN : m < 2 ^ N := by omega
    have hj : j < N := by
      rw [em] at hmN
      exact zg_split_lt hmN
    have hr0 : 0 < r := by
      rcases Nat.eq_zero_or_pos r with z | z
      · rw [em, z, Nat.add_zero] at f
        exact absurd f (K.2.2.1 j hj)
      · exact z
    obtain ⟨_, hb⟩ := zg_b_ok G hN hj hr
    obtain ⟨w1, w2⟩ := hc j r hr0 hr (by omega) (by rw [← em]; exact e) (by rw [← em]; exact f)
    have kr := hw r (by omega) w1
    have kb := hw _ (by omega) w2
    rw [em]
    refine zx_fold hP hT hN G hj hr ?_
    intro tr' ta' we' ca' ou' og' ar' ag' t1 t2
    rw [← em]
    have fk : kn' (2 ^ j + r) = 0 := by rw [← em]; exact f
    have K' := zi_K_fold hP hN G K hj hr0 hr fk kr kb t1 t2
    rw [← em] at K'
    have kmono : ∀ i, ¬ kn' i = 0 → ¬ upd kn' m (vp_nar .boolean 1) i = 0 := by
      intro i hi
      by_cases z : i = m
      · subst z; exact absurd f hi
      · rw [pk_un z]; exact hi
    refine nm_r (nI_1 m) (ih (m + 1) tr' _ ta' we' ca' ou' og' ar' ag' (by omega) (by omega) K' ?_ (fun i hi => kmono i (hk i hi)) ?_ ?_)
    · intro i hi hwi
      by_cases z : i = m
      · subst z; rw [pk_us]; exact zz_nar1
      · exact kmono i (hw i (by omega) hwi)
    · intro j' r' g1 g2 g3 g4 g5
      refine hc j' r' g1 g2 g3 g4 ?_
      by_cases z : 2 ^ j' + r' = m
      · rw [z]; exact f
      · rw [pk_un z] at g5; exact g5
    · intro c hc' q hq
      have hne : 2 ^ c ≠ 2 ^ j + r := by
        intro z
        have := K.2.2.1 c hc'
        rw [z] at this
        exact this fk
      rw [t2 _ (by omega)]
      exact htr c hc' q hq
theorem zx_prepare {post : SX → Prop} {b0 : Nat} (hP : P ≤ 8) (hT : 1 ≤ T ∧ T ≤ 4) (hN : N ≤ 8) (G : zi_G N pr an) (K : zi_K N P T an tr kn) (hW : zi_W kn wn) (hb0 : b0 < 2 ^ N) (h : ∀ tr' kn' wn' ta' we' ca' ou' og' ar' ag', zi_K N P T an tr' kn' → zi_W kn' wn' → ¬ kn' b0 = 0 → (∀ c, c < N → ∀ q, q < P → tr' (2 ^ c * 8 + q) = tr (2 ^ c * 8 + q)) → post (cp, nI P, nI T, nI N, pr, an, tr', kn', wn', wk, wf, lb, lw, ta', we', ca', ou', og', ar', ag')) : wpX_prepare post (cp, nI P, nI T, nI N, pr, an, tr, kn, wn, wk, wf, lb, lw, ta, we, ca, ou, og, ar, ag) (nI b0) := by
  have hp8 := zg_pw N hN
  refine ⟨vp_in_nI (by omega) (by omega), nm_r (e' := upd wn b0 (vp_nar .boolean 1)) (by rw [nI_clamp (by omega)]) ⟨b0 + 1, ?_⟩⟩
  refine zx_prep9 hN G K hb0 ?_ b0 _ (Nat.le_refl _) ?_
  · intro wn' hD
    refine ⟨b0 + 1, zx_prep44 (tr0 := tr) hP hT hN G hb0 hD.2.1 ?_ b0 1 tr kn ta we ca ou og ar ag (by omega) (by omega) K ?_ (fun _ z => z) ?_ (fun _ _ _ _ => rfl)⟩
    · intro tr' kn' ta' we' ca' ou' og' ar' ag' K' g1 g2 g3
      refine h tr' kn' wn' ta' we' ca' ou' og' ar' ag' K' ?_ (g1 b0 (by omega) (Nat.le_refl _) hD.1) g3
      intro i hi hwi
      by_cases z : kn i = 0
      · exact g1 i hi (hD.2.2.1 i hi hwi z) hwi
      · exact g2 i z
    · intro i hi _
      have : i = 0 := by omega
      subst this
      exact K.1
    · intro j r a1 a2 a3 a4 a5
      exact hD.2.2.2 j r a1 a2 a3 (by omega) a4 a5
  · have hold : ∀ i, i < 256 → i ≠ b0 → ¬ upd wn b0 (vp_nar .boolean 1) i = 0 → ¬ kn i = 0 := by
      intro i hi z1 z2
      rw [pk_un z1] at z2
      exact hW i hi z2
    refine ⟨by rw [pk_us]; exact zz_nar1, ?_, ?_, ?_⟩
    · intro i hi hwi
      by_cases e : i = b0
      · omega
      · exact K.2.2.2.1 i hi (hold i hi e hwi)
    · intro i hi hwi hki
      by_cases e : i = b0
      · omega
      · exact absurd hki (hold i hi e hwi)
    · intro j r a1 a2 a3 a4 a5 a6
      exact absurd a6 (hold _ a3 (by omega) a5)
end
end
section
/-! ===== Y: virtual trees ===== -/
def zy_rw (ce : Nat → Int32) (m : Nat) : Nat → Int32 := fun q => if q < 8 then ce (m * 8 + q) else 0
theorem zy_rw_R {m : Nat} {ce : Nat → Int32} (hm : m < 258) : zy_Row ce m (zy_rw ce m) := ⟨hm, fun p hp => (if_pos hp).symm⟩
theorem zy_rw_eq {m : Nat} {ce ce' : Nat → Int32} (h : ∀ q, q < 8 → ce' (m * 8 + q) = ce (m * 8 + q)) : zy_rw ce' m = zy_rw ce m := by
  funext q
  unfold zy_rw
  by_cases hq : q < 8
  · rw [if_pos hq, if_pos hq, h q hq]
  · rw [if_neg hq, if_neg hq]
/-- every virtual row below m is what its parts give -/
def zy_VI (T : Nat) (an ce : Nat → Int32) (m : Nat) : Prop :=
  ∀ j r, 0 < r → r < 2 ^ j → 2 ^ j + r < m → zy_rw ce (2 ^ j + r) = zq_row T (zy_rw ce (zg_b an r j)) (zy_rw ce r) (zy_rw ce (2 ^ j))
/-- what stays: row 0, the commits, the working and the base row -/
def zy_KI (ce0 ce : Nat → Int32) : Prop :=
  (∀ q, q < 8 → ce (0 * 8 + q) = ce0 (0 * 8 + q)) ∧ (∀ c, c < 8 → ∀ q, q < 8 → ce (2 ^ c * 8 + q) = ce0 (2 ^ c * 8 + q)) ∧ (∀ i, 2048 ≤ i → ce i = ce0 i)
section
variable {fw fb cp : Int32} {P T N : Nat} {ce pr fl sg yw yc yr : Nat → Int32} {an : Nat → Int32}
theorem zy_vt2 {post : SY → Prop} {b0 : Nat} {ce0 : Nat → Int32} (hT : 1 ≤ T ∧ T ≤ 4) (hN : N ≤ 8) (G : zi_G N pr an) (hb0 : b0 < 2 ^ N) (h : ∀ ce' fl' sg' yw' yc' yr', zy_VI T an ce' (b0 + 1) → zy_KI ce0 ce' → post (fw, fb, cp, nI P, nI T, nI N, ce', pr, fl', sg', yw', yc', yr')) : ∀ n m (ce fl sg yw yc yr : Nat → Int32), 256 ≤ m + n → 3 ≤ m → (m ≤ b0 + 1 ∨ m = 3) → zy_VI T an ce m → zy_KI ce0 ce → wY_virtualTrees_2 post (nI b0) (n + 1) (nI m) fw fb cp (nI P) (nI T) (nI N) ce pr fl sg yw yc yr := by
  have hp8 := zg_pw N hN
  have mono : ∀ ce m, zy_VI T an ce m → b0 + 1 ≤ m → zy_VI T an ce (b0 + 1) := by
    intro ce m hv hm j r h1 h2 h3
    exact hv j r h1 h2 (by omega)
  have done : ∀ m (ce fl sg yw yc yr : Nat → Int32), b0 < m → zy_VI T an ce m → zy_KI ce0 ce → post (fw, fb, cp, nI P, nI T, nI N, ce, pr, fl, sg, yw, yc, yr) :=
    fun m ce fl sg yw yc yr hm hv hk => h ce fl sg yw yc yr (mono ce m hv (by omega)) hk
  intro n
  induction n with
  | zero =>
    intro m ce fl sg yw yc yr hm h3 hmb hv hk
    exact br_t (nI_le (a := 256) (by omega) (by omega)) (done m _ _ _ _ _ _ (by omega) hv hk)
  | succ n ih =>
    intro m ce fl sg yw yc yr hm h3 hmb hv hk
    by_cases h256 : 256 ≤ m
    · have hm2 : m < 2 ^ 31 := by omega
      exact br_t (nI_le (a := 256) h256 hm2) (done m _ _ _ _ _ _ (by omega) hv hk)
    refine br_f (nI_ge (b := 256) (by omega) (by omega)) ?_
    by_cases hbm : b0 < m
    · exact br_t (nI_lt hbm (by omega)) (done m _ _ _ _ _ _ hbm hv hk)
    refine br_f (nI_nlt (by omega) (by omega)) ⟨9, ?_⟩
    obtain ⟨j, r, hr, em⟩ := zg_split (m := m) (by omega)
    have hj : j < N := by
      have hmN : m < 2 ^ N := by omega
      rw [em] at hmN
      exact zg_split_lt hmN
    have h8 := zg_pw8 j (by omega)
    refine zy_top19 (K := fun t => t = nI (2 ^ j)) ?_ 8 0 0 rfl ?_
    · intro t ht
      subst ht
      rcases Nat.eq_zero_or_pos r with z | z
      · subst z
        rw [Nat.add_zero] at em
        subst em
        refine br_t rfl (nm_r (nI_1 _) (ih (2 ^ j + 1) ce fl sg yw yc yr (by omega) (by omega) (Or.inl (by omega)) ?_ hk))
        intro j' r' g1 g2 g3
        by_cases e : 2 ^ j' + r' = 2 ^ j
        · have := (zg_uniq (r := 0) g2 (by omega) (e.trans (Nat.add_zero _).symm)).2
          omega
        · exact hv j' r' g1 g2 (by omega)
      · have hne : ¬ nI m = nI (2 ^ j) := by
          rw [nI_eq (by omega) (by omega)]; omega
        obtain ⟨e, hb⟩ := zg_b_ok G hN hj hr
        have hp : 2 ^ j < 2 ^ N := Nat.pow_lt_pow_right (by omega) hj
        refine br_f hne (nm_r (e' := nI r) ?_ ?_)
        · rw [pk_sub (by omega)]; exact congrArg nI (by omega)
        · refine zy_best (an := an) hN G (zg_V_nI (by omega)) (zg_V_nI hp) ?_
          rw [e]
          refine zy_threeWay hT (zy_rw_R (by omega)) (zy_rw_R (by omega)) (zy_rw_R (by omega)) (by omega) (by omega) (by omega) (by omega) ?_
          intro ce' fl' sg' yw' yc' yr' d1 d2 _
          have keep : ∀ i, i ≠ m → zy_rw ce' i = zy_rw ce i := by
            intro i hi
            exact zy_rw_eq (fun q hq => d2 _ (by omega))
          refine nm_r (nI_1 m) (ih (m + 1) ce' fl' sg' yw' yc' yr' (by omega) (by omega) (Or.inl (by omega)) ?_ ?_)
          · intro j' r' g1 g2 g3
            by_cases e2 : 2 ^ j' + r' = m
            · obtain ⟨rfl, rfl⟩ := zg_uniq g2 hr (e2.trans em)
              rw [keep r' (by omega), keep (2 ^ j') (by omega), keep (zg_b an r' j') (by omega), e2]
              funext q
              unfold zy_rw zq_row
              by_cases hq : q < 8
              · rw [if_pos hq, if_pos hq]; exact (d1 q hq).1
              · rw [if_neg hq, if_neg hq]
            · have hj' : 2 ^ j' + r' < m := by omega
              have hjN : j' < N := by
                apply zg_split_lt (r := r') (k := N)
                omega
              obtain ⟨_, hb'⟩ := zg_b_ok G hN hjN g2
              rw [keep _ e2, keep r' (by omega), keep (2 ^ j') (by omega), keep (zg_b an r' j') (by omega)]
              exact hv j' r' g1 g2 hj'
          · obtain ⟨k1, k2, k3⟩ := hk
            refine ⟨fun q hq => (d2 _ (by omega)).trans (k1 q hq), ?_, fun i hi => (d2 i (by omega)).trans (k3 i hi)⟩
            intro c hc q hq
            have hne2 : 2 ^ c ≠ m := by
              intro e3
              have := (zg_uniq (j' := c) (r' := 0) (by have := Nat.two_pow_pos c; omega) hr ((Nat.add_zero _).trans (e3.trans em))).2
              omega
            exact (d2 _ (by omega)).trans (k2 c hc q hq)
    · show zg_tp (nI m) 8 0 0 = nI (2 ^ j)
      rw [em, zg_tp_eq hr (by omega) 8 0 0 rfl (by omega), zb_pow (by omega)]
theorem zy_virtualTrees {post : SY → Prop} {b0 : Nat} (hT : 1 ≤ T ∧ T ≤ 4) (hN : N ≤ 8) (G : zi_G N pr an) (hb0 : b0 < 2 ^ N) (h : ∀ ce' fl' sg' yw' yc' yr', zy_VI T an ce' (b0 + 1) → zy_KI ce ce' → post (fw, fb, cp, nI P, nI T, nI N, ce', pr, fl', sg', yw', yc', yr')) : wpY_virtualTrees post (fw, fb, cp, nI P, nI T, nI N, ce, pr, fl, sg, yw, yc, yr) (nI b0) := by
  refine ⟨254, zy_vt2 (an := an) (ce0 := ce) hT hN G hb0 h 253 3 ce fl sg yw yc yr (by omega) (by omega) (Or.inr rfl) ?_ ⟨fun _ _ => rfl, fun _ _ _ _ => rfl, fun _ _ => rfl⟩⟩
  intro j r h1 h2 h3
  have hj0 : j = 0 := by
    rcases Nat.eq_zero_or_pos j with z | z
    · exact z
    · have h4 : 2 ^ 1 ≤ 2 ^ j := Nat.pow_le_pow_right (by omega) z
      omega
  subst hj0
  omega
end
/-- known rows are alike on both sides -/
theorem zz_rows {N P T b0 : Nat} {pr an tr kn ce : Nat → Int32} (hN : N ≤ 8) (G : zi_G N pr an) (K : zi_K N P T an tr kn) (V : zy_VI T an ce (b0 + 1)) (hb0 : b0 < 2 ^ N) (h0 : ∀ q, q < 8 → ce (0 * 8 + q) = 0) (hc : ∀ c, c < N → zx_rw P tr (2 ^ c) = zy_rw ce (2 ^ c)) : ∀ m, m ≤ b0 → ¬ kn m = 0 → zx_rw P tr m = zy_rw ce m := by
  have hp8 := zg_pw N hN
  intro m
  induction m using Nat.strongRecOn with
  | _ m ih =>
    intro hm hk
    rcases Nat.eq_zero_or_pos m with z | z
    · subst z
      funext q
      unfold zx_rw zy_rw
      by_cases h8 : q < 8
      · rw [if_pos h8, h0 q h8]
        by_cases hq : q < P
        · rw [if_pos hq, K.2.1 q hq]
        · rw [if_neg hq]
      · rw [if_neg h8]
        by_cases hq : q < P
        · rw [if_pos hq, K.2.1 q hq]
        · rw [if_neg hq]
    · obtain ⟨j, r, hr, em⟩ := zg_split (m := m) z
      have hmN : m < 2 ^ N := by omega
      have hj : j < N := by
        rw [em] at hmN
        exact zg_split_lt hmN
      rcases Nat.eq_zero_or_pos r with y | y
      · subst y
        rw [Nat.add_zero] at em
        rw [em]
        exact hc j hj
      · obtain ⟨_, hb⟩ := zg_b_ok G hN hj hr
        rw [em] at hk
        obtain ⟨f1, f2, f3⟩ := K.2.2.2.2 j r y hr (by omega) hk
        rw [em, f3, V j r y hr (by omega), ih r (by omega) (by omega) f1, ih (zg_b an r j) (by omega) (by omega) f2, hc j hj]
end
section
/-! ===== the relation ===== -/
/-- the commits' rows -/
def zi_C (N P : Nat) (tr ce : Nat → Int32) : Prop := (∀ q, q < 8 → ce (0 * 8 + q) = 0) ∧ (∀ c, c < N → zx_rw P tr (2 ^ c) = zy_rw ce (2 ^ c))
/-- the working files -/
def zi_F (P : Nat) (wk wf ce fl sg : Nat → Int32) : Prop :=
  (∀ q, q < P → wk q = ce (256 * 8 + q) ∧ wk (8 + q) = sg q ∧ wk (16 + q) = sg (8 + q) ∧ wk (24 + q) = sg (16 + q) ∧ wf q = fl q) ∧ (∀ q, P ≤ q → q < 8 → ce (256 * 8 + q) = 0 ∧ fl q = 0)
/-- the last merge -/
def zi_L (P : Nat) (lb lw ce yw : Nat → Int32) : Prop := ∀ q, q < P → lb q = ce (257 * 8 + q) ∧ lw (8 + q) = yw q ∧ lw (16 + q) = yw (8 + q)
def zz_B (C P T N : Nat) : Prop := 2 ≤ C ∧ C ≤ 8 ∧ 2 ≤ P ∧ P ≤ 8 ∧ 1 ≤ T ∧ T ≤ 4 ∧ N ≤ C
def zz_I (C P T N : Nat) (pr an tr kn wn wk wf lb lw ce fl sg yw : Nat → Int32) : Prop :=
  zz_B C P T N ∧ zi_G N pr an ∧ zi_K N P T an tr kn ∧ zi_W kn wn ∧ zi_C N P tr ce ∧ zi_F P wk wf ce fl sg ∧ zi_L P lb lw ce yw
def i_Rel (_k : Nat) (u : SX) (v : SY) : Prop := match u, v with
  | (cp, pa, th, ct, pr, an, tr, kn, wn, wk, wf, lb, lw, _, _, _, _, _, _, _), (_, _, cp', pa', th', ct', ce, pr', fl, sg, yw, _, _) =>
    ∃ C P T N : Nat, cp = nI C ∧ pa = nI P ∧ th = nI T ∧ ct = nI N ∧ cp' = nI C ∧ pa' = nI P ∧ th' = nI T ∧ ct' = nI N ∧ pr' = pr ∧ zz_I C P T N pr an tr kn wn wk wf lb lw ce fl sg yw
theorem i_up {k : Nat} {u : SX} {v : SY} (h : i_Rel k u v) : i_Rel (k + 3) u v := h
theorem zz_el {k : Nat} {u : SX} {v : SY} {Q : SX → SY → Prop} (I : i_Rel k u v) (h : ∀ (C P T N : Nat) (fw fb : Int32) (pr an tr kn wn wk wf lb lw ta we ca ou og ar ag ce fl sg yw yc yr : Nat → Int32), zz_I C P T N pr an tr kn wn wk wf lb lw ce fl sg yw → Q (nI C, nI P, nI T, nI N, pr, an, tr, kn, wn, wk, wf, lb, lw, ta, we, ca, ou, og, ar, ag) (fw, fb, nI C, nI P, nI T, nI N, ce, pr, fl, sg, yw, yc, yr)) : Q u v := by
  obtain ⟨cp, pa, th, ct, pr, an, tr, kn, wn, wk, wf, lb, lw, ta, we, ca, ou, og, ar, ag⟩ := u
  obtain ⟨fw, fb, cp', pa', th', ct', ce, pr', fl, sg, yw, yc, yr⟩ := v
  obtain ⟨C, P, T, N, e1, e2, e3, e4, e5, e6, e7, e8, e9, hI⟩ := I
  subst e1 e2 e3 e4 e5 e6 e7 e8 e9
  exact h C P T N fw fb _ an tr kn wn wk wf lb lw ta we ca ou og ar ag ce fl sg yw yc yr hI
section
variable {C P T N k : Nat} {fw fb : Int32} {pr an tr kn wn wk wf lb lw ta we ca ou og ar ag ce fl sg yw yc yr : Nat → Int32}
theorem zz_in (h : zz_I C P T N pr an tr kn wn wk wf lb lw ce fl sg yw) : i_Rel k (nI C, nI P, nI T, nI N, pr, an, tr, kn, wn, wk, wf, lb, lw, ta, we, ca, ou, og, ar, ag) (fw, fb, nI C, nI P, nI T, nI N, ce, pr, fl, sg, yw, yc, yr) :=
  ⟨C, P, T, N, rfl, rfl, rfl, rfl, rfl, rfl, rfl, rfl, rfl, h⟩
theorem zz_range {x M : Int32} {n : Nat} (hM : M.toInt = n) (h0 : ¬ x < 0) (h1 : x ≤ M) : ∃ j : Nat, j ≤ n ∧ x = nI j := nI_of2 hM h0 h1
end
theorem i_vc_commits {k : Nat} {u : SX} {v : SY} (I : i_Rel k u v) (hk : k + 3 ≤ 1539) : wpX_commits (fun r => wpY_commits (fun r' => r' = r ∧ i_Rel (k + 3) u v) v) u := by
  refine zz_el (Q := fun u v => wpX_commits (fun r => wpY_commits (fun r' => r' = r ∧ i_Rel (k + 3) u v) v) u) I ?_
  intro C P T N fw fb pr an tr kn wn wk wf lb lw ta we ca ou og ar ag ce fl sg yw yc yr hI
  exact ⟨rfl, zz_in hI⟩
theorem i_vc_parent {k : Nat} {u : SX} {v : SY} (I : i_Rel k u v) (hk : k + 3 ≤ 1539) (v1 : Int32) (v2 : Int32) : wpX_parent (fun r => wpY_parent (fun r' => r' = r ∧ i_Rel (k + 3) u v) v v1 v2) u v1 v2 := by
  refine zz_el (Q := fun u v => wpX_parent (fun r => wpY_parent (fun r' => r' = r ∧ i_Rel (k + 3) u v) v v1 v2) u v1 v2) I ?_
  intro C P T N fw fb pr an tr kn wn wk wf lb lw ta we ca ou og ar ag ce fl sg yw yc yr hI
  have hB := hI.1
  unfold zz_B at hB
  by_cases h0 : v1 < 0
  · exact br_t h0 (br_t h0 ⟨rfl, zz_in hI⟩)
  by_cases h1 : nI N < v1
  · exact br_f h0 (br_t h1 (br_f h0 (br_t h1 ⟨rfl, zz_in hI⟩)))
  by_cases h2 : v2 < 0
  · exact br_f h0 (br_f h1 (br_t h2 (br_f h0 (br_f h1 (br_t h2 ⟨rfl, zz_in hI⟩)))))
  by_cases h3 : v2 ≤ 1
  · obtain ⟨c, hc, rfl⟩ := nI_of h0
    rw [nI_ltI (by omega) hc] at h1
    obtain ⟨w, hw, rfl⟩ := zz_range (M := 1) (n := 1) (by decide) h2 h3
    have e1 : nI c * 2 + nI w = nI (c * 2 + w) := by rw [← nI_add, ← pk_mul]; rfl
    have e2 : (2 : Int32) * nI c + nI w = nI (c * 2 + w) := by
      rw [← nI_add, Nat.mul_comm c 2, ← pk_mul]; rfl
    have h1' : ¬ nI N < nI c := nI_nlt (by omega) (by omega)
    refine br_f h0 (br_f h1' (br_f h2 (br_t h3 ⟨?_, br_f h0 (br_f h1' (br_f h2 (br_t h3 ⟨?_, ?_, zz_in hI⟩)))⟩)))
    · rw [e1]; exact vp_in_nI (by omega) (by omega)
    · rw [e2]; exact vp_in_nI (by omega) (by omega)
    · rw [e1, e2]
  · exact br_f h0 (br_f h1 (br_f h2 (br_f h3 (br_f h0 (br_f h1 (br_f h2 (br_f h3 ⟨rfl, zz_in hI⟩)))))))
theorem i_vc_flags {k : Nat} {u : SX} {v : SY} (I : i_Rel k u v) (hk : k + 3 ≤ 1539) (v1 : Int32) : wpX_flags (fun r => wpY_flags (fun r' => r' = r ∧ i_Rel (k + 3) u v) v v1) u v1 := by
  refine zz_el (Q := fun u v => wpX_flags (fun r => wpY_flags (fun r' => r' = r ∧ i_Rel (k + 3) u v) v v1) u v1) I ?_
  intro C P T N fw fb pr an tr kn wn wk wf lb lw ta we ca ou og ar ag ce fl sg yw yc yr hI
  have hB := hI.1
  unfold zz_B at hB
  unfold wpX_flags wpY_flags
  refine zx_goodPath v1 (by omega) (fun h => br_t rfl ?_) (fun p hp e => br_f (by decide) ?_)
  · refine zy_good v1 (by omega) (fun _ => br_t rfl ⟨rfl, zz_in hI⟩) (fun p hp e => ?_)
    subst e
    rcases h with h | h
    · exact absurd h (nI_pos (by omega))
    · exact absurd h (nI_ge hp (by omega))
  · subst e
    refine ⟨vp_in_nI (by omega) (by omega), ?_⟩
    refine zy_good (nI p) (by omega) (fun h => ?_) (fun p' hp' e => br_f (by decide) ⟨vp_in_nI (by omega) (by omega), ?_, zz_in hI⟩)
    · rcases h with h | h
      · exact absurd h (nI_pos (by omega))
      · exact absurd h (nI_ge hp (by omega))
    · rw [nI_clamp (by omega)]
      exact (hI.2.2.2.2.2.1.1 p hp).2.2.2.2.symm
end
section
/-! ===== the getters ===== -/
theorem zz_path (x : Int32) {n : Nat} (hn : n < 2 ^ 31) : (x < 0 ∨ nI n ≤ x) ∨ ∃ p, p < n ∧ x = nI p := by
  rcases pk_ix x hn with h | h | h
  · exact Or.inl (Or.inl h)
  · exact Or.inl (Or.inr h)
  · exact Or.inr h
theorem zz_nbad {n p : Nat} (hp : p < n) (hn : n < 2 ^ 31) : ¬ (nI p < 0 ∨ nI n ≤ nI p) := by
  rintro (h | h)
  · exact nI_pos (by omega) h
  · exact nI_ge hp hn h
section
variable {cp : Int32} {P T N : Nat} {pr an tr kn wn wk wf lb lw ta we ca ou og ar ag : Nat → Int32}
theorem zx_gb {post : Int32 → Prop} {x : Int32} (hP : P < 2 ^ 31) (hb : x < 0 ∨ nI P ≤ x) (h : post 0) : wpX_goodPath post (cp, nI P, nI T, nI N, pr, an, tr, kn, wn, wk, wf, lb, lw, ta, we, ca, ou, og, ar, ag) x :=
  zx_goodPath x hP (fun _ => h) (fun p hp e => absurd (e ▸ hb) (zz_nbad hp hP))
theorem zx_gg {post : Int32 → Prop} {p : Nat} (hP : P < 2 ^ 31) (hp : p < P) (h : post 1) : wpX_goodPath post (cp, nI P, nI T, nI N, pr, an, tr, kn, wn, wk, wf, lb, lw, ta, we, ca, ou, og, ar, ag) (nI p) :=
  zx_goodPath (nI p) hP (fun hb => absurd hb (zz_nbad hp hP)) (fun _ _ _ => h)
theorem zx_mb {post : Int32 → Prop} {x : Int32} (hN : N < 2 ^ 31) (hb : x < 0 ∨ nI N ≤ x) (h : post 0) : wpX_madeCommit post (cp, nI P, nI T, nI N, pr, an, tr, kn, wn, wk, wf, lb, lw, ta, we, ca, ou, og, ar, ag) x :=
  zx_madeCommit x hN (fun _ => h) (fun p hp e => absurd (e ▸ hb) (zz_nbad hp hN))
theorem zx_mg {post : Int32 → Prop} {p : Nat} (hN : N < 2 ^ 31) (hp : p < N) (h : post 1) : wpX_madeCommit post (cp, nI P, nI T, nI N, pr, an, tr, kn, wn, wk, wf, lb, lw, ta, we, ca, ou, og, ar, ag) (nI p) :=
  zx_madeCommit (nI p) hN (fun hb => absurd hb (zz_nbad hp hN)) (fun _ _ _ => h)
end
section
variable {fw fb cp : Int32} {P T N : Nat} {ce pr fl sg yw yc yr : Nat → Int32}
theorem zy_gb {post : Int32 → Prop} {x : Int32} (hP : P < 2 ^ 31) (hb : x < 0 ∨ nI P ≤ x) (h : post 0) : wpY_good post (fw, fb, cp, nI P, nI T, nI N, ce, pr, fl, sg, yw, yc, yr) x :=
  zy_good x hP (fun _ => h) (fun p hp e => absurd (e ▸ hb) (zz_nbad hp hP))
theorem zy_gg {post : Int32 → Prop} {p : Nat} (hP : P < 2 ^ 31) (hp : p < P) (h : post 1) : wpY_good post (fw, fb, cp, nI P, nI T, nI N, ce, pr, fl, sg, yw, yc, yr) (nI p) :=
  zy_good (nI p) hP (fun hb => absurd hb (zz_nbad hp hP)) (fun _ _ _ => h)
theorem zy_mb {post : Int32 → Prop} {x : Int32} (hN : N < 2 ^ 31) (hb : x < 0 ∨ nI N ≤ x) (h : post 0) : wpY_known post (fw, fb, cp, nI P, nI T, nI N, ce, pr, fl, sg, yw, yc, yr) x :=
  zy_known x hN (fun _ => h) (fun p hp e => absurd (e ▸ hb) (zz_nbad hp hN))
theorem zy_mg {post : Int32 → Prop} {p : Nat} (hN : N < 2 ^ 31) (hp : p < N) (h : post 1) : wpY_known post (fw, fb, cp, nI P, nI T, nI N, ce, pr, fl, sg, yw, yc, yr) (nI p) :=
  zy_known (nI p) hN (fun hb => absurd hb (zz_nbad hp hN)) (fun _ _ _ => h)
end
theorem zz_10 : ¬ (1 : Int32) = 0 := by decide
theorem i_vc_baseFile {k : Nat} {u : SX} {v : SY} (I : i_Rel k u v) (hk : k + 3 ≤ 1539) (v1 : Int32) : wpX_baseFile (fun r => wpY_baseFile (fun r' => r' = r ∧ i_Rel (k + 3) u v) v v1) u v1 := by
  refine zz_el (Q := fun u v => wpX_baseFile (fun r => wpY_baseFile (fun r' => r' = r ∧ i_Rel (k + 3) u v) v v1) u v1) I ?_
  intro C P T N fw fb pr an tr kn wn wk wf lb lw ta we ca ou og ar ag ce fl sg yw yc yr hI
  have hB := hI.1
  unfold zz_B at hB
  unfold wpX_baseFile wpY_baseFile
  rcases zz_path v1 (n := P) (by omega) with hb | ⟨p, hp, rfl⟩
  · exact zx_gb (by omega) hb (br_t rfl (zy_gb (by omega) hb (br_t rfl ⟨rfl, zz_in hI⟩)))
  · have e1 : (2056 : Int32) + nI p = nI (257 * 8 + p) := nI_add 2056 p
    refine zx_gg (by omega) hp (br_f zz_10 ⟨vp_in_nI (by omega) (by omega), zy_gg (by omega) hp (br_f zz_10 ⟨?_, ?_, zz_in hI⟩)⟩)
    · rw [e1]; exact vp_in_nI (by omega) (by omega)
    · rw [e1, nI_clamp (by omega), nI_clamp (by omega)]
      exact (hI.2.2.2.2.2.2 p hp).1.symm
theorem i_vc_stage {k : Nat} {u : SX} {v : SY} (I : i_Rel k u v) (hk : k + 3 ≤ 1539) (v1 : Int32) (v2 : Int32) : wpX_stage (fun r => wpY_stage (fun r' => r' = r ∧ i_Rel (k + 3) u v) v v1 v2) u v1 v2 := by
  refine zz_el (Q := fun u v => wpX_stage (fun r => wpY_stage (fun r' => r' = r ∧ i_Rel (k + 3) u v) v v1 v2) u v1 v2) I ?_
  intro C P T N fw fb pr an tr kn wn wk wf lb lw ta we ca ou og ar ag ce fl sg yw yc yr hI
  have hB := hI.1
  unfold zz_B at hB
  unfold wpX_stage wpY_stage
  rcases zz_path v1 (n := P) (by omega) with hb | ⟨p, hp, rfl⟩
  · exact zx_gb (by omega) hb (br_t rfl (zy_gb (by omega) hb (br_t rfl ⟨rfl, zz_in hI⟩)))
  refine zx_gg (by omega) hp (br_f zz_10 ?_)
  by_cases h1 : v2 < 1
  · exact br_t h1 (zy_gg (by omega) hp (br_f zz_10 (br_t h1 ⟨rfl, zz_in hI⟩)))
  by_cases h3 : v2 ≤ 3
  · have h0 : ¬ v2 < 0 := fun z => h1 (Int32.lt_trans z (by decide))
    obtain ⟨w, hw, rfl⟩ := zz_range (M := 3) (n := 3) (by decide) h0 h3
    have hw1 : 1 ≤ w := by
      rcases Nat.eq_zero_or_pos w with z | z
      · subst z; exact absurd (show nI 0 < 1 by decide) h1
      · exact z
    have e2 : nI w - 1 = nI (w - 1) := pk_sub (b := 1) hw1
    refine br_f h1 (br_t h3 ⟨?_, zy_gg (by omega) hp (br_f zz_10 (br_f h1 (br_t h3 ⟨?_, ?_, zz_in hI⟩)))⟩)
    · rw [zx_i8]; exact vp_in_nI (by omega) (by omega)
    · rw [e2, zx_i8]; exact vp_in_nI (by omega) (by omega)
    · rw [e2, zx_i8, zx_i8, nI_clamp (by omega), nI_clamp (by omega)]
      have F := hI.2.2.2.2.2.1.1 p hp
      have : w = 1 ∨ w = 2 ∨ w = 3 := by omega
      rcases this with rfl | rfl | rfl
      · have e : (1 - 1) * 8 + p = p := by omega
        rw [e]; exact F.2.1.symm
      · exact F.2.2.1.symm
      · exact F.2.2.2.1.symm
  · exact br_f h1 (br_f h3 (zy_gg (by omega) hp (br_f zz_10 (br_f h1 (br_f h3 ⟨rfl, zz_in hI⟩)))))
theorem i_vc_went {k : Nat} {u : SX} {v : SY} (I : i_Rel k u v) (hk : k + 3 ≤ 1539) (v1 : Int32) (v2 : Int32) : wpX_went (fun r => wpY_went (fun r' => r' = r ∧ i_Rel (k + 3) u v) v v1 v2) u v1 v2 := by
  refine zz_el (Q := fun u v => wpX_went (fun r => wpY_went (fun r' => r' = r ∧ i_Rel (k + 3) u v) v v1 v2) u v1 v2) I ?_
  intro C P T N fw fb pr an tr kn wn wk wf lb lw ta we ca ou og ar ag ce fl sg yw yc yr hI
  have hB := hI.1
  unfold zz_B at hB
  by_cases h1 : v1 < 1
  · exact br_t h1 (br_t h1 ⟨rfl, zz_in hI⟩)
  by_cases h2 : 2 < v1
  · exact br_f h1 (br_t h2 (br_f h1 (br_t h2 ⟨rfl, zz_in hI⟩)))
  rcases zz_path v2 (n := P) (by omega) with hb | ⟨p, hp, rfl⟩
  · exact br_f h1 (br_f h2 (zx_gb (by omega) hb (br_t rfl (br_f h1 (br_f h2 (zy_gb (by omega) hb (br_t rfl ⟨rfl, zz_in hI⟩)))))))
  have h0 : ¬ v1 < 0 := fun z => h1 (Int32.lt_trans z (by decide))
  obtain ⟨w, hw, rfl⟩ := zz_range (M := 2) (n := 2) (by decide) h0 (Int32.not_lt.mp h2)
  have hw1 : 1 ≤ w := by
    rcases Nat.eq_zero_or_pos w with z | z
    · subst z; exact absurd (show nI 0 < 1 by decide) h1
    · exact z
  have e2 : nI w - 1 = nI (w - 1) := pk_sub (b := 1) hw1
  refine br_f h1 (br_f h2 (zx_gg (by omega) hp (br_f zz_10 ⟨?_, br_f h1 (br_f h2 (zy_gg (by omega) hp (br_f zz_10 ⟨?_, ?_, zz_in hI⟩)))⟩)))
  · rw [zx_i8]; exact vp_in_nI (by omega) (by omega)
  · rw [e2, zx_i8]; exact vp_in_nI (by omega) (by omega)
  · rw [e2, zx_i8, zx_i8, nI_clamp (by omega), nI_clamp (by omega)]
    have L := hI.2.2.2.2.2.2 p hp
    have : w = 1 ∨ w = 2 := by omega
    rcases this with rfl | rfl
    · have e : (1 - 1) * 8 + p = p := by omega
      rw [e]; exact L.2.1.symm
    · exact L.2.2.symm
theorem i_vc_bestCommon {k : Nat} {u : SX} {v : SY} (I : i_Rel k u v) (hk : k + 3 ≤ 1539) (v1 : Int32) (v2 : Int32) : wpX_bestCommon (fun r => wpY_bestCommon (fun r' => r' = r ∧ i_Rel (k + 3) u v) v v1 v2) u v1 v2 := by
  refine zz_el (Q := fun u v => wpX_bestCommon (fun r => wpY_bestCommon (fun r' => r' = r ∧ i_Rel (k + 3) u v) v v1 v2) u v1 v2) I ?_
  intro C P T N fw fb pr an tr kn wn wk wf lb lw ta we ca ou og ar ag ce fl sg yw yc yr hI
  have hB := hI.1
  unfold zz_B at hB
  unfold wpX_bestCommon wpY_bestCommon
  rcases zz_path v1 (n := N) (by omega) with hb | ⟨a, ha, rfl⟩
  · exact zx_mb (by omega) hb (br_t rfl (zy_mb (by omega) hb (br_t rfl ⟨rfl, zz_in hI⟩)))
  rcases zz_path v2 (n := N) (by omega) with hb | ⟨b, hb, rfl⟩
  · exact zx_mg (by omega) ha (br_f zz_10 (zx_mb (by omega) hb (br_t rfl (zy_mg (by omega) ha (br_f zz_10 (zy_mb (by omega) hb (br_t rfl ⟨rfl, zz_in hI⟩)))))))
  refine zx_mg (by omega) ha (br_f zz_10 (zx_mg (by omega) hb (br_f zz_10 ?_)))
  refine zx_best (by omega) hI.2.1 (zg_V_single ha (by omega)) (zg_V_single hb (by omega)) ?_
  refine zy_mg (by omega) ha (br_f zz_10 (zy_mg (by omega) hb (br_f zz_10 ?_)))
  exact zy_best (an := an) (by omega) hI.2.1 (zg_V_single ha (by omega)) (zg_V_single hb (by omega)) ⟨rfl, zz_in hI⟩
theorem i_vc_file {k : Nat} {u : SX} {v : SY} (I : i_Rel k u v) (hk : k + 3 ≤ 1539) (v1 : Int32) (v2 : Int32) : wpX_file (fun r => wpY_file (fun r' => r' = r ∧ i_Rel (k + 3) u v) v v1 v2) u v1 v2 := by
  refine zz_el (Q := fun u v => wpX_file (fun r => wpY_file (fun r' => r' = r ∧ i_Rel (k + 3) u v) v v1 v2) u v1 v2) I ?_
  intro C P T N fw fb pr an tr kn wn wk wf lb lw ta we ca ou og ar ag ce fl sg yw yc yr hI
  have hB := hI.1
  unfold zz_B at hB
  by_cases h0 : v1 < 0
  · exact br_t h0 (br_t h0 ⟨rfl, zz_in hI⟩)
  by_cases h1 : nI N < v1
  · exact br_f h0 (br_t h1 (br_f h0 (br_t h1 ⟨rfl, zz_in hI⟩)))
  rcases zz_path v2 (n := P) (by omega) with hb | ⟨p, hp, rfl⟩
  · exact br_f h0 (br_f h1 (zx_gb (by omega) hb (br_t rfl (br_f h0 (br_f h1 (zy_gb (by omega) hb (br_t rfl ⟨rfl, zz_in hI⟩)))))))
  refine br_f h0 (br_f h1 (zx_gg (by omega) hp (br_f zz_10 (br_c (fun e => ⟨vp_in_nI (by omega) (by omega), ?_⟩) (fun e => ?_)))))
  · refine br_f h0 (br_f h1 (zy_gg (by omega) hp (br_f zz_10 (br_t e ⟨?_, ?_, zz_in hI⟩))))
    · show vp_in (nI 256 * 8 + nI p) 2064
      rw [zx_i8]; exact vp_in_nI (by omega) (by omega)
    · show ce (nI 256 * 8 + nI p).toNatClampNeg = _
      rw [zx_i8, nI_clamp (by omega), nI_clamp (by omega)]
      exact (hI.2.2.2.2.2.1.1 p hp).1.symm
  · obtain ⟨c, hc, rfl⟩ := nI_of h0
    rw [nI_ltI (by omega) hc] at h1
    rw [nI_eq hc (by omega)] at e
    have hcN : c < N := by omega
    have h8 := zg_pw8 c (by omega)
    rw [zb_pow (by omega)]
    have h1' : ¬ nI N < nI c := nI_nlt (by omega) (by omega)
    have e' : ¬ nI c = nI N := by rw [nI_eq hc (by omega)]; exact e
    refine ⟨?_, br_f h0 (br_f h1' (zy_gg (by omega) hp (br_f zz_10 (br_f e' ⟨?_, ?_, zz_in hI⟩))))⟩
    · rw [zx_i8]; exact vp_in_nI (by omega) (by omega)
    · rw [zb_pow (by omega), zx_i8]; exact vp_in_nI (by omega) (by omega)
    · rw [zb_pow (by omega), zx_i8, nI_clamp (by omega)]
      have hr := congrFun (hI.2.2.2.2.1.2 c hcN) p
      unfold zx_rw zy_rw at hr
      rw [if_pos hp, if_pos (by omega)] at hr
      exact hr.symm
end
section
/-! ===== put, move, resolve ===== -/
theorem zi_F_set {P q : Nat} {m : Int32} {wk wf ce fl sg wk' ce' fl' sg' : Nat → Int32} (hP : P ≤ 8) (hq : q < P) (F : zi_F P wk wf ce fl sg) (hm : wk' q = m) (h8 : wk' (8 + q) = 0) (h16 : wk' (16 + q) = 0) (h24 : wk' (24 + q) = 0) (hk : ∀ j, j ≠ q → j ≠ 8 + q → j ≠ 16 + q → j ≠ 24 + q → wk' j = wk j) (S : zy_Se 256 q m 0 0 0 0 ce fl sg ce' fl' sg') : zi_F P wk' (upd wf q 0) ce' fl' sg' := by
  obtain ⟨s1, s2, s3, s4, s5, s6, s7, s8⟩ := S
  have z0 : zz_st 0 0 = 0 := rfl
  rw [z0] at s3 s4 s5
  refine ⟨?_, ?_⟩
  · intro p hp
    by_cases e : p = q
    · subst e
      exact ⟨hm.trans s1.symm, h8.trans s3.symm, h16.trans s4.symm, h24.trans s5.symm, pk_us.trans s2.symm⟩
    · obtain ⟨f1, f2, f3, f4, f5⟩ := F.1 p hp
      refine ⟨?_, ?_, ?_, ?_, ?_⟩
      · rw [hk _ (by omega) (by omega) (by omega) (by omega), s6 _ (by omega)]; exact f1
      · rw [hk _ (by omega) (by omega) (by omega) (by omega), s8 _ (by omega) (by omega) (by omega)]; exact f2
      · rw [hk _ (by omega) (by omega) (by omega) (by omega), s8 _ (by omega) (by omega) (by omega)]; exact f3
      · rw [hk _ (by omega) (by omega) (by omega) (by omega), s8 _ (by omega) (by omega) (by omega)]; exact f4
      · rw [pk_un e, s7 _ e]; exact f5
  · intro p h1 h2
    rw [s6 _ (by omega), s7 _ (by omega)]
    exact F.2 p h1 h2
/-- writes beyond the commits' rows keep them -/
theorem zi_C_keep {N P : Nat} {tr ce ce' : Nat → Int32} (hN : N ≤ 8) (h : ∀ i, i < 2048 → ce' i = ce i) (hC : zi_C N P tr ce) : zi_C N P tr ce' := by
  refine ⟨fun q hq => (h _ (by omega)).trans (hC.1 q hq), ?_⟩
  intro c hc
  have h8 := zg_pw8 c (by omega)
  rw [hC.2 c hc]
  exact (zy_rw_eq (fun q hq => h _ (by omega))).symm
theorem zi_L_keep {P : Nat} {lb lw ce ce' yw : Nat → Int32} (hP : P ≤ 8) (h : ∀ i, 257 * 8 ≤ i → ce' i = ce i) (hL : zi_L P lb lw ce yw) : zi_L P lb lw ce' yw := by
  intro q hq
  obtain ⟨l1, l2, l3⟩ := hL q hq
  exact ⟨l1.trans (h _ (by omega)).symm, l2, l3⟩
section
variable {C P T N k : Nat} {fw fb : Int32} {pr an tr kn wn wk wf lb lw ta we ca ou og ar ag ce fl sg yw yc yr : Nat → Int32}
/-- one working file set, its conflict cleared -/
theorem zz_I_set {q : Nat} {m : Int32} {wk' ce' fl' sg' : Nat → Int32} (hI : zz_I C P T N pr an tr kn wn wk wf lb lw ce fl sg yw) (hq : q < P) (hm : wk' q = m) (h8 : wk' (8 + q) = 0) (h16 : wk' (16 + q) = 0) (h24 : wk' (24 + q) = 0) (hk : ∀ j, j ≠ q → j ≠ 8 + q → j ≠ 16 + q → j ≠ 24 + q → wk' j = wk j) (S : zy_Se 256 q m 0 0 0 0 ce fl sg ce' fl' sg') : zz_I C P T N pr an tr kn wn wk' (upd wf q 0) lb lw ce' fl' sg' yw := by
  obtain ⟨hB, hG, hK, hW, hC, hF, hL⟩ := hI
  have hB' := hB
  unfold zz_B at hB'
  exact ⟨hB, hG, hK, hW, zi_C_keep (by omega) (fun i hi => S.2.2.2.2.2.1 i (by omega)) hC, zi_F_set (by omega) hq hF hm h8 h16 h24 hk S, zi_L_keep (by omega) (fun i hi => S.2.2.2.2.2.1 i (by omega)) hL⟩
end
section
variable {fw fb cp : Int32} {P T N : Nat} {ce pr fl sg yw yc yr : Nat → Int32}
theorem zy_put_z {post : Int32 → SY → Prop} {x1 : Int32} (h : wY_put_19 post x1 0 fw fb cp (nI P) (nI T) (nI N) ce pr fl sg yw yc yr 1 (nI (4 * 4))) : ∀ n k, k + n = 4 → wY_put_19 post x1 0 fw fb cp (nI P) (nI T) (nI N) ce pr fl sg yw yc yr (n + 1) (nI (4 * k)) := by
  intro n
  induction n with
  | zero =>
    intro k hk
    have e : k = 4 := by omega
    subst e
    exact h
  | succ n ih =>
    intro k hk
    exact br_f (nI_ge (b := 16) (by omega) (by omega)) (nm_e (br_t rfl (nm_r (nI_add (4 * k) 4) (ih (k + 1) (by omega)))))
theorem zy_put_n {post : Int32 → SY → Prop} {x1 w : Int32} (hw : ¬ w = 0) : ∀ n k, k + n = 4 → (zp_pl w n k = 0 → post (-2) (fw, fb, cp, nI P, nI T, nI N, ce, pr, fl, sg, yw, yc, yr)) → (zp_pl w n k = 1 → wY_put_19 post x1 w fw fb cp (nI P) (nI T) (nI N) ce pr fl sg yw yc yr 1 (nI (4 * 4))) → wY_put_19 post x1 w fw fb cp (nI P) (nI T) (nI N) ce pr fl sg yw yc yr (n + 1) (nI (4 * k)) := by
  intro n
  induction n with
  | zero =>
    intro k hk h0 h1
    have e : k = 4 := by omega
    subst e
    exact h1 rfl
  | succ n ih =>
    intro k hk h0 h1
    have ep : zp_pl w (n + 1) k = if zp_nb w k = 0 then 0 else if zp_nb w k = 15 then 0 else zp_pl w n (k + 1) := rfl
    refine br_f (nI_ge (b := 16) (by omega) (by omega)) (nm_r (e' := zp_nb w k) rfl (br_f hw (br_c (fun e => ?_) (fun n1 => br_c (fun e => ?_) (fun n2 => nm_r (nI_add (4 * k) 4) (ih (k + 1) (by omega) ?_ ?_))))))
    · rw [if_pos e] at ep; exact h0 ep
    · rw [if_neg n1, if_pos e] at ep; exact h0 ep
    · rw [if_neg n1, if_neg n2] at ep; intro z; exact h0 (ep.trans z)
    · rw [if_neg n1, if_neg n2] at ep; intro z; exact h1 (ep.trans z)
end
theorem i_vc_put {k : Nat} {u : SX} {v : SY} (I : i_Rel k u v) (hk : k + 3 ≤ 1539) (v1 : Int32) (v2 : Int32) : wpX_put (fun r u' => wpY_put (fun r' v' => r' = r ∧ i_Rel (k + 3) u' v') v v1 v2) u v1 v2 := by
  refine zz_el (Q := fun u v => wpX_put (fun r u' => wpY_put (fun r' v' => r' = r ∧ i_Rel (k + 3) u' v') v v1 v2) u v1 v2) I ?_
  intro C P T N fw fb pr an tr kn wn wk wf lb lw ta we ca ou og ar ag ce fl sg yw yc yr hI
  have hB := hI.1
  unfold zz_B at hB
  unfold wpX_put wpY_put
  rcases zz_path v1 (n := P) (by omega) with hb | ⟨p, hp, rfl⟩
  · exact zx_gb (by omega) hb (br_t rfl (zy_gb (by omega) hb (br_t rfl ⟨rfl, zz_in hI⟩)))
  refine zx_gg (by omega) hp (br_f zz_10 ?_)
  generalize hw : v2 &&& 65535 = w
  -- X writes, then Y from the end of its loop
  have HX : ∀ (post : Int32 → SX → Prop), (∀ wk', (wk' p = w ∧ wk' (8 + p) = 0 ∧ wk' (16 + p) = 0 ∧ wk' (24 + p) = 0 ∧ ∀ j, j ≠ p → j ≠ 8 + p → j ≠ 16 + p → j ≠ 24 + p → wk' j = wk j) → post 0 (nI C, nI P, nI T, nI N, pr, an, tr, kn, wn, wk', upd wf p 0, lb, lw, ta, we, ca, ou, og, ar, ag)) → wX_put_31 post (nI p) w (nI C) (nI P) (nI T) (nI N) pr an tr kn wn wk wf lb lw ta we ca ou og ar ag := by
    intro post h
    refine ⟨vp_in_nI (by omega) (by omega), nm_r (e' := upd wk p w) (by rw [nI_clamp (by omega)]) (zx_clearConflict (by omega) ?_)⟩
    intro wk' ⟨a1, a2, a3, a4⟩
    refine h wk' ⟨?_, a1, a2, a3, ?_⟩
    · rw [a4 _ (by omega) (by omega) (by omega), pk_us]
    · intro j j1 j2 j3 j4
      rw [a4 _ j2 j3 j4, pk_un j1]
  have HY : ∀ wk', (wk' p = w ∧ wk' (8 + p) = 0 ∧ wk' (16 + p) = 0 ∧ wk' (24 + p) = 0 ∧ ∀ j, j ≠ p → j ≠ 8 + p → j ≠ 16 + p → j ≠ 24 + p → wk' j = wk j) → wY_put_19 (fun r' v' => r' = 0 ∧ i_Rel (k + 3) (nI C, nI P, nI T, nI N, pr, an, tr, kn, wn, wk', upd wf p 0, lb, lw, ta, we, ca, ou, og, ar, ag) v') (nI p) w fw fb (nI C) (nI P) (nI T) (nI N) ce pr fl sg yw yc yr 1 (nI (4 * 4)) := by
    intro wk' ⟨a1, a2, a3, a4, a5⟩
    refine br_t (nI_le (a := 16) (by omega) (by omega)) (zy_set (t := 256) _ _ _ _ _ (by omega) (by omega) ?_)
    intro ce' fl' sg' S
    exact ⟨rfl, zz_in (zz_I_set hI hp a1 a2 a3 a4 a5 S)⟩
  refine nm_e (br_c (fun e => ?_) (fun e => ?_))
  · refine HX _ (fun wk' a => ?_)
    refine zy_gg (by omega) hp (br_f zz_10 (nm_e ⟨5, ?_⟩))
    have h := HY wk' a
    subst e
    exact zy_put_z h 4 0 rfl
  · refine zx_plain w (br_c (fun f => ?_) (fun f => ?_))
    · refine zy_gg (by omega) hp (br_f zz_10 (nm_e ⟨5, ?_⟩))
      refine zy_put_n e 4 0 rfl (fun _ => ⟨rfl, zz_in hI⟩) (fun z => ?_)
      rw [f] at z; exact absurd z (by decide)
    · refine HX _ (fun wk' a => ?_)
      refine zy_gg (by omega) hp (br_f zz_10 (nm_e ⟨5, ?_⟩))
      exact zy_put_n e 4 0 rfl (fun z => absurd z f) (fun _ => HY wk' a)
theorem i_vc_resolve {k : Nat} {u : SX} {v : SY} (I : i_Rel k u v) (hk : k + 3 ≤ 1539) (v1 : Int32) (v2 : Int32) : wpX_resolve (fun r u' => wpY_resolve (fun r' v' => r' = r ∧ i_Rel (k + 3) u' v') v v1 v2) u v1 v2 := by
  refine zz_el (Q := fun u v => wpX_resolve (fun r u' => wpY_resolve (fun r' v' => r' = r ∧ i_Rel (k + 3) u' v') v v1 v2) u v1 v2) I ?_
  intro C P T N fw fb pr an tr kn wn wk wf lb lw ta we ca ou og ar ag ce fl sg yw yc yr hI
  have hB := hI.1
  unfold zz_B at hB
  unfold wpX_resolve wpY_resolve
  rcases zz_path v1 (n := P) (by omega) with hb | ⟨p, hp, rfl⟩
  · exact zx_gb (by omega) hb (br_t rfl (zy_gb (by omega) hb (br_t rfl ⟨rfl, zz_in hI⟩)))
  refine zx_gg (by omega) hp (br_f zz_10 ?_)
  by_cases h0 : v2 < 0
  · exact br_t h0 (zy_gg (by omega) hp (br_f zz_10 (br_t h0 ⟨rfl, zz_in hI⟩)))
  by_cases h3 : v2 ≤ 3
  · obtain ⟨F1, F2, F3, F4, F5⟩ := hI.2.2.2.2.2.1.1 p hp
    have cp0 : (nI p).toNatClampNeg = p := nI_clamp (by omega)
    have ip : vp_in (nI p) 8 := vp_in_nI (by omega) (by omega)
    refine br_f h0 (br_t h3 ⟨ip, ?_⟩)
    rw [cp0]
    refine br_c (fun e => ?_) (fun e => ?_)
    · refine zy_gg (by omega) hp (br_f zz_10 (br_f h0 (br_t h3 ⟨ip, br_t ?_ ⟨rfl, zz_in hI⟩⟩)))
      rw [← F5]; exact e
    · obtain ⟨w, hw, rfl⟩ := zz_range (M := 3) (n := 3) (by decide) h0 h3
      have iw : vp_in (nI w * 8 + nI p) 32 := by rw [zx_i8]; exact vp_in_nI (by omega) (by omega)
      have cw : (nI w * 8 + nI p).toNatClampNeg = w * 8 + p := by rw [zx_i8]; exact nI_clamp (by omega)
      refine ⟨iw, vp_in_nI (by omega) (by omega), nm_r (e' := upd wk p (wk (w * 8 + p))) (by rw [cw]) (zx_clearConflict (by omega) ?_)⟩
      intro wk' ⟨a1, a2, a3, a4⟩
      have e' : ¬ fl p = 0 := by rw [← F5]; exact e
      have b0 : wk' p = wk (w * 8 + p) := by rw [a4 _ (by omega) (by omega) (by omega), pk_us]
      have b1 : ∀ j, j ≠ p → j ≠ 8 + p → j ≠ 16 + p → j ≠ 24 + p → wk' j = wk j := by
        intro j j1 j2 j3 j4
        rw [a4 _ j2 j3 j4, pk_un j1]
      have fin : ∀ m, m = wk (w * 8 + p) → wY_resolve_61 (fun r' v' => r' = 0 ∧ i_Rel (k + 3) (nI C, nI P, nI T, nI N, pr, an, tr, kn, wn, wk', upd wf p 0, lb, lw, ta, we, ca, ou, og, ar, ag) v') (nI p) m fw fb (nI C) (nI P) (nI T) (nI N) ce pr fl sg yw yc yr := by
        intro m hm
        unfold wY_resolve_61
        refine zy_set (t := 256) _ _ _ _ _ (by omega) (by omega) ?_
        intro ce' fl' sg' S
        exact ⟨rfl, zz_in (zz_I_set hI hp (b0.trans hm.symm) a1 a2 a3 b1 S)⟩
      refine zy_gg (by omega) hp (br_f zz_10 (br_f h0 (br_t h3 ⟨ip, br_f e' ?_⟩)))
      rcases Nat.eq_zero_or_pos w with z | z
      · subst z
        have e1 : (2048 : Int32) + nI p = nI (256 * 8 + p) := nI_add 2048 p
        refine br_t rfl ⟨?_, fin _ ?_⟩
        · rw [e1]; exact vp_in_nI (by omega) (by omega)
        · rw [e1, nI_clamp (by omega), Nat.zero_mul, Nat.zero_add]; exact F1.symm
      · have hn : ¬ nI w = 0 := nI_ne0 z (by omega)
        have e2 : nI w - 1 = nI (w - 1) := pk_sub (b := 1) (by omega)
        refine br_f hn ⟨?_, fin _ ?_⟩
        · rw [e2, zx_i8]; exact vp_in_nI (by omega) (by omega)
        · rw [e2, zx_i8, nI_clamp (by omega)]
          have : w = 1 ∨ w = 2 ∨ w = 3 := by omega
          rcases this with rfl | rfl | rfl
          · have e : (1 - 1) * 8 + p = p := by omega
            rw [e]; exact F2.symm
          · exact F3.symm
          · exact F4.symm
  · exact br_f h0 (br_f h3 (zy_gg (by omega) hp (br_f zz_10 (br_f h0 (br_f h3 ⟨rfl, zz_in hI⟩)))))
theorem i_vc_move {k : Nat} {u : SX} {v : SY} (I : i_Rel k u v) (hk : k + 3 ≤ 1539) (v1 : Int32) (v2 : Int32) : wpX_move (fun r u' => wpY_move (fun r' v' => r' = r ∧ i_Rel (k + 3) u' v') v v1 v2) u v1 v2 := by
  refine zz_el (Q := fun u v => wpX_move (fun r u' => wpY_move (fun r' v' => r' = r ∧ i_Rel (k + 3) u' v') v v1 v2) u v1 v2) I ?_
  intro C P T N fw fb pr an tr kn wn wk wf lb lw ta we ca ou og ar ag ce fl sg yw yc yr hI
  have hB := hI.1
  unfold zz_B at hB
  unfold wpX_move wpY_move
  rcases zz_path v1 (n := P) (by omega) with hb | ⟨p, hp, rfl⟩
  · exact zx_gb (by omega) hb (br_t rfl (zy_gb (by omega) hb (br_t rfl ⟨rfl, zz_in hI⟩)))
  rcases zz_path v2 (n := P) (by omega) with hb | ⟨q, hq, rfl⟩
  · exact zx_gg (by omega) hp (br_f zz_10 (zx_gb (by omega) hb (br_t rfl (zy_gg (by omega) hp (br_f zz_10 (zy_gb (by omega) hb (br_t rfl ⟨rfl, zz_in hI⟩)))))))
  obtain ⟨hB0, hG, hK, hW, hC, hF, hL⟩ := hI
  have hI : zz_I C P T N pr an tr kn wn wk wf lb lw ce fl sg yw := ⟨hB0, hG, hK, hW, hC, hF, hL⟩
  obtain ⟨F1, _, _, _, F5⟩ := hF.1 p hp
  obtain ⟨Q1, _, _, _, Q5⟩ := hF.1 q hq
  have cp0 : (nI p).toNatClampNeg = p := nI_clamp (by omega)
  have cq0 : (nI q).toNatClampNeg = q := nI_clamp (by omega)
  have ip : vp_in (nI p) 32 := vp_in_nI (by omega) (by omega)
  have iq : vp_in (nI q) 32 := vp_in_nI (by omega) (by omega)
  have ip8 : vp_in (nI p) 8 := vp_in_nI (by omega) (by omega)
  have ep : (2048 : Int32) + nI p = nI (256 * 8 + p) := nI_add 2048 p
  have eq' : (2048 : Int32) + nI q = nI (256 * 8 + q) := nI_add 2048 q
  have jp : vp_in ((2048 : Int32) + nI p) 2064 := by rw [ep]; exact vp_in_nI (by omega) (by omega)
  have jq : vp_in ((2048 : Int32) + nI q) 2064 := by rw [eq']; exact vp_in_nI (by omega) (by omega)
  have dp : ((2048 : Int32) + nI p).toNatClampNeg = 256 * 8 + p := by rw [ep]; exact nI_clamp (by omega)
  have dq : ((2048 : Int32) + nI q).toNatClampNeg = 256 * 8 + q := by rw [eq']; exact nI_clamp (by omega)
  refine zx_gg (by omega) hp (br_f zz_10 (zx_gg (by omega) hq (br_f zz_10 ⟨ip, ?_⟩)))
  rw [cp0, cq0]
  refine br_c (fun e => ?_) (fun e => ⟨iq, br_c (fun f => ⟨ip8, br_c (fun g => ?_) (fun g => ?_)⟩) (fun f => ?_)⟩)
  · refine zy_gg (by omega) hp (br_f zz_10 (zy_gg (by omega) hq (br_f zz_10 ⟨jp, br_t ?_ ⟨rfl, zz_in hI⟩⟩)))
    rw [dp, ← F1]; exact e
  · refine ⟨ip, iq, nm_e ⟨ip, nm_e ?_⟩⟩
    refine zy_gg (by omega) hp (br_f zz_10 (zy_gg (by omega) hq (br_f zz_10 ⟨jp, br_f ?_ ⟨jq, br_t ?_ ⟨ip8, br_t ?_ ⟨jp, jq, nm_r (e' := upd ce (256 * 8 + q) (ce (256 * 8 + p))) ?_ ⟨jp, nm_r (e' := upd (upd ce (256 * 8 + q) (ce (256 * 8 + p))) (256 * 8 + p) 0) ?_ ⟨rfl, zz_in ?_⟩⟩⟩⟩⟩⟩)))
    · rw [dp, ← F1]; exact e
    · rw [dq, ← Q1]; exact f
    · rw [← F5]; exact g
    · rw [dp, dq]
    · rw [dp]
    · have kp : ∀ i, (i < 2048 ∨ 2056 ≤ i) → upd (upd ce (256 * 8 + q) (ce (256 * 8 + p))) (256 * 8 + p) 0 i = ce i := by
        intro i hi
        rw [pk_un (by omega), pk_un (by omega)]
      refine ⟨hB0, hG, hK, hW, zi_C_keep (by omega) (fun i hi => kp i (by omega)) hC, ⟨?_, ?_⟩, zi_L_keep (by omega) (fun i hi => kp i (by omega)) hL⟩
      · intro r hr
        obtain ⟨f1, f2, f3, f4, f5⟩ := hF.1 r hr
        refine ⟨?_, ?_, ?_, ?_, f5⟩
        · by_cases z1 : r = p
          · subst z1; rw [pk_us, pk_us]
          · by_cases z2 : r = q
            · subst z2; exact (pk_un z1).trans (pk_us.trans (F1.trans ((pk_un (by omega)).trans pk_us).symm))
            · exact (pk_un z1).trans ((pk_un z2).trans (f1.trans ((pk_un (by omega)).trans (pk_un (by omega))).symm))
        · rw [pk_un (by omega), pk_un (by omega)]; exact f2
        · rw [pk_un (by omega), pk_un (by omega)]; exact f3
        · rw [pk_un (by omega), pk_un (by omega)]; exact f4
      · intro r h1 h2
        rw [pk_un (by omega), pk_un (by omega)]
        exact hF.2 r h1 h2
  · refine zy_gg (by omega) hp (br_f zz_10 (zy_gg (by omega) hq (br_f zz_10 ⟨jp, br_f ?_ ⟨jq, br_t ?_ ⟨ip8, br_f ?_ ⟨rfl, zz_in hI⟩⟩⟩⟩)))
    · rw [dp, ← F1]; exact e
    · rw [dq, ← Q1]; exact f
    · rw [← F5]; exact g
  · refine zy_gg (by omega) hp (br_f zz_10 (zy_gg (by omega) hq (br_f zz_10 ⟨jp, br_f ?_ ⟨jq, br_f ?_ ⟨rfl, zz_in hI⟩⟩⟩)))
    · rw [dp, ← F1]; exact e
    · rw [dq, ← Q1]; exact f
end
section
/-! ===== checkout ===== -/
theorem zi_G_pend {N : Nat} {pr an : Nat → Int32} {a b : Int32} (G : zi_G N pr an) (ha : a = -1 ∨ ∃ p, p < N ∧ a = nI p) (hb : b = -1 ∨ ∃ p, p < N ∧ b = nI p) : zi_G N (upd (upd pr (N * 2) a) (N * 2 + 1) b) an := by
  obtain ⟨g1, g2, g3, g4, g5, g6, g7⟩ := G
  have e0 : ∀ c, c < N → upd (upd pr (N * 2) a) (N * 2 + 1) b (c * 2) = pr (c * 2) := fun c hc => by rw [pk_un (by omega), pk_un (by omega)]
  have e1 : ∀ c, c < N → upd (upd pr (N * 2) a) (N * 2 + 1) b (c * 2 + 1) = pr (c * 2 + 1) := fun c hc => by rw [pk_un (by omega), pk_un (by omega)]
  refine ⟨?_, ?_, g3, g4, g5, ?_, ?_⟩
  · intro c hc
    by_cases e : c = N
    · subst e
      rw [pk_un (by omega), pk_us]; exact ha
    · rw [e0 c (by omega)]; exact g1 c hc
  · intro c hc
    by_cases e : c = N
    · subst e
      rw [pk_us]; exact hb
    · rw [e1 c (by omega)]; exact g2 c hc
  · intro c hc p hp h
    rw [e0 c hc, e1 c hc] at h
    exact g6 c hc p hp h
  · intro c hc d hd
    rcases g7 c hc d hd with z | ⟨e, z1, z2, z3⟩
    · exact Or.inl z
    · have he := g4 c hc e z1
      refine Or.inr ⟨e, z1, z2, ?_⟩
      rw [e0 e (by omega), e1 e (by omega)]
      exact z3
theorem zy_2N (N : Nat) : (2 : Int32) * nI N = nI (N * 2) := (pk_mul 2 N).trans (congrArg nI (Nat.mul_comm 2 N))
def zx_Co (P row : Nat) (tr wk wf : Nat → Int32) (q : Nat) : Prop := ∀ p, p < q → wk p = tr (row + p) ∧ wk (8 + p) = 0 ∧ wk (16 + p) = 0 ∧ wk (24 + p) = 0 ∧ wf p = 0
def zy_Co (t : Nat) (ce0 ce fl sg : Nat → Int32) (q : Nat) : Prop :=
  (∀ p, p < q → ce (256 * 8 + p) = ce0 (t * 8 + p) ∧ sg p = 0 ∧ sg (8 + p) = 0 ∧ sg (16 + p) = 0 ∧ fl p = 0) ∧ (∀ i, (i < 2048 ∨ 2056 ≤ i) → ce i = ce0 i)
section
variable {cp : Int32} {P T N : Nat} {pr an tr kn wn wk wf lb lw ta we ca ou og ar ag : Nat → Int32}
theorem zx_co34 {post : Int32 → SX → Prop} {x1 : Int32} {row : Nat} (hP : P ≤ 8) (hN : N ≤ 8) (hrow : row ≤ 2040) (h : ∀ wk' wf', zx_Co P row tr wk' wf' P → post 0 (cp, nI P, nI T, nI N, upd (upd pr (N * 2) x1) (N * 2 + 1) (-1), an, tr, kn, wn, wk', wf', lb, lw, ta, we, ca, ou, og, ar, ag)) : ∀ n q (wk wf : Nat → Int32), q + n = P → zx_Co P row tr wk wf q → wX_checkout_34 post x1 (nI row) (n + 1) (nI q) cp (nI P) (nI T) (nI N) pr an tr kn wn wk wf lb lw ta we ca ou og ar ag := by
  intro n
  induction n with
  | zero =>
    intro q wk wf hq hc
    have e : q = P := by omega
    subst e
    exact br_t (nI_le (by omega) (by omega)) (zx_setPending _ _ hN (h wk wf hc))
  | succ n ih =>
    intro q wk wf hq hc
    have e1 : nI row + nI q = nI (row + q) := nI_add row q
    have cq : (nI q).toNatClampNeg = q := nI_clamp (by omega)
    refine br_f (nI_ge (by omega) (by omega)) ⟨?_, vp_in_nI (by omega) (by omega), nm_r (e' := upd wk q (tr (row + q))) ?_ (zx_clearConflict (by omega) ?_)⟩
    · rw [e1]; exact vp_in_nI (by omega) (by omega)
    · rw [e1, cq, nI_clamp (by omega)]
    · intro wk' ⟨a1, a2, a3, a4⟩
      refine nm_r (nI_1 q) (ih (q + 1) wk' (upd wf q 0) (by omega) ?_)
      intro p hp
      by_cases e : p = q
      · subst e
        exact ⟨(a4 _ (by omega) (by omega) (by omega)).trans pk_us, a1, a2, a3, pk_us⟩
      · obtain ⟨c1, c2, c3, c4, c5⟩ := hc p (by omega)
        exact ⟨(a4 _ (by omega) (by omega) (by omega)).trans ((pk_un (by omega)).trans c1), (a4 _ (by omega) (by omega) (by omega)).trans ((pk_un (by omega)).trans c2), (a4 _ (by omega) (by omega) (by omega)).trans ((pk_un (by omega)).trans c3), (a4 _ (by omega) (by omega) (by omega)).trans ((pk_un (by omega)).trans c4), (pk_un e).trans c5⟩
end
section
variable {fw fb cp : Int32} {P T N : Nat} {ce pr fl sg yw yc yr : Nat → Int32}
theorem zy_co31 {post : Int32 → SY → Prop} {x1 : Int32} {t : Nat} {ce0 : Nat → Int32} (hN : N ≤ 8) (ht : t < 256) (h : ∀ ce' fl' sg', zy_Co t ce0 ce' fl' sg' 8 → post 0 (fw, fb, cp, nI P, nI T, nI N, ce', upd (upd pr (N * 2) x1) (N * 2 + 1) (-1), fl', sg', yw, yc, yr)) : ∀ n q (ce fl sg : Nat → Int32), q + n = 8 → zy_Co t ce0 ce fl sg q → wY_checkout_31 post x1 (nI t) (n + 1) (nI q) fw fb cp (nI P) (nI T) (nI N) ce pr fl sg yw yc yr := by
  intro n
  induction n with
  | zero =>
    intro q ce fl sg hq hc
    have e : q = 8 := by omega
    subst e
    have e2 := zy_2N N
    have e3 : (2 : Int32) * nI N + 1 = nI (N * 2 + 1) := by rw [e2, nI_1]
    refine br_t (nI_le (a := 8) (by omega) (by omega)) ⟨?_, nm_r (e' := upd pr (N * 2) x1) ?_ ⟨?_, nm_r (e' := upd (upd pr (N * 2) x1) (N * 2 + 1) (-1)) ?_ (h ce fl sg hc)⟩⟩
    · rw [e2]; exact vp_in_nI (by omega) (by omega)
    · rw [e2, nI_clamp (by omega)]
    · rw [e3]; exact vp_in_nI (by omega) (by omega)
    · rw [e3, nI_clamp (by omega)]
  | succ n ih =>
    intro q ce fl sg hq hc
    refine br_f (nI_ge (b := 8) (by omega) (by omega)) ⟨?_, ?_⟩
    · rw [zx_i8]; exact vp_in_nI (by omega) (by omega)
    · rw [zx_i8, nI_clamp (by omega)]
      refine zy_set (t := 256) _ _ _ _ _ (by omega) (by omega) ?_
      intro ce' fl' sg' ⟨s1, s2, s3, s4, s5, s6, s7, s8⟩
      have z0 : zz_st 0 0 = 0 := rfl
      rw [z0] at s3 s4 s5
      refine nm_r (nI_1 q) (ih (q + 1) ce' fl' sg' (by omega) ⟨?_, ?_⟩)
      · intro p hp
        by_cases e : p = q
        · subst e
          exact ⟨s1.trans (hc.2 _ (by omega)), s3, s4, s5, s2⟩
        · obtain ⟨c1, c2, c3, c4, c5⟩ := hc.1 p (by omega)
          exact ⟨(s6 _ (by omega)).trans c1, (s8 _ (by omega) (by omega) (by omega)).trans c2, (s8 _ (by omega) (by omega) (by omega)).trans c3, (s8 _ (by omega) (by omega) (by omega)).trans c4, (s7 _ (by omega)).trans c5⟩
      · intro i hi
        exact (s6 _ (by omega)).trans (hc.2 i hi)
end
theorem i_vc_checkout {k : Nat} {u : SX} {v : SY} (I : i_Rel k u v) (hk : k + 3 ≤ 1539) (v1 : Int32) : wpX_checkout (fun r u' => wpY_checkout (fun r' v' => r' = r ∧ i_Rel (k + 3) u' v') v v1) u v1 := by
  refine zz_el (Q := fun u v => wpX_checkout (fun r u' => wpY_checkout (fun r' v' => r' = r ∧ i_Rel (k + 3) u' v') v v1) u v1) I ?_
  intro C P T N fw fb pr an tr kn wn wk wf lb lw ta we ca ou og ar ag ce fl sg yw yc yr hI
  have hI0 := hI
  obtain ⟨hB0, hG, hK, hW, hC, hF, hL⟩ := hI
  have hB := hB0
  unfold zz_B at hB
  -- the common end
  have fin : ∀ t, t < 256 → (v1 = -1 ∨ ∃ p, p < N ∧ v1 = nI p) → zx_rw P tr t = zy_rw ce t → ∀ wk' wf' ce' fl' sg', zx_Co P (t * 8) tr wk' wf' P → zy_Co t ce ce' fl' sg' 8 → zz_I C P T N (upd (upd pr (N * 2) v1) (N * 2 + 1) (-1)) an tr kn wn wk' wf' lb lw ce' fl' sg' yw := by
    intro t ht hv hrow wk' wf' ce' fl' sg' hx hy
    have hr : ∀ q, q < P → tr (t * 8 + q) = ce (t * 8 + q) := by
      intro q hq
      have := congrFun hrow q
      unfold zx_rw zy_rw at this
      rw [if_pos hq, if_pos (by omega)] at this
      exact this
    have hz : ∀ q, P ≤ q → q < 8 → ce (t * 8 + q) = 0 := by
      intro q h1 h2
      have := congrFun hrow q
      unfold zx_rw zy_rw at this
      rw [if_neg (by omega), if_pos (by omega)] at this
      exact this.symm
    refine ⟨hB0, zi_G_pend hG hv (Or.inl rfl), hK, hW, zi_C_keep (by omega) (fun i hi => hy.2 i (by omega)) hC, ⟨?_, ?_⟩, zi_L_keep (by omega) (fun i hi => hy.2 i (by omega)) hL⟩
    · intro q hq
      obtain ⟨x1, x2, x3, x4, x5⟩ := hx q hq
      obtain ⟨y1, y2, y3, y4, y5⟩ := hy.1 q (by omega)
      exact ⟨x1.trans ((hr q hq).trans y1.symm), x2.trans y2.symm, x3.trans y3.symm, x4.trans y4.symm, x5.trans y5.symm⟩
    · intro q h1 h2
      obtain ⟨y1, y2, y3, y4, y5⟩ := hy.1 q h2
      exact ⟨y1.trans (hz q h1 h2), y5⟩
  have x0 : ∀ row, zx_Co P row tr wk wf 0 := fun row p hp => absurd hp (by omega)
  have y0 : ∀ t, zy_Co t ce ce fl sg 0 := fun t => ⟨fun p hp => absurd hp (by omega), fun _ _ => rfl⟩
  by_cases h1 : v1 = -1
  · have hrow : zx_rw P tr 0 = zy_rw ce 0 := by
      funext q
      unfold zx_rw zy_rw
      by_cases hq : q < P
      · rw [if_pos hq, if_pos (by omega), hK.2.1 q hq, hC.1 q (by omega)]
      · rw [if_neg hq]
        by_cases h8 : q < 8
        · rw [if_pos h8, hC.1 q h8]
        · rw [if_neg h8]
    refine br_t h1 (br_t h1 ⟨P + 1, zx_co34 (row := 0) (by omega) (by omega) (by omega) ?_ P 0 wk wf (by omega) (x0 0)⟩)
    intro wk' wf' hx
    refine br_t h1 (br_t h1 ⟨9, zy_co31 (t := 0) (ce0 := ce) (by omega) (by omega) ?_ 8 0 ce fl sg rfl (y0 0)⟩)
    intro ce' fl' sg' hy
    exact ⟨rfl, zz_in (fin 0 (by omega) (Or.inl h1) hrow wk' wf' ce' fl' sg' hx hy)⟩
  · rcases zz_path v1 (n := N) (by omega) with hb | ⟨c, hc, rfl⟩
    · exact br_f h1 (zx_mb (by omega) hb (br_t rfl (br_f h1 (zy_mb (by omega) hb (br_t rfl ⟨rfl, zz_in hI0⟩)))))
    · have h8 := zg_pw8 c (by omega)
      have ep : ((1 : Int32) <<< (nI c &&& 31)) * 8 = nI (2 ^ c * 8) := by rw [zb_pow (by omega)]; exact pk_mul (2 ^ c) 8
      refine br_f h1 (zx_mg (by omega) hc (br_f zz_10 (br_f h1 (nm_r ep ⟨P + 1, zx_co34 (row := 2 ^ c * 8) (by omega) (by omega) (by omega) ?_ P 0 wk wf (by omega) (x0 _)⟩))))
      intro wk' wf' hx
      refine br_f h1 (zy_mg (by omega) hc (br_f zz_10 (br_f h1 (nm_r (zb_pow (by omega)) ⟨9, zy_co31 (t := 2 ^ c) (ce0 := ce) (by omega) (by omega) ?_ 8 0 ce fl sg rfl (y0 _)⟩))))
      intro ce' fl' sg' hy
      exact ⟨rfl, zz_in (fin (2 ^ c) (by omega) (Or.inr ⟨c, hc, rfl⟩) (hC.2 c hc) wk' wf' ce' fl' sg' hx hy)⟩
end
section
/-! ===== commit ===== -/
theorem zp_cnt_ge (f : Nat → Int32) : ∀ n q acc, acc ≤ zp_cnt f n q acc := by
  intro n
  induction n with
  | zero => intro q acc; exact Nat.le_refl _
  | succ n ih =>
    intro q acc
    have h := ih (q + 1) (if f q = 0 then acc else acc + 1)
    show acc ≤ zp_cnt f n (q + 1) (if f q = 0 then acc else acc + 1)
    by_cases e : f q = 0
    · rw [if_pos e] at h ⊢; exact h
    · rw [if_neg e] at h ⊢; omega
theorem zp_cnt_le (f : Nat → Int32) : ∀ n q acc, zp_cnt f n q acc ≤ acc + n := by
  intro n
  induction n with
  | zero => intro q acc; exact Nat.le_refl _
  | succ n ih =>
    intro q acc
    have h := ih (q + 1) (if f q = 0 then acc else acc + 1)
    show zp_cnt f n (q + 1) (if f q = 0 then acc else acc + 1) ≤ _
    by_cases e : f q = 0
    · rw [if_pos e] at h ⊢; omega
    · rw [if_neg e] at h ⊢; omega
theorem zp_cnt_0 (f : Nat → Int32) : ∀ n q acc, zp_cnt f n q acc = acc → ∀ j, q ≤ j → j < q + n → f j = 0 := by
  intro n
  induction n with
  | zero => intro q acc _ j h1 h2; omega
  | succ n ih =>
    intro q acc h j h1 h2
    have h' : zp_cnt f n (q + 1) (if f q = 0 then acc else acc + 1) = acc := h
    by_cases e : f q = 0
    · rw [if_pos e] at h'
      by_cases ej : j = q
      · subst ej; exact e
      · exact ih (q + 1) acc h' j (by omega) (by omega)
    · rw [if_neg e] at h'
      have := zp_cnt_ge f n (q + 1) (acc + 1)
      omega
def zg_pa (an : Nat → Int32) (a : Int32) : Int32 := if a = -1 then 0 else an a.toNatClampNeg
theorem zg_pa_bt {N : Nat} {an : Nat → Int32} {a : Int32} {d : Nat} (hN : N ≤ 8) (ha : a = -1 ∨ ∃ p, p < N ∧ a = nI p) : bt (zg_pa an a) d = true ↔ ∃ p, p < N ∧ a = nI p ∧ bt (an p) d = true := by
  unfold zg_pa
  rcases ha with rfl | ⟨p, hp, rfl⟩
  · rw [if_pos rfl, b_0]
    constructor
    · intro h; exact absurd h (by decide)
    · rintro ⟨p, hp, e, _⟩
      exact absurd e.symm (zr_m1 (by omega))
  · rw [if_neg (zr_m1 (by omega)), nI_clamp (by omega)]
    constructor
    · intro h; exact ⟨p, hp, rfl, h⟩
    · rintro ⟨p', hp', e, h⟩
      rw [nI_eq (by omega) (by omega)] at e
      subst e; exact h
def zg_nv (N : Nat) (an : Nat → Int32) (a b : Int32) : Int32 := (((1 : Int32) <<< (nI N &&& 31)) ||| zg_pa an a) ||| zg_pa an b
theorem zg_nv_bt {N : Nat} {an : Nat → Int32} {a b : Int32} {d : Nat} (hN : N < 8) (ha : a = -1 ∨ ∃ p, p < N ∧ a = nI p) (hb : b = -1 ∨ ∃ p, p < N ∧ b = nI p) : bt (zg_nv N an a b) d = true ↔ (d = N ∨ ∃ p, p < N ∧ (a = nI p ∨ b = nI p) ∧ bt (an p) d = true) := by
  unfold zg_nv
  rw [b_or, Bool.or_eq_true, b_or, Bool.or_eq_true, zg_pa_bt (by omega) ha, zg_pa_bt (by omega) hb]
  have h1 : bt ((1 : Int32) <<< (nI N &&& 31)) d = true ↔ d = N := by
    rcases Nat.lt_or_ge d 32 with h | h
    · rw [zb_shl1 (by omega) h, decide_eq_true_eq]
    · rw [b_big h]
      exact ⟨fun z => absurd z (by decide), fun z => absurd z (by omega)⟩
  rw [h1]
  constructor
  · rintro ((z | ⟨p, z1, z2, z3⟩) | ⟨p, z1, z2, z3⟩)
    · exact Or.inl z
    · exact Or.inr ⟨p, z1, Or.inl z2, z3⟩
    · exact Or.inr ⟨p, z1, Or.inr z2, z3⟩
  · rintro (z | ⟨p, z1, z2 | z2, z3⟩)
    · exact Or.inl (Or.inl z)
    · exact Or.inl (Or.inr ⟨p, z1, z2, z3⟩)
    · exact Or.inr ⟨p, z1, z2, z3⟩
theorem zi_G_commit {N : Nat} {pr an : Nat → Int32} (hN : N < 8) (G : zi_G N pr an) : zi_G (N + 1) (upd (upd pr ((N + 1) * 2) (nI N)) ((N + 1) * 2 + 1) (-1)) (upd an N (zg_nv N an (pr (N * 2)) (pr (N * 2 + 1)))) := by
  obtain ⟨g1, g2, g3, g4, g5, g6, g7⟩ := G
  have ha := g1 N (Nat.le_refl _)
  have hb := g2 N (Nat.le_refl _)
  have nv : ∀ d, bt (zg_nv N an (pr (N * 2)) (pr (N * 2 + 1))) d = true ↔ (d = N ∨ ∃ p, p < N ∧ (pr (N * 2) = nI p ∨ pr (N * 2 + 1) = nI p) ∧ bt (an p) d = true) := fun d => zg_nv_bt hN ha hb
  generalize zg_nv N an (pr (N * 2)) (pr (N * 2 + 1)) = V at nv ⊢
  have e0 : ∀ c, c ≤ N → upd (upd pr ((N + 1) * 2) (nI N)) ((N + 1) * 2 + 1) (-1) (c * 2) = pr (c * 2) := fun c hc => by rw [pk_un (by omega), pk_un (by omega)]
  have e1 : ∀ c, c ≤ N → upd (upd pr ((N + 1) * 2) (nI N)) ((N + 1) * 2 + 1) (-1) (c * 2 + 1) = pr (c * 2 + 1) := fun c hc => by rw [pk_un (by omega), pk_un (by omega)]
  have aN : upd an N V N = V := pk_us
  have ac : ∀ c, c < N → upd an N V c = an c := fun c hc => pk_un (by omega)
  refine ⟨?_, ?_, ?_, ?_, ?_, ?_, ?_⟩
  · intro c hc
    by_cases e : c = N + 1
    · subst e
      rw [pk_un (by omega), pk_us]
      exact Or.inr ⟨N, by omega, rfl⟩
    · rw [e0 c (by omega)]; exact g1 c (by omega)
  · intro c hc
    by_cases e : c = N + 1
    · subst e
      rw [pk_us]; exact Or.inl rfl
    · rw [e1 c (by omega)]; exact g2 c (by omega)
  · intro c hc
    by_cases e : c = N
    · subst e; rw [aN, nv]; exact Or.inl rfl
    · rw [ac c (by omega)]; exact g3 c (by omega)
  · intro c hc d hd
    by_cases e : c = N
    · subst e
      rw [aN, nv] at hd
      rcases hd with z | ⟨p, z1, z2, z3⟩
      · omega
      · have := g4 p z1 d z3; omega
    · rw [ac c (by omega)] at hd; exact g4 c (by omega) d hd
  · intro c hc d hd e he
    by_cases ec : c = N
    · subst ec
      rw [aN] at hd ⊢
      rw [nv] at hd
      rcases hd with z | ⟨p, z1, z2, z3⟩
      · subst z; rw [aN] at he; exact he
      · have hdp := g4 p z1 d z3
        rw [ac d (by omega)] at he
        rw [nv]
        exact Or.inr ⟨p, z1, z2, g5 p z1 d z3 e he⟩
    · rw [ac c (by omega)] at hd ⊢
      have hdc := g4 c (by omega) d hd
      rw [ac d (by omega)] at he
      exact g5 c (by omega) d hd e he
  · intro c hc p hp h
    rw [e0 c (by omega), e1 c (by omega)] at h
    by_cases ec : c = N
    · subst ec
      rw [aN, nv]
      exact Or.inr ⟨p, hp, h, g3 p hp⟩
    · rw [ac c (by omega)]; exact g6 c (by omega) p hp h
  · intro c hc d hd
    by_cases ec : c = N
    · subst ec
      rw [aN] at hd ⊢
      have hd' := (nv d).mp hd
      rcases hd' with z | ⟨p, z1, z2, z3⟩
      · exact Or.inl z
      · rcases g7 p z1 d z3 with y | ⟨e, y1, y2, y3⟩
        · subst y
          refine Or.inr ⟨c, (nv c).mpr (Or.inl rfl), z1, ?_⟩
          rw [e0 c (by omega), e1 c (by omega)]; exact z2
        · have hep := g4 p z1 e y1
          refine Or.inr ⟨e, (nv e).mpr (Or.inr ⟨p, z1, z2, y1⟩), y2, ?_⟩
          rw [e0 e (by omega), e1 e (by omega)]; exact y3
    · rw [ac c (by omega)] at hd ⊢
      rcases g7 c (by omega) d hd with y | ⟨e, y1, y2, y3⟩
      · exact Or.inl y
      · have hec := g4 c (by omega) e y1
        refine Or.inr ⟨e, y1, y2, ?_⟩
        rw [e0 e (by omega), e1 e (by omega)]; exact y3
theorem zi_K_commit {N P T : Nat} {v : Int32} {pr an tr kn tr' : Nat → Int32} (hN : N < 8) (G : zi_G N pr an) (K : zi_K N P T an tr kn) (hP : P ≤ 8) (h2 : ∀ i, (i < 2 ^ N * 8 ∨ 2 ^ N * 8 + 8 ≤ i) → tr' i = tr i) : zi_K (N + 1) P T (upd an N v) tr' (upd kn (2 ^ N) (vp_nar .boolean 1)) := by
  obtain ⟨k1, k2, k3, k4, k5⟩ := K
  have hp := Nat.two_pow_pos N
  have h8 := zg_pw8 N hN
  have hs : 2 ^ (N + 1) = 2 ^ N * 2 := Nat.pow_succ 2 N
  have km : ∀ m, ¬ kn m = 0 → ¬ upd kn (2 ^ N) (vp_nar .boolean 1) m = 0 := by
    intro m hm
    by_cases e : m = 2 ^ N
    · subst e; rw [pk_us]; exact zz_nar1
    · rw [pk_un e]; exact hm
  have keep : ∀ m, m < 2 ^ N → zx_rw P tr' m = zx_rw P tr m := by
    intro m hm
    exact zx_rw_eq (fun q hq => h2 _ (by omega))
  refine ⟨km 0 k1, ?_, ?_, ?_, ?_⟩
  · intro q hq
    rw [h2 _ (by omega)]; exact k2 q hq
  · intro c hc
    by_cases e : c = N
    · subst e; rw [pk_us]; exact zz_nar1
    · exact km _ (k3 c (by omega))
  · intro m hm hk
    by_cases e : m = 2 ^ N
    · omega
    · rw [pk_un e] at hk
      have := k4 m hm hk
      omega
  · intro j r g1 g2 g3 g4
    have hne : 2 ^ j + r ≠ 2 ^ N := by
      intro e
      have := (zg_uniq (r := 0) g2 hp (e.trans (Nat.add_zero _).symm)).2
      omega
    rw [pk_un hne] at g4
    obtain ⟨f1, f2, f3⟩ := k5 j r g1 g2 g3 g4
    have hmN := k4 _ g3 g4
    have hj : j < N := zg_split_lt hmN
    obtain ⟨_, hb⟩ := zg_b_ok G (by omega) hj g2
    have hpj : 2 ^ j < 2 ^ N := Nat.pow_lt_pow_right (by omega) hj
    have eb : zg_b (upd an N v) r j = zg_b an r j := by
      unfold zg_b
      rw [zg_best_cong G (zg_V_nI (by omega)) (zg_V_nI hpj) (fun c hc => (pk_un (f := an) (k := N) (x := v) (by omega)).symm)]
    rw [eb]
    refine ⟨km _ f1, km _ f2, ?_⟩
    rw [keep _ (by omega), keep _ (by omega), keep r (by omega), keep _ (by omega)]
    exact f3
section
variable {cp : Int32} {P T N : Nat} {pr an tr kn wn wk wf lb lw ta we ca ou og ar ag : Nat → Int32}
theorem zx_ancOf {post : Int32 → Prop} {a : Int32} (hN : N ≤ 8) (ha : a = -1 ∨ ∃ p, p < N ∧ a = nI p) (h : post (zg_pa an a)) : wpX_ancestorsOf post (cp, nI P, nI T, nI N, pr, an, tr, kn, wn, wk, wf, lb, lw, ta, we, ca, ou, og, ar, ag) a := by
  unfold zg_pa at h
  unfold wpX_ancestorsOf
  rcases ha with rfl | ⟨p, hp, rfl⟩
  · rw [if_pos rfl] at h
    exact zx_mb (by omega) (Or.inl (by decide)) (br_t rfl h)
  · rw [if_neg (zr_m1 (by omega))] at h
    exact zx_mg (by omega) hp (br_f zz_10 ⟨vp_in_nI (by omega) (by omega), h⟩)
theorem zx_com38 {post : Int32 → SX → Prop} {tr0 : Nat → Int32} (hP : P ≤ 8) (hN : N < 8) (G : zi_G N pr an) (h : ∀ tr', (∀ q, q < P → tr' (2 ^ N * 8 + q) = wk q) → (∀ i, (i < 2 ^ N * 8 ∨ 2 ^ N * 8 + 8 ≤ i) → tr' i = tr0 i) → post (nI N) (cp, nI P, nI T, nI (N + 1), upd (upd pr ((N + 1) * 2) (nI N)) ((N + 1) * 2 + 1) (-1), upd an N (zg_nv N an (pr (N * 2)) (pr (N * 2 + 1))), tr', upd kn (2 ^ N) (vp_nar .boolean 1), wn, wk, wf, lb, lw, ta, we, ca, ou, og, ar, ag)) : ∀ n q (tr : Nat → Int32), q + n = P → (∀ q', q' < q → tr (2 ^ N * 8 + q') = wk q') → (∀ i, (i < 2 ^ N * 8 ∨ 2 ^ N * 8 + 8 ≤ i) → tr i = tr0 i) → wX_commit_38 post (nI N) (nI (2 ^ N * 8)) cp (nI P) (nI T) (nI N) (n + 1) (nI q) pr an tr kn wn wk wf lb lw ta we ca ou og ar ag := by
  have h8 := zg_pw8 N hN
  intro n
  induction n with
  | zero =>
    intro q tr hq h1 h2
    have e : q = P := by omega
    subst e
    have e1 : nI N * 2 = nI (N * 2) := pk_mul N 2
    have e2 : nI N * 2 + 1 = nI (N * 2 + 1) := by rw [e1, nI_1]
    have ep := zb_pow (c := N) (by omega)
    have c1 : (nI N * 2).toNatClampNeg = N * 2 := by rw [e1]; exact nI_clamp (by omega)
    have c2 : (nI N * 2 + 1).toNatClampNeg = N * 2 + 1 := by rw [e2]; exact nI_clamp (by omega)
    refine br_t (nI_le (by omega) (by omega)) ⟨?_, nm_r (e' := upd kn (2 ^ N) (vp_nar .boolean 1)) ?_ ⟨?_, ?_⟩⟩
    · rw [ep]; exact vp_in_nI (by omega) (by omega)
    · rw [ep, nI_clamp (by omega)]
    · rw [e1]; exact vp_in_nI (by omega) (by omega)
    · rw [c1]
      refine zx_ancOf (by omega) (G.1 N (Nat.le_refl _)) ⟨?_, ?_⟩
      · rw [e2]; exact vp_in_nI (by omega) (by omega)
      · rw [c2]
        refine zx_ancOf (by omega) (G.2.1 N (Nat.le_refl _)) ⟨vp_in_nI (by omega) (by omega), nm_r (e' := upd an N (zg_nv N an (pr (N * 2)) (pr (N * 2 + 1)))) ?_ (nm_r (nI_1 N) (zx_setPending (N := N + 1) _ _ (by omega) (h tr h1 h2)))⟩
        rw [nI_clamp (by omega)]; rfl
  | succ n ih =>
    intro q tr hq h1 h2
    refine br_f (nI_ge (by omega) (by omega)) ⟨vp_in_nI (by omega) (by omega), ?_, nm_r (e' := upd tr (2 ^ N * 8 + q) (wk q)) ?_ (nm_r (nI_1 q) (ih (q + 1) _ (by omega) ?_ ?_))⟩
    · rw [nI_add]; exact vp_in_nI (by omega) (by omega)
    · rw [nI_add, nI_clamp (by omega), nI_clamp (by omega)]
    · intro q' hq'
      by_cases e : q' = q
      · subst e; exact pk_us
      · exact (pk_un (by omega)).trans (h1 q' (by omega))
    · intro i hi
      exact (pk_un (by omega)).trans (h2 i hi)
end
section
variable {fw fb cp : Int32} {P T N : Nat} {ce pr fl sg yw yc yr : Nat → Int32}
theorem zy_com_all {post : Int32 → SY → Prop} (hz : ∀ q, q < 8 → fl q = 0) (h : wY_commit_2 post fw fb cp (nI P) (nI T) (nI N) ce pr fl sg yw yc yr 1 (nI 8)) : ∀ n q, q + n = 8 → wY_commit_2 post fw fb cp (nI P) (nI T) (nI N) ce pr fl sg yw yc yr (n + 1) (nI q) := by
  intro n
  induction n with
  | zero =>
    intro q hq
    have e : q = 8 := by omega
    subst e
    exact h
  | succ n ih =>
    intro q hq
    refine br_f (nI_ge (b := 8) (by omega) (by omega)) ⟨vp_in_nI (by omega) (by omega), br_t ?_ (nm_r (nI_1 q) (ih (q + 1) (by omega)))⟩
    rw [nI_clamp (by omega)]; exact hz q (by omega)
theorem zy_com_some {post : Int32 → SY → Prop} (h : post (-4) (fw, fb, cp, nI P, nI T, nI N, ce, pr, fl, sg, yw, yc, yr)) : ∀ n q, q + n = 8 → (∃ j, q ≤ j ∧ j < 8 ∧ ¬ fl j = 0) → wY_commit_2 post fw fb cp (nI P) (nI T) (nI N) ce pr fl sg yw yc yr (n + 1) (nI q) := by
  intro n
  induction n with
  | zero =>
    rintro q hq ⟨j, j1, j2, _⟩
    omega
  | succ n ih =>
    rintro q hq ⟨j, j1, j2, j3⟩
    have cq : (nI q).toNatClampNeg = q := nI_clamp (by omega)
    refine br_f (nI_ge (b := 8) (by omega) (by omega)) ⟨vp_in_nI (by omega) (by omega), ?_⟩
    rw [cq]
    refine br_c (fun e => nm_r (nI_1 q) (ih (q + 1) (by omega) ⟨j, ?_, j2, j3⟩)) (fun _ => h)
    have : j ≠ q := by intro z; subst z; exact j3 e
    omega
end
theorem i_vc_commit {k : Nat} {u : SX} {v : SY} (I : i_Rel k u v) (hk : k + 3 ≤ 1539) : wpX_commit (fun r u' => wpY_commit (fun r' v' => r' = r ∧ i_Rel (k + 3) u' v') v) u := by
  refine zz_el (Q := fun u v => wpX_commit (fun r u' => wpY_commit (fun r' v' => r' = r ∧ i_Rel (k + 3) u' v') v) u) I ?_
  intro C P T N fw fb pr an tr kn wn wk wf lb lw ta we ca ou og ar ag ce fl sg yw yc yr hI
  have hI0 := hI
  obtain ⟨hB0, hG, hK, hW, hC, hF, hL⟩ := hI
  have hB := hB0
  unfold zz_B at hB
  have ecnt : zp_cnt wf P 0 0 = zp_cnt fl 8 0 0 := by
    have := zp_cnt_eq wf fl (8 - P) P 0 0 (fun j _ h2 => (hF.1 j (by omega)).2.2.2.2) (fun j h1 h2 => (hF.2 j (by omega) (by omega)).2)
    rw [show P + (8 - P) = 8 by omega] at this
    exact this
  unfold wpX_commit
  refine zx_conflicts (by omega) ?_
  rw [ecnt]
  have hle := zp_cnt_le fl 8 0 0
  rcases Nat.eq_zero_or_pos (zp_cnt fl 8 0 0) with hz | hz
  · have hall : ∀ q, q < 8 → fl q = 0 := fun q hq => zp_cnt_0 fl 8 0 0 hz q (by omega) (by omega)
    rw [hz]
    refine br_t (by decide) ?_
    by_cases hc : N < C
    · have hc' : nI N < nI C := nI_lt hc (by omega)
      have h8 := zg_pw8 N (by omega)
      have ep : ((1 : Int32) <<< (nI N &&& 31)) * 8 = nI (2 ^ N * 8) := by rw [zb_pow (by omega)]; exact pk_mul (2 ^ N) 8
      refine br_t hc' (nm_r ep ⟨P + 1, zx_com38 (tr0 := tr) (by omega) (by omega) hG ?_ P 0 tr (by omega) (fun q' hq' => absurd hq' (by omega)) (fun _ _ => rfl)⟩)
      intro tr' t1 t2
      refine ⟨9, zy_com_all hall ?_ 8 0 rfl⟩
      refine br_t (nI_le (a := 8) (by omega) (by omega)) (br_t hc' ?_)
      rw [zb_pow (by omega)]
      refine zy_copy (s := 256) (t := 2 ^ N) (by omega) (by omega) (by omega) ?_
      intro ce' y1 y2
      have e2 := zy_2N (N + 1)
      have e3 : (2 : Int32) * nI (N + 1) + 1 = nI ((N + 1) * 2 + 1) := by rw [e2, nI_1]
      refine nm_r (nI_1 N) ⟨?_, nm_r (e' := upd pr ((N + 1) * 2) (nI N)) ?_ ⟨?_, nm_r (e' := upd (upd pr ((N + 1) * 2) (nI N)) ((N + 1) * 2 + 1) (-1)) ?_ ⟨rfl, zz_in ?_⟩⟩⟩
      · rw [e2]; exact vp_in_nI (by omega) (by omega)
      · rw [e2, nI_clamp (by omega)]
      · rw [e3]; exact vp_in_nI (by omega) (by omega)
      · rw [e3, nI_clamp (by omega)]
      · have hpos := Nat.two_pow_pos N
        refine ⟨by unfold zz_B; omega, zi_G_commit (by omega) hG, zi_K_commit (by omega) hG hK (by omega) t2, ?_, ⟨?_, ?_⟩, ⟨?_, ?_⟩, ?_⟩
        · intro j hj hw
          have := hW j hj hw
          by_cases e : j = 2 ^ N
          · subst e; rw [pk_us]; exact zz_nar1
          · rw [pk_un e]; exact this
        · intro q hq
          rw [y2 _ (by omega)]; exact hC.1 q hq
        · intro c hc2
          by_cases e : c = N
          · subst e
            funext q
            unfold zx_rw zy_rw
            by_cases hq : q < P
            · rw [if_pos hq, if_pos (by omega), t1 q hq, y1 q (by omega)]
              exact (hF.1 q hq).1
            · rw [if_neg hq]
              by_cases hq8 : q < 8
              · rw [if_pos hq8, y1 q hq8]
                exact (hF.2 q (by omega) hq8).1.symm
              · rw [if_neg hq8]
          · have hcN : 2 ^ c < 2 ^ N := Nat.pow_lt_pow_right (by omega) (by omega)
            rw [zx_rw_eq (tr := tr) (fun q hq => t2 _ (by omega)), hC.2 c (by omega)]
            exact (zy_rw_eq (fun q hq => y2 _ (by omega))).symm
        · intro q hq
          obtain ⟨f1, f2, f3, f4, f5⟩ := hF.1 q hq
          exact ⟨f1.trans (y2 _ (by omega)).symm, f2, f3, f4, f5⟩
        · intro q h1 h2
          rw [y2 _ (by omega)]
          exact hF.2 q h1 h2
        · exact zi_L_keep (by omega) (fun i hi => y2 i (by omega)) hL
    · have hc' : ¬ nI N < nI C := nI_nlt (by omega) (by omega)
      refine br_f hc' ⟨9, zy_com_all hall ?_ 8 0 rfl⟩
      exact br_t (nI_le (a := 8) (by omega) (by omega)) (br_f hc' ⟨rfl, zz_in hI0⟩)
  · refine br_f (nI_nle hz (by omega)) ⟨9, zy_com_some ⟨rfl, zz_in hI0⟩ 8 0 rfl ?_⟩
    apply Classical.byContradiction
    intro hn
    have : zp_cnt fl 8 0 0 = 0 := by
      apply zp_cnt_z
      intro j _ h2
      apply Classical.byContradiction
      intro hf
      exact hn ⟨j, by omega, by omega, hf⟩
    omega
end
section
/-! ===== merge ===== -/
section
variable {cp : Int32} {P T N : Nat} {pr an tr kn wn wk wf lb lw ta we ca ou og ar ag : Nat → Int32}
theorem zx_ad28 {post : SX → Prop} : ∀ n q (wf : Nat → Int32), q + n = 8 → (∀ j, j < q → wf j = og j) → (∀ wf', (∀ j, j < 8 → wf' j = og j) → post (cp, nI P, nI T, nI N, pr, an, tr, kn, wn, wk, wf', lb, lw, ta, we, ca, ou, og, ar, ag)) → wX_adoptResult_28 post cp (nI P) (nI T) (nI N) (n + 1) (nI q) pr an tr kn wn wk wf lb lw ta we ca ou og ar ag := by
  intro n
  induction n with
  | zero =>
    intro q wf hq h1 h
    have e : q = 8 := by omega
    subst e
    exact br_t (nI_le (a := 8) (by omega) (by omega)) (h wf h1)
  | succ n ih =>
    intro q wf hq h1 h
    have cq : (nI q).toNatClampNeg = q := nI_clamp (by omega)
    refine br_f (nI_ge (b := 8) (by omega) (by omega)) ⟨vp_in_nI (by omega) (by omega), vp_in_nI (by omega) (by omega), nm_r (e' := upd wf q (og q)) (by rw [cq]) (nm_r (nI_1 q) (ih (q + 1) _ (by omega) ?_ h))⟩
    intro j hj
    by_cases e : j = q
    · subst e; exact pk_us
    · exact (pk_un e).trans (h1 j (by omega))
theorem zx_ad2 {post : SX → Prop} : ∀ n q (wk : Nat → Int32), q + n = 32 → (∀ j, j < q → wk j = ou j) → (∀ wk' wf', (∀ j, j < 32 → wk' j = ou j) → (∀ j, j < 8 → wf' j = og j) → post (cp, nI P, nI T, nI N, pr, an, tr, kn, wn, wk', wf', lb, lw, ta, we, ca, ou, og, ar, ag)) → wX_adoptResult_2 post cp (nI P) (nI T) (nI N) (n + 1) (nI q) pr an tr kn wn wk wf lb lw ta we ca ou og ar ag := by
  intro n
  induction n with
  | zero =>
    intro q wk hq h1 h
    have e : q = 32 := by omega
    subst e
    refine br_t (nI_le (a := 32) (by omega) (by omega)) ⟨9, zx_ad28 8 0 wf rfl (fun j hj => absurd hj (by omega)) ?_⟩
    intro wf' h2
    exact h wk wf' h1 h2
  | succ n ih =>
    intro q wk hq h1 h
    have cq : (nI q).toNatClampNeg = q := nI_clamp (by omega)
    refine br_f (nI_ge (b := 32) (by omega) (by omega)) ⟨vp_in_nI (by omega) (by omega), vp_in_nI (by omega) (by omega), nm_r (e' := upd wk q (ou q)) (by rw [cq]) (nm_r (nI_1 q) (ih (q + 1) _ (by omega) ?_ h))⟩
    intro j hj
    by_cases e : j = q
    · subst e; exact pk_us
    · exact (pk_un e).trans (h1 j (by omega))
theorem zx_adopt {post : SX → Prop} (h : ∀ wk' wf', (∀ j, j < 32 → wk' j = ou j) → (∀ j, j < 8 → wf' j = og j) → post (cp, nI P, nI T, nI N, pr, an, tr, kn, wn, wk', wf', lb, lw, ta, we, ca, ou, og, ar, ag)) : wpX_adoptResult post (cp, nI P, nI T, nI N, pr, an, tr, kn, wn, wk, wf, lb, lw, ta, we, ca, ou, og, ar, ag) :=
  ⟨33, zx_ad2 32 0 wk rfl (fun j hj => absurd hj (by omega)) h⟩
theorem zx_kl2 {post : SX → Prop} {b0 : Nat} (hP : P ≤ 8) (hb : b0 < 256) (h : ∀ lb' lw', (∀ q, q < P → lb' q = tr (b0 * 8 + q) ∧ lw' (8 + q) = we (8 + q) ∧ lw' (16 + q) = we (16 + q)) → post (cp, nI P, nI T, nI N, pr, an, tr, kn, wn, wk, wf, lb', lw', ta, we, ca, ou, og, ar, ag)) : ∀ n q (lb lw : Nat → Int32), q + n = P → (∀ j, j < q → lb j = tr (b0 * 8 + j) ∧ lw (8 + j) = we (8 + j) ∧ lw (16 + j) = we (16 + j)) → wX_keepLast_2 post (nI b0) cp (nI P) (nI T) (nI N) (n + 1) (nI q) pr an tr kn wn wk wf lb lw ta we ca ou og ar ag := by
  intro n
  induction n with
  | zero =>
    intro q lb lw hq h1
    have e : q = P := by omega
    subst e
    exact br_t (nI_le (by omega) (by omega)) (h lb lw h1)
  | succ n ih =>
    intro q lb lw hq h1
    have cq : (nI q).toNatClampNeg = q := nI_clamp (by omega)
    have e8 : (8 : Int32) + nI q = nI (8 + q) := nI_add 8 q
    have e16 : (16 : Int32) + nI q = nI (16 + q) := nI_add 16 q
    have i8 : vp_in ((8 : Int32) + nI q) 24 := by rw [e8]; exact vp_in_nI (by omega) (by omega)
    have i16 : vp_in ((16 : Int32) + nI q) 24 := by rw [e16]; exact vp_in_nI (by omega) (by omega)
    have c8 : ((8 : Int32) + nI q).toNatClampNeg = 8 + q := by rw [e8]; exact nI_clamp (by omega)
    have c16 : ((16 : Int32) + nI q).toNatClampNeg = 16 + q := by rw [e16]; exact nI_clamp (by omega)
    refine br_f (nI_ge (by omega) (by omega)) ⟨?_, vp_in_nI (by omega) (by omega), nm_r (e' := upd lb q (tr (b0 * 8 + q))) ?_ ⟨i8, i8, nm_r (e' := upd lw (8 + q) (we (8 + q))) (by rw [c8]) ⟨i16, i16, nm_r (e' := upd (upd lw (8 + q) (we (8 + q))) (16 + q) (we (16 + q))) (by rw [c16]) (nm_r (nI_1 q) (ih (q + 1) _ _ (by omega) ?_))⟩⟩⟩
    · rw [zx_i8]; exact vp_in_nI (by omega) (by omega)
    · rw [zx_i8, cq, nI_clamp (by omega)]
    · intro j hj
      by_cases e : j = q
      · subst e
        exact ⟨pk_us, (pk_un (by omega)).trans pk_us, pk_us⟩
      · obtain ⟨l1, l2, l3⟩ := h1 j (by omega)
        exact ⟨(pk_un e).trans l1, (pk_un (by omega)).trans ((pk_un (by omega)).trans l2), (pk_un (by omega)).trans ((pk_un (by omega)).trans l3)⟩
theorem zx_keepLast {post : SX → Prop} {b0 : Nat} (hP : P ≤ 8) (hb : b0 < 256) (h : ∀ lb' lw', (∀ q, q < P → lb' q = tr (b0 * 8 + q) ∧ lw' (8 + q) = we (8 + q) ∧ lw' (16 + q) = we (16 + q)) → post (cp, nI P, nI T, nI N, pr, an, tr, kn, wn, wk, wf, lb', lw', ta, we, ca, ou, og, ar, ag)) : wpX_keepLast post (cp, nI P, nI T, nI N, pr, an, tr, kn, wn, wk, wf, lb, lw, ta, we, ca, ou, og, ar, ag) (nI b0) :=
  ⟨P + 1, zx_kl2 hP hb h P 0 lb lw (by omega) (fun j hj => absurd hj (by omega))⟩
end
/-- the mathematics of a merge's end -/
theorem zz_merge {C P T N b0 a b : Nat} {pr an tr' kn' wn' wk' wf' lb' lw' we' ou' og' ce1 ce2 ce3 fl2 sg2 yw2 : Nat → Int32} {A B O : Nat → Int32} (hB0 : zz_B C P T N) (hG : zi_G N pr an) (hK : zi_K N P T an tr' kn') (hW : zi_W kn' wn') (ha : a < N) (hb : b < N) (hb0 : b0 < 2 ^ N) (hC1 : zi_C N P tr' ce1) (hO : zx_rw P tr' b0 = O) (hO' : zy_rw ce1 b0 = O) (hA0 : ∀ p, P ≤ p → A p = 0) (hB00 : ∀ p, P ≤ p → B p = 0)
    (x1 : ∀ j, j < P → zx_Dn (zq_pth T O A B j) j ou' og') (x2 : ∀ p, p < P → we' (8 + p) = (zr_all T O A).1 p ∧ we' (16 + p) = (zr_all T O B).1 p) (x3 : ∀ j, j < 32 → wk' j = ou' j) (x4 : ∀ j, j < 8 → wf' j = og' j) (x5 : ∀ q, q < P → lb' q = tr' (b0 * 8 + q) ∧ lw' (8 + q) = we' (8 + q) ∧ lw' (16 + q) = we' (16 + q))
    (y1 : ∀ j, j < 8 → zy_Dn 256 (zq_pth T O A B j) j ce2 fl2 sg2) (y2 : ∀ j, (j < 256 * 8 ∨ 256 * 8 + 8 ≤ j) → ce2 j = ce1 j) (y3 : ∀ p, p < 8 → yw2 p = (zr_all T O A).1 p ∧ yw2 (8 + p) = (zr_all T O B).1 p) (y4 : ∀ j, j < 8 → ce3 (257 * 8 + j) = ce2 (b0 * 8 + j)) (y5 : ∀ j, (j < 257 * 8 ∨ 257 * 8 + 8 ≤ j) → ce3 j = ce2 j) :
    zz_I C P T N (upd (upd pr (N * 2) (nI a)) (N * 2 + 1) (nI b)) an tr' kn' wn' wk' wf' lb' lw' ce3 fl2 sg2 yw2 ∧ zp_cnt wf' P 0 0 = zp_cnt fl2 8 0 0 := by
  have hB := hB0
  unfold zz_B at hB
  have hp8 := zg_pw N (by omega)
  have hF : zi_F P wk' wf' ce3 fl2 sg2 := by
    refine ⟨?_, ?_⟩
    · intro q hq
      obtain ⟨d1, d2, d3, d4, d5⟩ := x1 q hq
      obtain ⟨e1, e2, e3, e4, e5⟩ := y1 q (by omega)
      refine ⟨?_, ?_, ?_, ?_, ?_⟩
      · rw [x3 _ (by omega), d1, y5 _ (by omega), e1]
      · rw [x3 _ (by omega), d2, e2]
      · rw [x3 _ (by omega), d3, e3]
      · rw [x3 _ (by omega), d4, e4]
      · rw [x4 _ (by omega), d5, e5]
    · intro q h1 h2
      obtain ⟨e1, e2, e3, e4, e5⟩ := y1 q h2
      have hO0 : ∀ p, P ≤ p → O p = 0 := by rw [← hO]; exact zx_rw_far
      rw [zq_pth_far hO0 hA0 hB00 h1] at e1 e5
      exact ⟨(y5 _ (by omega)).trans e1, e5⟩
  refine ⟨⟨hB0, zi_G_pend hG (Or.inr ⟨a, ha, rfl⟩) (Or.inr ⟨b, hb, rfl⟩), hK, hW, zi_C_keep (by omega) (fun i hi => (y5 i (by omega)).trans (y2 i (by omega))) hC1, hF, ?_⟩, ?_⟩
  · intro q hq
    obtain ⟨l1, l2, l3⟩ := x5 q hq
    refine ⟨?_, ?_, ?_⟩
    · rw [l1, y4 q (by omega), y2 _ (by omega)]
      have h1 : tr' (b0 * 8 + q) = O q := by rw [← hO]; exact (if_pos hq).symm
      have h2 : ce1 (b0 * 8 + q) = O q := by rw [← hO']; exact (if_pos (by omega : q < 8)).symm
      rw [h1, h2]
    · rw [l2, (x2 q hq).1, (y3 q (by omega)).1]
    · rw [l3, (x2 q hq).2, (y3 q (by omega)).2]
  · have := zp_cnt_eq wf' fl2 (8 - P) P 0 0 (fun j _ h2 => (hF.1 j (by omega)).2.2.2.2) (fun j h1 h2 => (hF.2 j (by omega) (by omega)).2)
    rw [show P + (8 - P) = 8 by omega] at this
    exact this
theorem i_vc_merge {k : Nat} {u : SX} {v : SY} (I : i_Rel k u v) (hk : k + 3 ≤ 1539) (v1 : Int32) (v2 : Int32) : wpX_merge (fun r u' => wpY_merge (fun r' v' => r' = r ∧ i_Rel (k + 3) u' v') v v1 v2) u v1 v2 := by
  refine zz_el (Q := fun u v => wpX_merge (fun r u' => wpY_merge (fun r' v' => r' = r ∧ i_Rel (k + 3) u' v') v v1 v2) u v1 v2) I ?_
  intro C P T N fw fb pr an tr kn wn wk wf lb lw ta we ca ou og ar ag ce fl sg yw yc yr hI
  have hI0 := hI
  obtain ⟨hB0, hG, hK, hW, hC, hF, hL⟩ := hI
  have hB := hB0
  unfold zz_B at hB
  unfold wpX_merge wpY_merge
  rcases zz_path v1 (n := N) (by omega) with hb | ⟨a, ha, rfl⟩
  · exact zx_mb (by omega) hb (br_t rfl (zy_mb (by omega) hb (br_t rfl ⟨rfl, zz_in hI0⟩)))
  rcases zz_path v2 (n := N) (by omega) with hb | ⟨b, hb, rfl⟩
  · exact zx_mg (by omega) ha (br_f zz_10 (zx_mb (by omega) hb (br_t rfl (zy_mg (by omega) ha (br_f zz_10 (zy_mb (by omega) hb (br_t rfl ⟨rfl, zz_in hI0⟩)))))))
  have hp8 := zg_pw N (by omega)
  have pa8 := zg_pw8 a (by omega)
  have pb8 := zg_pw8 b (by omega)
  have Va := zg_V_single ha (by omega)
  have Vb := zg_V_single hb (by omega)
  obtain ⟨b0, hb0, eb⟩ := zb_mask (k := N) (by omega) (zg_best_le (y := (1 : Int32) <<< (nI b &&& 31)) hG (Nat.le_refl _) Va)
  refine zx_mg (by omega) ha (br_f zz_10 (zx_mg (by omega) hb (br_f zz_10 ?_)))
  refine zx_best (by omega) hG Va Vb ?_
  rw [eb]
  refine zx_prepare (by omega) (by omega) (by omega) hG hK hW hb0 ?_
  intro tr1 kn1 wn1 ta1 we1 ca1 ou1 og1 ar1 ag1 K1 W1 kb1 t1
  rw [zb_pow (by omega), zb_pow (by omega)]
  refine zx_threeWay (by omega) (by omega) (zx_rw_R (by omega)) (zx_rw_R (by omega)) (zx_rw_R (by omega)) ?_
  intro ta2 we2 ca2 ou2 og2 ar2 ag2 x1 x2
  refine zx_adopt ?_
  intro wk3 wf3 x3 x4
  refine zx_keepLast (by omega) (by omega) ?_
  intro lb4 lw4 x5
  refine zx_setPending _ _ (by omega) ?_
  refine zx_conflicts (by omega) ?_
  -- the reference
  refine zy_mg (by omega) ha (br_f zz_10 (zy_mg (by omega) hb (br_f zz_10 ?_)))
  rw [← zb_pow (c := a) (by omega), ← zb_pow (c := b) (by omega)]
  refine zy_best (an := an) (by omega) hG Va Vb ?_
  rw [eb]
  refine zy_virtualTrees (an := an) (by omega) (by omega) hG hb0 ?_
  intro ce1 fl1 sg1 yw1 yc1 yr1 V KI
  rw [zb_pow (by omega), zb_pow (by omega)]
  refine zy_threeWay (rt := 256) (by omega) (zy_rw_R (by omega)) (zy_rw_R (by omega)) (zy_rw_R (by omega)) (by omega) (by omega) (by omega) (by omega) ?_
  intro ce2 fl2 sg2 yw2 yc2 yr2 y1 y2 y3
  refine zy_copy (s := b0) (t := 257) (by omega) (by omega) (by omega) ?_
  intro ce3 y4 y5
  have hC1 : zi_C N P tr1 ce1 := by
    refine ⟨fun q hq => (KI.1 q hq).trans (hC.1 q hq), ?_⟩
    intro c hc
    rw [zx_rw_eq (fun q hq => t1 c hc q hq), hC.2 c hc]
    exact (zy_rw_eq (fun q hq => KI.2.1 c (by omega) q hq)).symm
  have rb0 := zz_rows (by omega) hG K1 V hb0 hC1.1 hC1.2 b0 (Nat.le_refl _) kb1
  rw [← rb0, ← hC1.2 a ha, ← hC1.2 b hb] at y1 y3
  obtain ⟨fin, ecnt⟩ := zz_merge hB0 hG K1 W1 ha hb hb0 hC1 rfl rb0.symm zx_rw_far zx_rw_far x1 x2 x3 x4 x5 y1 y2 y3 y4 y5
  have e2 := zy_2N N
  have e3 : (2 : Int32) * nI N + 1 = nI (N * 2 + 1) := by rw [e2, nI_1]
  refine ⟨?_, nm_r (e' := upd pr (N * 2) (nI a)) ?_ ⟨?_, nm_r (e' := upd (upd pr (N * 2) (nI a)) (N * 2 + 1) (nI b)) ?_ ⟨9, zy_merge89 8 0 0 rfl ⟨?_, zz_in fin⟩⟩⟩⟩
  · rw [e2]; exact vp_in_nI (by omega) (by omega)
  · rw [e2, nI_clamp (by omega)]
  · rw [e3]; exact vp_in_nI (by omega) (by omega)
  · rw [e3, nI_clamp (by omega)]
  · rw [ecnt]
end
section
/-! ===== the constructors ===== -/
def zz_cl (x lo hi : Int32) : Int32 := if lo ≤ x then (if x ≤ hi then x else hi) else lo
theorem zz_cl_in {x lo hi : Int32} {a b : Nat} (ha : lo = nI a) (hb : hi = nI b) (hab : a ≤ b) (hbb : b < 2 ^ 31) : ∃ n, a ≤ n ∧ n ≤ b ∧ zz_cl x lo hi = nI n := by
  subst ha hb
  unfold zz_cl
  by_cases h1 : nI a ≤ x
  · rw [if_pos h1]
    by_cases h2 : x ≤ nI b
    · rw [if_pos h2]
      have h0 : ¬ x < 0 := Int32.not_lt.mpr (Int32.le_trans (nI_pos' (by omega)) h1)
      obtain ⟨j, hj, rfl⟩ := nI_of h0
      rw [nI_leI (by omega) hj] at h1
      rw [nI_leI hj hbb] at h2
      exact ⟨j, h1, h2, rfl⟩
    · rw [if_neg h2]; exact ⟨b, hab, Nat.le_refl _, rfl⟩
  · rw [if_neg h1]; exact ⟨a, Nat.le_refl _, hab, rfl⟩
theorem zz_br {x lo hi : Int32} {W : Int32 → Prop} (h : W (zz_cl x lo hi)) : (lo ≤ x → ((x ≤ hi → W x) ∧ (¬ x ≤ hi → W hi))) ∧ (¬ lo ≤ x → W lo) := by
  unfold zz_cl at h
  refine br_c (fun h1 => br_c (fun h2 => ?_) (fun h2 => ?_)) (fun h1 => ?_)
  · rw [if_pos h1, if_pos h2] at h; exact h
  · rw [if_pos h1, if_neg h2] at h; exact h
  · rw [if_neg h1] at h; exact h
theorem zx_clamp {post : Int32 → Prop} {u : SX} {x lo hi : Int32} (h : post (zz_cl x lo hi)) : wpX_clamp post u x lo hi := by
  obtain ⟨cp, pa, th, ct, pr, an, tr, kn, wn, wk, wf, lb, lw, ta, we, ca, ou, og, ar, ag⟩ := u
  exact zz_br h
section
variable {cp : Int32} {P T N : Nat} {pr an tr kn wn wk wf lb lw ta we ca ou og ar ag : Nat → Int32}
theorem zx_init184 {post : SX → Prop} : ∀ n i (lw : Nat → Int32), i + n = 24 → (∀ j, j < i → lw j = -1) → (∀ lw', (∀ j, j < 24 → lw' j = -1) → post (cp, nI P, nI T, nI N, pr, an, tr, kn, wn, wk, wf, lb, lw', ta, we, ca, ou, og, ar, ag)) → wX_init_184 post cp (nI P) (nI T) (nI N) (n + 1) (nI i) pr an tr kn wn wk wf lb lw ta we ca ou og ar ag := by
  intro n
  induction n with
  | zero =>
    intro i lw hi h1 h
    have e : i = 24 := by omega
    subst e
    exact br_t (nI_le (a := 24) (by omega) (by omega)) (h lw h1)
  | succ n ih =>
    intro i lw hi h1 h
    refine br_f (nI_ge (b := 24) (by omega) (by omega)) ⟨vp_in_nI (by omega) (by omega), nm_r (e' := upd lw i (-1)) (by rw [nI_clamp (by omega)]) (nm_r (nI_1 i) (ih (i + 1) _ (by omega) ?_ h))⟩
    intro j hj
    by_cases e : j = i
    · subst e; exact pk_us
    · exact (pk_un e).trans (h1 j (by omega))
end
section
variable {fw fb cp : Int32} {P T N : Nat} {ce pr fl sg yw yc yr : Nat → Int32}
theorem zy_init151 {post : SY → Prop} : ∀ n i (yw yc : Nat → Int32), i + n = 16 → (∀ j, j < i → yw j = -1) → (∀ yw' yc', (∀ j, j < 16 → yw' j = -1) → post (fw, fb, cp, nI P, nI T, nI N, ce, upd (upd pr 0 (-1)) 1 (-1), fl, sg, yw', yc', yr)) → wY_init_151 post fw fb cp (nI P) (nI T) (nI N) (n + 1) (nI i) ce pr fl sg yw yc yr := by
  intro n
  induction n with
  | zero =>
    intro i yw yc hi h1 h
    have e : i = 16 := by omega
    subst e
    exact br_t (nI_le (a := 16) (by omega) (by omega)) (nm_e (nm_e (h yw yc h1)))
  | succ n ih =>
    intro i yw yc hi h1 h
    refine br_f (nI_ge (b := 16) (by omega) (by omega)) ⟨vp_in_nI (by omega) (by omega), nm_r (e' := upd yw i (-1)) (by rw [nI_clamp (by omega)]) ⟨vp_in_nI (by omega) (by omega), nm_r (e' := upd yc i (-1)) (by rw [nI_clamp (by omega)]) (nm_r (nI_1 i) (ih (i + 1) _ _ (by omega) ?_ h))⟩⟩
    intro j hj
    by_cases e : j = i
    · subst e; exact pk_us
    · exact (pk_un e).trans (h1 j (by omega))
end
theorem zz_I0 {C P T : Nat} {lw yw : Nat → Int32} (hC : 2 ≤ C ∧ C ≤ 8) (hP : 2 ≤ P ∧ P ≤ 8) (hT : 1 ≤ T ∧ T ≤ 4) (h1 : ∀ j, j < 24 → lw j = -1) (h2 : ∀ j, j < 16 → yw j = -1) : zz_I C P T 0 (upd (upd (fun _ => 0) 0 (-1)) 1 (-1)) (fun _ => 0) (fun _ => 0) (upd (fun _ => 0) 0 (vp_nar .boolean 1)) (fun _ => 0) (fun _ => 0) (fun _ => 0) (fun _ => 0) lw (fun _ => 0) (fun _ => 0) (fun _ => 0) yw := by
  have z : ∀ (m : Nat), ¬ upd (fun _ => 0) 0 (vp_nar .boolean 1) m = 0 → m = 0 := by
    intro m hm
    by_cases e : m = 0
    · exact e
    · rw [pk_un e] at hm; exact absurd rfl hm
  refine ⟨⟨hC.1, hC.2, hP.1, hP.2, hT.1, hT.2, by omega⟩, ⟨?_, ?_, ?_, ?_, ?_, ?_, ?_⟩, ⟨?_, ?_, ?_, ?_, ?_⟩, ?_, ⟨?_, ?_⟩, ⟨?_, ?_⟩, ?_⟩
  · intro c hc
    have e : c = 0 := by omega
    subst e; exact Or.inl rfl
  · intro c hc
    have e : c = 0 := by omega
    subst e; exact Or.inl rfl
  · intro c hc; exact absurd hc (by omega)
  · intro c hc; exact absurd hc (by omega)
  · intro c hc; exact absurd hc (by omega)
  · intro c hc; exact absurd hc (by omega)
  · intro c hc; exact absurd hc (by omega)
  · rw [pk_us]; exact zz_nar1
  · intro q _; rfl
  · intro c hc; exact absurd hc (by omega)
  · intro m _ hk
    rw [z m hk]; decide
  · intro j r g1 _ _ g4
    have := z _ g4
    omega
  · intro j _ hw; exact absurd rfl hw
  · intro q _; rfl
  · intro c hc; exact absurd hc (by omega)
  · intro q _; exact ⟨rfl, rfl, rfl, rfl, rfl⟩
  · intro q _ _; exact ⟨rfl, rfl⟩
  · intro q hq
    exact ⟨rfl, (h1 _ (by omega)).trans (h2 _ (by omega)).symm, (h1 _ (by omega)).trans (h2 _ (by omega)).symm⟩
theorem zy_init {post : SY → Prop} {x1 x2 x3 : Int32} {C P T : Nat} (e1 : zz_cl x1 2 8 = nI C) (e2 : zz_cl x2 2 8 = nI P) (e3 : zz_cl x3 1 4 = nI T) (h : ∀ yw' yc', (∀ j, j < 16 → yw' j = -1) → post (256, 257, nI C, nI P, nI T, nI 0, (fun _ => 0), upd (upd (fun _ => 0) 0 (-1)) 1 (-1), (fun _ => 0), (fun _ => 0), yw', yc', (fun _ => 0))) : wpY_init post x1 x2 x3 := by
  unfold wpY_init
  refine zz_br (W := fun z => wY_init_97 post x2 x3 z 256 257 0 0 0 0 (fun _ => 0) (fun _ => 0) (fun _ => 0) (fun _ => 0) (fun _ => 0) (fun _ => 0) (fun _ => 0)) ?_
  rw [e1]
  unfold wY_init_97
  refine zz_br (W := fun z => wY_init_122 post x3 z 256 257 (nI C) 0 0 0 (fun _ => 0) (fun _ => 0) (fun _ => 0) (fun _ => 0) (fun _ => 0) (fun _ => 0) (fun _ => 0)) ?_
  rw [e2]
  unfold wY_init_122
  refine zz_br (W := fun z => ∃ n151 : Nat, wY_init_151 post 256 257 (nI C) (nI P) z 0 n151 0 (fun _ => 0) (fun _ => 0) (fun _ => 0) (fun _ => 0) (fun _ => 0) (fun _ => 0) (fun _ => 0)) ?_
  rw [e3]
  exact ⟨17, zy_init151 (N := 0) 16 0 _ _ rfl (fun j hj => absurd hj (by omega)) h⟩
theorem i_vc0 (k0 : Int32) (k1 : Int32) (k2 : Int32) : wpX_init (fun u => wpY_init (fun v => i_Rel 3 u v) k0 k1 k2) k0 k1 k2 := by
  obtain ⟨C, c1, c2, eC⟩ := zz_cl_in (x := k0) (lo := 2) (hi := 8) (a := 2) (b := 8) rfl rfl (by omega) (by omega)
  obtain ⟨P, p1, p2, eP⟩ := zz_cl_in (x := k1) (lo := 2) (hi := 8) (a := 2) (b := 8) rfl rfl (by omega) (by omega)
  obtain ⟨T, t1, t2, eT⟩ := zz_cl_in (x := k2) (lo := 1) (hi := 4) (a := 1) (b := 4) rfl rfl (by omega) (by omega)
  unfold wpX_init
  refine zx_clamp ?_
  rw [eC]
  refine zx_clamp ?_
  rw [eP]
  refine zx_clamp ?_
  rw [eT]
  refine nm_e ?_
  refine zx_setPending (N := 0) _ _ (by omega) ⟨25, zx_init184 (N := 0) 24 0 _ rfl (fun j hj => absurd hj (by omega)) ?_⟩
  intro lw' h1
  refine zy_init eC eP eT ?_
  intro yw' yc' h2
  exact zz_in (zz_I0 ⟨c1, c2⟩ ⟨p1, p2⟩ ⟨t1, t2⟩ h1 h2)
end
