section
/-! pure rows to paste: stores, nI and lN arithmetic, masks, shifts, narrowing, branches by naturals (pk_le, pk_lt, pk_eq), loops (lp1 .. lp16: the measure of the state; rp1 ..: recursion), negatives. Take what you need -/
theorem pk_us {f : Nat → Int32} {k : Nat} {x : Int32} : upd f k x k = x := if_pos rfl
theorem pk_un {f : Nat → Int32} {k j : Nat} {x : Int32} (h : j ≠ k) : upd f k x j = f j := if_neg h
theorem pk_uLs {f : Nat → Int64} {k : Nat} {x : Int64} : vp_updL f k x k = x := if_pos rfl
theorem pk_uLn {f : Nat → Int64} {k j : Nat} {x : Int64} (h : j ≠ k) : vp_updL f k x j = f j := if_neg h
theorem pk_sub {a b : Nat} (h : b ≤ a) : nI a - nI b = nI (a - b) := by
  obtain ⟨c, rfl⟩ : ∃ c, a = c + b := ⟨a - b, by omega⟩
  rw [← nI_add, Int32.add_sub_cancel, Nat.add_sub_cancel]
theorem pk_m1 (n : Nat) : nI (n + 1) + (-1) = nI n := by
  rw [← nI_1, Int32.add_assoc, show (1 : Int32) + (-1) = 0 from rfl, Int32.add_zero]
theorem pk_mul (a b : Nat) : nI a * nI b = nI (a * b) := (Int32.ofNat_mul a b).symm
theorem pk_div {a d : Nat} (ha : a < 2 ^ 31) (h0 : 0 < d) (hd : d < 2 ^ 31) : nI a / nI d = nI (a / d) := by
  apply Int32.toInt_inj.mp
  rw [lg_idiv_nonneg (by rw [nI_toInt ha]; omega) (by rw [nI_toInt hd]; omega), nI_toInt ha, nI_toInt hd, nI_toInt (Nat.lt_of_le_of_lt (Nat.div_le_self a d) ha)]
  first | rfl | exact (Int.natCast_ediv _ _).symm
theorem pk_rem {a d : Nat} (ha : a < 2 ^ 31) (h0 : 0 < d) (hd : d < 2 ^ 31) : nI a - nI a / nI d * nI d = nI (a % d) := by
  rw [pk_div ha h0 hd, pk_mul, pk_sub (Nat.div_mul_le_self a d)]
  exact congrArg nI (by have := Nat.div_add_mod' a d; omega)
theorem pk_sub_toInt {a b : Nat} (ha : a < 2 ^ 30) (hb : b < 2 ^ 30) : (nI a - nI b).toInt = (a : Int) - b := by
  rw [Int32.toInt_sub, nI_toInt (by omega), nI_toInt (by omega)]
  exact Int.bmod_eq_of_le (by omega) (by omega)
theorem pk_sneg {a b : Nat} (hb : b < 2 ^ 30) (h : a < b) : nI a - nI b < 0 := by
  rw [Int32.lt_iff_toInt_lt, pk_sub_toInt (by omega) hb, show (0 : Int32).toInt = 0 from by decide]
  omega
theorem pk_ix (x : Int32) {n : Nat} (hn : n < 2 ^ 31) : x < 0 ∨ nI n ≤ x ∨ ∃ j : Nat, j < n ∧ x = nI j := by
  by_cases h : x < 0
  · exact Or.inl h
  · obtain ⟨j, hj, rfl⟩ := nI_of h
    by_cases h2 : j < n
    · exact Or.inr (Or.inr ⟨j, h2, rfl⟩)
    · exact Or.inr (Or.inl (nI_le (by omega) hj))
theorem pk_le {x y : Int32} {A B : Prop} (a b : Nat) (f : a ≤ b → A) (g : b < a → B) (hx : x = nI a := by rfl) (hy : y = nI b := by rfl) (ha : a < 2 ^ 31 := by omega) (hb : b < 2 ^ 31 := by omega) : (x ≤ y → A) ∧ (¬ x ≤ y → B) := by
  subst hx hy
  rw [nI_leI ha hb]
  exact ⟨f, fun z => g (by omega)⟩
theorem pk_lt {x y : Int32} {A B : Prop} (a b : Nat) (f : a < b → A) (g : b ≤ a → B) (hx : x = nI a := by rfl) (hy : y = nI b := by rfl) (ha : a < 2 ^ 31 := by omega) (hb : b < 2 ^ 31 := by omega) : (x < y → A) ∧ (¬ x < y → B) := by
  subst hx hy
  rw [nI_ltI ha hb]
  exact ⟨f, fun z => g (by omega)⟩
theorem pk_eq {x y : Int32} {A B : Prop} (a b : Nat) (f : a = b → A) (g : a ≠ b → B) (hx : x = nI a := by rfl) (hy : y = nI b := by rfl) (ha : a < 2 ^ 31 := by omega) (hb : b < 2 ^ 31 := by omega) : (x = y → A) ∧ (¬ x = y → B) := by
  subst hx hy
  rw [nI_eq ha hb]
  exact ⟨f, g⟩
theorem pk_in {x : Int32} (n N : Nat) (h : n < N) (hx : x = nI n := by rfl) (hN : N < 2 ^ 31 := by omega) : vp_in x N := by
  subst hx
  exact vp_in_nI h hN
theorem pk_cl {x : Int32} (n : Nat) (hx : x = nI n := by rfl) (h : n < 2 ^ 31 := by omega) : x.toNatClampNeg = n := by
  subst hx
  exact nI_clamp h
theorem pk_tn {n : Nat} (h : n < 2 ^ 32) : (nI n).toBitVec.toNat = n := Nat.mod_eq_of_lt h
theorem pk_and (x : Int32) {m : Int32} (k : Nat) (hm : m.toBitVec.toNat = 2 ^ k - 1) : x &&& m = nI (x.toBitVec.toNat % 2 ^ k) := by
  apply Int32.toBitVec_inj.mp
  apply BitVec.eq_of_toNat_eq
  rw [Int32.toBitVec_and, BitVec.toNat_and, hm, Nat.and_two_pow_sub_one_eq_mod]
  show _ = (BitVec.ofNat 32 _).toNat
  rw [BitVec.toNat_ofNat]
  exact (Nat.mod_eq_of_lt (Nat.lt_of_le_of_lt (Nat.mod_le _ _) x.toBitVec.isLt)).symm
theorem pk_andN {n : Nat} (h : n < 2 ^ 32) {m : Int32} (k : Nat) (hm : m.toBitVec.toNat = 2 ^ k - 1) : nI n &&& m = nI (n % 2 ^ k) := by
  rw [pk_and _ k hm, pk_tn h]
theorem pk_andE (x : Int32) {m : Int32} (k : Nat) (hm : m.toBitVec.toNat = 2 ^ k - 1) : ∃ j : Nat, j < 2 ^ k ∧ x &&& m = nI j := ⟨_, Nat.mod_lt _ (Nat.two_pow_pos k), pk_and x k hm⟩
theorem pk_andIn (x : Int32) {m : Int32} (k : Nat) (hm : m.toBitVec.toNat = 2 ^ k - 1) (hk : k ≤ 30) : vp_in (x &&& m) (2 ^ k) := by
  obtain ⟨j, hj, e⟩ := pk_andE x k hm
  rw [e]
  exact vp_in_nI hj (Nat.lt_of_le_of_lt (Nat.pow_le_pow_right (by decide) hk) (by decide))
theorem pk_shl (a s : Int32) (k : Nat) (hs : (s.toBitVec.smod 32).toNat = k) : (a <<< s).toBitVec.toNat = a.toBitVec.toNat * 2 ^ k % 2 ^ 32 := by
  show (a.toBitVec <<< (s.toBitVec.smod 32).toNat).toNat = _
  rw [hs, BitVec.toNat_shiftLeft, Nat.shiftLeft_eq]
theorem pk_shlN {n : Nat} (s : Int32) (k : Nat) (hs : (s.toBitVec.smod 32).toNat = k) (h : n * 2 ^ k < 2 ^ 32) : nI n <<< s = nI (n * 2 ^ k) := by
  apply Int32.toBitVec_inj.mp
  apply BitVec.eq_of_toNat_eq
  have hn : n < 2 ^ 32 := Nat.lt_of_le_of_lt (Nat.le_mul_of_pos_right n (Nat.two_pow_pos k)) h
  rw [pk_shl _ _ k hs, pk_tn hn, pk_tn h, Nat.mod_eq_of_lt h]
theorem pk_shr (a s : Int32) (k : Nat) (hs : (s.toBitVec.smod 32).toNat = k) : (a >>> s).toInt = a.toInt >>> k := by
  show (a.toBitVec.sshiftRight (s.toBitVec.smod 32).toNat).toInt = _
  rw [hs, BitVec.toInt_sshiftRight]
  rfl
theorem pk_shrN {n : Nat} (h : n < 2 ^ 31) (s : Int32) (k : Nat) (hs : (s.toBitVec.smod 32).toNat = k) : nI n >>> s = nI (n / 2 ^ k) := by
  apply Int32.toInt_inj.mp
  have h2 : n / 2 ^ k ≤ n := Nat.div_le_self _ _
  rw [pk_shr _ _ k hs, nI_toInt h, nI_toInt (by omega), Int.shiftRight_eq_div_pow]
  rfl
theorem pk_ushr (x s : Int32) (k : Nat) (hs : ((s.toUInt32 &&& Int32.toUInt32 31).toBitVec % 32).toNat = k) : (x.toUInt32 >>> (s.toUInt32 &&& Int32.toUInt32 31)).toInt32.toBitVec.toNat = x.toBitVec.toNat / 2 ^ k := by
  have e : (x.toUInt32 >>> (s.toUInt32 &&& Int32.toUInt32 31)).toInt32.toBitVec = x.toBitVec >>> k := by
    rw [← hs]
    exact UInt32.toBitVec_shiftRight _ _
  rw [e, BitVec.toNat_ushiftRight, Nat.shiftRight_eq_div_pow]
theorem pk_ushrN {n : Nat} (hn : n < 2 ^ 32) (s : Int32) (k : Nat) (hs : ((s.toUInt32 &&& Int32.toUInt32 31).toBitVec % 32).toNat = k) : ((nI n).toUInt32 >>> (s.toUInt32 &&& Int32.toUInt32 31)).toInt32 = nI (n / 2 ^ k) := by
  apply Int32.toBitVec_inj.mp
  apply BitVec.eq_of_toNat_eq
  rw [pk_ushr _ s k hs, pk_tn hn, pk_tn (Nat.lt_of_le_of_lt (Nat.div_le_self _ _) hn)]
theorem pk_nb (z : Int32) : narrow .byte (.int z.toInt8.toInt32) = .int z.toInt8.toInt32 := congrArg Value.int (by simp)
theorem pk_ns (z : Int32) : narrow .short (.int z.toInt16.toInt32) = .int z.toInt16.toInt32 := congrArg Value.int (by simp)
theorem pk_fb (r : Int32) : fits .byte (.int r.toInt8.toInt32) = true := by
  have ⟨a, b⟩ := lg_i2b_range r
  have h1 : (-128 : Int32).toInt = -128 := by decide
  have h2 : (127 : Int32).toInt = 127 := by decide
  simp only [fits, Bool.and_eq_true, decide_eq_true_eq, Int32.le_iff_toInt_le, h1, h2]
  omega
theorem pk_fs (r : Int32) : fits .short (.int r.toInt16.toInt32) = true := by
  have ⟨a, b⟩ := lg_i2s_range r
  have h1 : (-32768 : Int32).toInt = -32768 := by decide
  have h2 : (32767 : Int32).toInt = 32767 := by decide
  simp only [fits, Bool.and_eq_true, decide_eq_true_eq, Int32.le_iff_toInt_le, h1, h2]
  omega
theorem pk_charN {q : Nat} (hq : q < 65536) : narrow .char (.int (nI q)) = .int (nI q) ∧ fits .char (.int (nI q)) = true := by
  constructor
  · have e : (nI q).toUInt32.toUInt16.toUInt32.toInt32 = nI q := by
      apply Int32.toBitVec_inj.mp
      apply BitVec.eq_of_toNat_eq
      show (nI q).toUInt32.toUInt16.toUInt32.toNat = q % 2 ^ 32
      rw [UInt16.toNat_toUInt32, UInt32.toNat_toUInt16, show (nI q).toUInt32.toNat = q % 2 ^ 32 from rfl]
      omega
    exact congrArg Value.int e
  · have a : (0 : Int32) ≤ nI q := nI_pos' (by omega)
    have b : nI q ≤ 65535 := nI_le (b := 65535) (by omega) (by decide)
    show (decide ((0 : Int32) ≤ nI q) && decide (nI q ≤ 65535)) = true
    rw [decide_eq_true a, decide_eq_true b]
    rfl
theorem pk_char (x : Int32) : (x.toUInt32 % 65536).toInt32 = nI (x.toBitVec.toNat % 65536) := by
  apply Int32.toBitVec_inj.mp
  apply BitVec.eq_of_toNat_eq
  rw [pk_tn (by omega)]
  show (x.toUInt32 % 65536).toNat = _
  rw [UInt32.toNat_mod]
  rfl
theorem pk_nc (x : Int32) : narrow .char (.int (x.toUInt32 % 65536).toInt32) = .int (x.toUInt32 % 65536).toInt32 := by
  rw [pk_char]
  exact (pk_charN (Nat.mod_lt _ (by decide))).1
theorem pk_fc (x : Int32) : fits .char (.int (x.toUInt32 % 65536).toInt32) = true := by
  rw [pk_char]
  exact (pk_charN (Nat.mod_lt _ (by decide))).2
theorem pk_vb (z : Int32) : vp_nar .byte z.toInt8.toInt32 = z.toInt8.toInt32 := by rw [vp_nar_byte]; simp
theorem pk_vs (z : Int32) : vp_nar .short z.toInt16.toInt32 = z.toInt16.toInt32 := by rw [vp_nar_short]; simp
theorem pk_vc (z : Int32) : vp_nar .char (z.toUInt32 % 65536).toInt32 = (z.toUInt32 % 65536).toInt32 := Value.int.inj (pk_nc z)
theorem pk_lT {n : Nat} (h : n < 2 ^ 63) : (lN n).toInt = (n : Int) := lg_ofNat_toInt h
theorem pk_lLT {a b : Nat} (ha : a < 2 ^ 63) (hb : b < 2 ^ 63) : lN a < lN b ↔ a < b := by
  rw [Int64.lt_iff_toInt_lt, pk_lT ha, pk_lT hb]; omega
theorem pk_lLE {a b : Nat} (ha : a < 2 ^ 63) (hb : b < 2 ^ 63) : lN a ≤ lN b ↔ a ≤ b := by
  rw [Int64.le_iff_toInt_le, pk_lT ha, pk_lT hb]; omega
theorem pk_lEQ {a b : Nat} (ha : a < 2 ^ 63) (hb : b < 2 ^ 63) : lN a = lN b ↔ a = b := by
  rw [← Int64.toInt_inj, pk_lT ha, pk_lT hb]; omega
theorem pk_lOf {x : Int64} (h : ¬ x < 0) : ∃ k : Nat, k < 2 ^ 63 ∧ x = lN k := by
  rw [Int64.lt_iff_toInt_lt] at h
  have h0 : (0 : Int64).toInt = 0 := by decide
  have hx := Int64.toInt_lt x
  refine ⟨x.toInt.toNat, by omega, Int64.toInt_inj.mp ?_⟩
  rw [pk_lT (by omega)]
  omega
theorem pk_lDiv {a b : Nat} (ha : a < 2 ^ 63) (h0 : 0 < b) (hb : b < 2 ^ 63) : lN a / lN b = lN (a / b) := by
  apply Int64.toInt_inj.mp
  rw [lg_ldiv_nonneg (by rw [pk_lT ha]; omega) (by rw [pk_lT hb]; omega), pk_lT ha, pk_lT hb, pk_lT (Nat.lt_of_le_of_lt (Nat.div_le_self a b) ha)]
  rfl
theorem pk_lRem {a b : Nat} (ha : a < 2 ^ 63) (h0 : 0 < b) (hb : b < 2 ^ 63) : lN a - lN a / lN b * lN b = lN (a % b) := by
  rw [pk_lDiv ha h0 hb, lN_mul, lN_sub (Nat.div_mul_le_self a b)]
  exact congrArg lN (by have := Nat.div_add_mod' a b; omega)
theorem pk_loop {σ : Type} (W : Nat → Nat → σ → Prop) (I : Nat → σ → Prop) (e i0 : Nat) (s : σ) (hi : i0 ≤ e) (h0 : I i0 s) (hx : ∀ n s, I e s → W (n + 1) e s)
    (hs : ∀ n i s, i < e → I i s → (∀ s', I (i + 1) s' → W n (i + 1) s') → W (n + 1) i s) : ∃ n, W n i0 s :=
  ⟨e + 1, loop_i W I e hx hs (e + 1) i0 s hi (by omega) h0⟩
theorem pk_loopD {σ : Type} (W : Nat → Nat → σ → Prop) (I : Nat → σ → Prop) (hx : ∀ n s, I 0 s → W (n + 1) 0 s)
    (hs : ∀ n i s, I (i + 1) s → (∀ s', I i s' → W n i s') → W (n + 1) (i + 1) s) : ∀ (e : Nat) (s : σ), I e s → W (e + 1) e s := by
  intro e
  induction e with
  | zero => exact fun s h => hx 0 s h
  | succ e ih => exact fun s h => hs (e + 1) e s h (fun s' h' => ih s' h')
theorem lp1 {A1 : Type} (W : Nat → A1 → Prop) (I : A1 → Prop) (μ : A1 → Nat) (hs : ∀ (n : Nat) (a1 : A1), I a1 → (∀ (b1 : A1), I b1 → μ b1 < μ a1 → W n b1) → W (n + 1) a1) (a1 : A1) (h : I a1) : ∃ n, W n a1 :=
  loop_m (σ := A1) (fun n s => W n s) (fun s => I s) (fun s => μ s) (fun n s hI hk => hs n s hI (fun b1 h9 hm => hk b1 h9 hm)) a1 h
theorem lp2 {A1 A2 : Type} (W : Nat → A1 → A2 → Prop) (I : A1 → A2 → Prop) (μ : A1 → A2 → Nat) (hs : ∀ (n : Nat) (a1 : A1) (a2 : A2), I a1 a2 → (∀ (b1 : A1) (b2 : A2), I b1 b2 → μ b1 b2 < μ a1 a2 → W n b1 b2) → W (n + 1) a1 a2) (a1 : A1) (a2 : A2) (h : I a1 a2) : ∃ n, W n a1 a2 :=
  loop_m (σ := A1 × A2) (fun n s => W n s.1 s.2) (fun s => I s.1 s.2) (fun s => μ s.1 s.2) (fun n s hI hk => hs n s.1 s.2 hI (fun b1 b2 h9 hm => hk (b1, b2) h9 hm)) (a1, a2) h
theorem lp3 {A1 A2 A3 : Type} (W : Nat → A1 → A2 → A3 → Prop) (I : A1 → A2 → A3 → Prop) (μ : A1 → A2 → A3 → Nat) (hs : ∀ (n : Nat) (a1 : A1) (a2 : A2) (a3 : A3), I a1 a2 a3 → (∀ (b1 : A1) (b2 : A2) (b3 : A3), I b1 b2 b3 → μ b1 b2 b3 < μ a1 a2 a3 → W n b1 b2 b3) → W (n + 1) a1 a2 a3) (a1 : A1) (a2 : A2) (a3 : A3) (h : I a1 a2 a3) : ∃ n, W n a1 a2 a3 :=
  loop_m (σ := A1 × A2 × A3) (fun n s => W n s.1 s.2.1 s.2.2) (fun s => I s.1 s.2.1 s.2.2) (fun s => μ s.1 s.2.1 s.2.2) (fun n s hI hk => hs n s.1 s.2.1 s.2.2 hI (fun b1 b2 b3 h9 hm => hk (b1, b2, b3) h9 hm)) (a1, a2, a3) h
theorem lp4 {A1 A2 A3 A4 : Type} (W : Nat → A1 → A2 → A3 → A4 → Prop) (I : A1 → A2 → A3 → A4 → Prop) (μ : A1 → A2 → A3 → A4 → Nat) (hs : ∀ (n : Nat) (a1 : A1) (a2 : A2) (a3 : A3) (a4 : A4), I a1 a2 a3 a4 → (∀ (b1 : A1) (b2 : A2) (b3 : A3) (b4 : A4), I b1 b2 b3 b4 → μ b1 b2 b3 b4 < μ a1 a2 a3 a4 → W n b1 b2 b3 b4) → W (n + 1) a1 a2 a3 a4) (a1 : A1) (a2 : A2) (a3 : A3) (a4 : A4) (h : I a1 a2 a3 a4) : ∃ n, W n a1 a2 a3 a4 :=
  loop_m (σ := A1 × A2 × A3 × A4) (fun n s => W n s.1 s.2.1 s.2.2.1 s.2.2.2) (fun s => I s.1 s.2.1 s.2.2.1 s.2.2.2) (fun s => μ s.1 s.2.1 s.2.2.1 s.2.2.2) (fun n s hI hk => hs n s.1 s.2.1 s.2.2.1 s.2.2.2 hI (fun b1 b2 b3 b4 h9 hm => hk (b1, b2, b3, b4) h9 hm)) (a1, a2, a3, a4) h
theorem lp5 {A1 A2 A3 A4 A5 : Type} (W : Nat → A1 → A2 → A3 → A4 → A5 → Prop) (I : A1 → A2 → A3 → A4 → A5 → Prop) (μ : A1 → A2 → A3 → A4 → A5 → Nat) (hs : ∀ (n : Nat) (a1 : A1) (a2 : A2) (a3 : A3) (a4 : A4) (a5 : A5), I a1 a2 a3 a4 a5 → (∀ (b1 : A1) (b2 : A2) (b3 : A3) (b4 : A4) (b5 : A5), I b1 b2 b3 b4 b5 → μ b1 b2 b3 b4 b5 < μ a1 a2 a3 a4 a5 → W n b1 b2 b3 b4 b5) → W (n + 1) a1 a2 a3 a4 a5) (a1 : A1) (a2 : A2) (a3 : A3) (a4 : A4) (a5 : A5) (h : I a1 a2 a3 a4 a5) : ∃ n, W n a1 a2 a3 a4 a5 :=
  loop_m (σ := A1 × A2 × A3 × A4 × A5) (fun n s => W n s.1 s.2.1 s.2.2.1 s.2.2.2.1 s.2.2.2.2) (fun s => I s.1 s.2.1 s.2.2.1 s.2.2.2.1 s.2.2.2.2) (fun s => μ s.1 s.2.1 s.2.2.1 s.2.2.2.1 s.2.2.2.2) (fun n s hI hk => hs n s.1 s.2.1 s.2.2.1 s.2.2.2.1 s.2.2.2.2 hI (fun b1 b2 b3 b4 b5 h9 hm => hk (b1, b2, b3, b4, b5) h9 hm)) (a1, a2, a3, a4, a5) h
theorem lp6 {A1 A2 A3 A4 A5 A6 : Type} (W : Nat → A1 → A2 → A3 → A4 → A5 → A6 → Prop) (I : A1 → A2 → A3 → A4 → A5 → A6 → Prop) (μ : A1 → A2 → A3 → A4 → A5 → A6 → Nat) (hs : ∀ (n : Nat) (a1 : A1) (a2 : A2) (a3 : A3) (a4 : A4) (a5 : A5) (a6 : A6), I a1 a2 a3 a4 a5 a6 → (∀ (b1 : A1) (b2 : A2) (b3 : A3) (b4 : A4) (b5 : A5) (b6 : A6), I b1 b2 b3 b4 b5 b6 → μ b1 b2 b3 b4 b5 b6 < μ a1 a2 a3 a4 a5 a6 → W n b1 b2 b3 b4 b5 b6) → W (n + 1) a1 a2 a3 a4 a5 a6) (a1 : A1) (a2 : A2) (a3 : A3) (a4 : A4) (a5 : A5) (a6 : A6) (h : I a1 a2 a3 a4 a5 a6) : ∃ n, W n a1 a2 a3 a4 a5 a6 :=
  loop_m (σ := A1 × A2 × A3 × A4 × A5 × A6) (fun n s => W n s.1 s.2.1 s.2.2.1 s.2.2.2.1 s.2.2.2.2.1 s.2.2.2.2.2) (fun s => I s.1 s.2.1 s.2.2.1 s.2.2.2.1 s.2.2.2.2.1 s.2.2.2.2.2) (fun s => μ s.1 s.2.1 s.2.2.1 s.2.2.2.1 s.2.2.2.2.1 s.2.2.2.2.2) (fun n s hI hk => hs n s.1 s.2.1 s.2.2.1 s.2.2.2.1 s.2.2.2.2.1 s.2.2.2.2.2 hI (fun b1 b2 b3 b4 b5 b6 h9 hm => hk (b1, b2, b3, b4, b5, b6) h9 hm)) (a1, a2, a3, a4, a5, a6) h
theorem lp7 {A1 A2 A3 A4 A5 A6 A7 : Type} (W : Nat → A1 → A2 → A3 → A4 → A5 → A6 → A7 → Prop) (I : A1 → A2 → A3 → A4 → A5 → A6 → A7 → Prop) (μ : A1 → A2 → A3 → A4 → A5 → A6 → A7 → Nat) (hs : ∀ (n : Nat) (a1 : A1) (a2 : A2) (a3 : A3) (a4 : A4) (a5 : A5) (a6 : A6) (a7 : A7), I a1 a2 a3 a4 a5 a6 a7 → (∀ (b1 : A1) (b2 : A2) (b3 : A3) (b4 : A4) (b5 : A5) (b6 : A6) (b7 : A7), I b1 b2 b3 b4 b5 b6 b7 → μ b1 b2 b3 b4 b5 b6 b7 < μ a1 a2 a3 a4 a5 a6 a7 → W n b1 b2 b3 b4 b5 b6 b7) → W (n + 1) a1 a2 a3 a4 a5 a6 a7) (a1 : A1) (a2 : A2) (a3 : A3) (a4 : A4) (a5 : A5) (a6 : A6) (a7 : A7) (h : I a1 a2 a3 a4 a5 a6 a7) : ∃ n, W n a1 a2 a3 a4 a5 a6 a7 :=
  loop_m (σ := A1 × A2 × A3 × A4 × A5 × A6 × A7) (fun n s => W n s.1 s.2.1 s.2.2.1 s.2.2.2.1 s.2.2.2.2.1 s.2.2.2.2.2.1 s.2.2.2.2.2.2) (fun s => I s.1 s.2.1 s.2.2.1 s.2.2.2.1 s.2.2.2.2.1 s.2.2.2.2.2.1 s.2.2.2.2.2.2) (fun s => μ s.1 s.2.1 s.2.2.1 s.2.2.2.1 s.2.2.2.2.1 s.2.2.2.2.2.1 s.2.2.2.2.2.2) (fun n s hI hk => hs n s.1 s.2.1 s.2.2.1 s.2.2.2.1 s.2.2.2.2.1 s.2.2.2.2.2.1 s.2.2.2.2.2.2 hI (fun b1 b2 b3 b4 b5 b6 b7 h9 hm => hk (b1, b2, b3, b4, b5, b6, b7) h9 hm)) (a1, a2, a3, a4, a5, a6, a7) h
theorem lp8 {A1 A2 A3 A4 A5 A6 A7 A8 : Type} (W : Nat → A1 → A2 → A3 → A4 → A5 → A6 → A7 → A8 → Prop) (I : A1 → A2 → A3 → A4 → A5 → A6 → A7 → A8 → Prop) (μ : A1 → A2 → A3 → A4 → A5 → A6 → A7 → A8 → Nat) (hs : ∀ (n : Nat) (a1 : A1) (a2 : A2) (a3 : A3) (a4 : A4) (a5 : A5) (a6 : A6) (a7 : A7) (a8 : A8), I a1 a2 a3 a4 a5 a6 a7 a8 → (∀ (b1 : A1) (b2 : A2) (b3 : A3) (b4 : A4) (b5 : A5) (b6 : A6) (b7 : A7) (b8 : A8), I b1 b2 b3 b4 b5 b6 b7 b8 → μ b1 b2 b3 b4 b5 b6 b7 b8 < μ a1 a2 a3 a4 a5 a6 a7 a8 → W n b1 b2 b3 b4 b5 b6 b7 b8) → W (n + 1) a1 a2 a3 a4 a5 a6 a7 a8) (a1 : A1) (a2 : A2) (a3 : A3) (a4 : A4) (a5 : A5) (a6 : A6) (a7 : A7) (a8 : A8) (h : I a1 a2 a3 a4 a5 a6 a7 a8) : ∃ n, W n a1 a2 a3 a4 a5 a6 a7 a8 :=
  loop_m (σ := A1 × A2 × A3 × A4 × A5 × A6 × A7 × A8) (fun n s => W n s.1 s.2.1 s.2.2.1 s.2.2.2.1 s.2.2.2.2.1 s.2.2.2.2.2.1 s.2.2.2.2.2.2.1 s.2.2.2.2.2.2.2) (fun s => I s.1 s.2.1 s.2.2.1 s.2.2.2.1 s.2.2.2.2.1 s.2.2.2.2.2.1 s.2.2.2.2.2.2.1 s.2.2.2.2.2.2.2) (fun s => μ s.1 s.2.1 s.2.2.1 s.2.2.2.1 s.2.2.2.2.1 s.2.2.2.2.2.1 s.2.2.2.2.2.2.1 s.2.2.2.2.2.2.2) (fun n s hI hk => hs n s.1 s.2.1 s.2.2.1 s.2.2.2.1 s.2.2.2.2.1 s.2.2.2.2.2.1 s.2.2.2.2.2.2.1 s.2.2.2.2.2.2.2 hI (fun b1 b2 b3 b4 b5 b6 b7 b8 h9 hm => hk (b1, b2, b3, b4, b5, b6, b7, b8) h9 hm)) (a1, a2, a3, a4, a5, a6, a7, a8) h
theorem lp9 {A1 A2 A3 A4 A5 A6 A7 A8 A9 : Type} (W : Nat → A1 → A2 → A3 → A4 → A5 → A6 → A7 → A8 → A9 → Prop) (I : A1 → A2 → A3 → A4 → A5 → A6 → A7 → A8 → A9 → Prop) (μ : A1 → A2 → A3 → A4 → A5 → A6 → A7 → A8 → A9 → Nat) (hs : ∀ (n : Nat) (a1 : A1) (a2 : A2) (a3 : A3) (a4 : A4) (a5 : A5) (a6 : A6) (a7 : A7) (a8 : A8) (a9 : A9), I a1 a2 a3 a4 a5 a6 a7 a8 a9 → (∀ (b1 : A1) (b2 : A2) (b3 : A3) (b4 : A4) (b5 : A5) (b6 : A6) (b7 : A7) (b8 : A8) (b9 : A9), I b1 b2 b3 b4 b5 b6 b7 b8 b9 → μ b1 b2 b3 b4 b5 b6 b7 b8 b9 < μ a1 a2 a3 a4 a5 a6 a7 a8 a9 → W n b1 b2 b3 b4 b5 b6 b7 b8 b9) → W (n + 1) a1 a2 a3 a4 a5 a6 a7 a8 a9) (a1 : A1) (a2 : A2) (a3 : A3) (a4 : A4) (a5 : A5) (a6 : A6) (a7 : A7) (a8 : A8) (a9 : A9) (h : I a1 a2 a3 a4 a5 a6 a7 a8 a9) : ∃ n, W n a1 a2 a3 a4 a5 a6 a7 a8 a9 :=
  loop_m (σ := A1 × A2 × A3 × A4 × A5 × A6 × A7 × A8 × A9) (fun n s => W n s.1 s.2.1 s.2.2.1 s.2.2.2.1 s.2.2.2.2.1 s.2.2.2.2.2.1 s.2.2.2.2.2.2.1 s.2.2.2.2.2.2.2.1 s.2.2.2.2.2.2.2.2) (fun s => I s.1 s.2.1 s.2.2.1 s.2.2.2.1 s.2.2.2.2.1 s.2.2.2.2.2.1 s.2.2.2.2.2.2.1 s.2.2.2.2.2.2.2.1 s.2.2.2.2.2.2.2.2) (fun s => μ s.1 s.2.1 s.2.2.1 s.2.2.2.1 s.2.2.2.2.1 s.2.2.2.2.2.1 s.2.2.2.2.2.2.1 s.2.2.2.2.2.2.2.1 s.2.2.2.2.2.2.2.2) (fun n s hI hk => hs n s.1 s.2.1 s.2.2.1 s.2.2.2.1 s.2.2.2.2.1 s.2.2.2.2.2.1 s.2.2.2.2.2.2.1 s.2.2.2.2.2.2.2.1 s.2.2.2.2.2.2.2.2 hI (fun b1 b2 b3 b4 b5 b6 b7 b8 b9 h9 hm => hk (b1, b2, b3, b4, b5, b6, b7, b8, b9) h9 hm)) (a1, a2, a3, a4, a5, a6, a7, a8, a9) h
theorem lp10 {A1 A2 A3 A4 A5 A6 A7 A8 A9 A10 : Type} (W : Nat → A1 → A2 → A3 → A4 → A5 → A6 → A7 → A8 → A9 → A10 → Prop) (I : A1 → A2 → A3 → A4 → A5 → A6 → A7 → A8 → A9 → A10 → Prop) (μ : A1 → A2 → A3 → A4 → A5 → A6 → A7 → A8 → A9 → A10 → Nat) (hs : ∀ (n : Nat) (a1 : A1) (a2 : A2) (a3 : A3) (a4 : A4) (a5 : A5) (a6 : A6) (a7 : A7) (a8 : A8) (a9 : A9) (a10 : A10), I a1 a2 a3 a4 a5 a6 a7 a8 a9 a10 → (∀ (b1 : A1) (b2 : A2) (b3 : A3) (b4 : A4) (b5 : A5) (b6 : A6) (b7 : A7) (b8 : A8) (b9 : A9) (b10 : A10), I b1 b2 b3 b4 b5 b6 b7 b8 b9 b10 → μ b1 b2 b3 b4 b5 b6 b7 b8 b9 b10 < μ a1 a2 a3 a4 a5 a6 a7 a8 a9 a10 → W n b1 b2 b3 b4 b5 b6 b7 b8 b9 b10) → W (n + 1) a1 a2 a3 a4 a5 a6 a7 a8 a9 a10) (a1 : A1) (a2 : A2) (a3 : A3) (a4 : A4) (a5 : A5) (a6 : A6) (a7 : A7) (a8 : A8) (a9 : A9) (a10 : A10) (h : I a1 a2 a3 a4 a5 a6 a7 a8 a9 a10) : ∃ n, W n a1 a2 a3 a4 a5 a6 a7 a8 a9 a10 :=
  loop_m (σ := A1 × A2 × A3 × A4 × A5 × A6 × A7 × A8 × A9 × A10) (fun n s => W n s.1 s.2.1 s.2.2.1 s.2.2.2.1 s.2.2.2.2.1 s.2.2.2.2.2.1 s.2.2.2.2.2.2.1 s.2.2.2.2.2.2.2.1 s.2.2.2.2.2.2.2.2.1 s.2.2.2.2.2.2.2.2.2) (fun s => I s.1 s.2.1 s.2.2.1 s.2.2.2.1 s.2.2.2.2.1 s.2.2.2.2.2.1 s.2.2.2.2.2.2.1 s.2.2.2.2.2.2.2.1 s.2.2.2.2.2.2.2.2.1 s.2.2.2.2.2.2.2.2.2) (fun s => μ s.1 s.2.1 s.2.2.1 s.2.2.2.1 s.2.2.2.2.1 s.2.2.2.2.2.1 s.2.2.2.2.2.2.1 s.2.2.2.2.2.2.2.1 s.2.2.2.2.2.2.2.2.1 s.2.2.2.2.2.2.2.2.2) (fun n s hI hk => hs n s.1 s.2.1 s.2.2.1 s.2.2.2.1 s.2.2.2.2.1 s.2.2.2.2.2.1 s.2.2.2.2.2.2.1 s.2.2.2.2.2.2.2.1 s.2.2.2.2.2.2.2.2.1 s.2.2.2.2.2.2.2.2.2 hI (fun b1 b2 b3 b4 b5 b6 b7 b8 b9 b10 h9 hm => hk (b1, b2, b3, b4, b5, b6, b7, b8, b9, b10) h9 hm)) (a1, a2, a3, a4, a5, a6, a7, a8, a9, a10) h
theorem lp11 {A1 A2 A3 A4 A5 A6 A7 A8 A9 A10 A11 : Type} (W : Nat → A1 → A2 → A3 → A4 → A5 → A6 → A7 → A8 → A9 → A10 → A11 → Prop) (I : A1 → A2 → A3 → A4 → A5 → A6 → A7 → A8 → A9 → A10 → A11 → Prop) (μ : A1 → A2 → A3 → A4 → A5 → A6 → A7 → A8 → A9 → A10 → A11 → Nat) (hs : ∀ (n : Nat) (a1 : A1) (a2 : A2) (a3 : A3) (a4 : A4) (a5 : A5) (a6 : A6) (a7 : A7) (a8 : A8) (a9 : A9) (a10 : A10) (a11 : A11), I a1 a2 a3 a4 a5 a6 a7 a8 a9 a10 a11 → (∀ (b1 : A1) (b2 : A2) (b3 : A3) (b4 : A4) (b5 : A5) (b6 : A6) (b7 : A7) (b8 : A8) (b9 : A9) (b10 : A10) (b11 : A11), I b1 b2 b3 b4 b5 b6 b7 b8 b9 b10 b11 → μ b1 b2 b3 b4 b5 b6 b7 b8 b9 b10 b11 < μ a1 a2 a3 a4 a5 a6 a7 a8 a9 a10 a11 → W n b1 b2 b3 b4 b5 b6 b7 b8 b9 b10 b11) → W (n + 1) a1 a2 a3 a4 a5 a6 a7 a8 a9 a10 a11) (a1 : A1) (a2 : A2) (a3 : A3) (a4 : A4) (a5 : A5) (a6 : A6) (a7 : A7) (a8 : A8) (a9 : A9) (a10 : A10) (a11 : A11) (h : I a1 a2 a3 a4 a5 a6 a7 a8 a9 a10 a11) : ∃ n, W n a1 a2 a3 a4 a5 a6 a7 a8 a9 a10 a11 :=
  loop_m (σ := A1 × A2 × A3 × A4 × A5 × A6 × A7 × A8 × A9 × A10 × A11) (fun n s => W n s.1 s.2.1 s.2.2.1 s.2.2.2.1 s.2.2.2.2.1 s.2.2.2.2.2.1 s.2.2.2.2.2.2.1 s.2.2.2.2.2.2.2.1 s.2.2.2.2.2.2.2.2.1 s.2.2.2.2.2.2.2.2.2.1 s.2.2.2.2.2.2.2.2.2.2) (fun s => I s.1 s.2.1 s.2.2.1 s.2.2.2.1 s.2.2.2.2.1 s.2.2.2.2.2.1 s.2.2.2.2.2.2.1 s.2.2.2.2.2.2.2.1 s.2.2.2.2.2.2.2.2.1 s.2.2.2.2.2.2.2.2.2.1 s.2.2.2.2.2.2.2.2.2.2) (fun s => μ s.1 s.2.1 s.2.2.1 s.2.2.2.1 s.2.2.2.2.1 s.2.2.2.2.2.1 s.2.2.2.2.2.2.1 s.2.2.2.2.2.2.2.1 s.2.2.2.2.2.2.2.2.1 s.2.2.2.2.2.2.2.2.2.1 s.2.2.2.2.2.2.2.2.2.2) (fun n s hI hk => hs n s.1 s.2.1 s.2.2.1 s.2.2.2.1 s.2.2.2.2.1 s.2.2.2.2.2.1 s.2.2.2.2.2.2.1 s.2.2.2.2.2.2.2.1 s.2.2.2.2.2.2.2.2.1 s.2.2.2.2.2.2.2.2.2.1 s.2.2.2.2.2.2.2.2.2.2 hI (fun b1 b2 b3 b4 b5 b6 b7 b8 b9 b10 b11 h9 hm => hk (b1, b2, b3, b4, b5, b6, b7, b8, b9, b10, b11) h9 hm)) (a1, a2, a3, a4, a5, a6, a7, a8, a9, a10, a11) h
theorem lp12 {A1 A2 A3 A4 A5 A6 A7 A8 A9 A10 A11 A12 : Type} (W : Nat → A1 → A2 → A3 → A4 → A5 → A6 → A7 → A8 → A9 → A10 → A11 → A12 → Prop) (I : A1 → A2 → A3 → A4 → A5 → A6 → A7 → A8 → A9 → A10 → A11 → A12 → Prop) (μ : A1 → A2 → A3 → A4 → A5 → A6 → A7 → A8 → A9 → A10 → A11 → A12 → Nat) (hs : ∀ (n : Nat) (a1 : A1) (a2 : A2) (a3 : A3) (a4 : A4) (a5 : A5) (a6 : A6) (a7 : A7) (a8 : A8) (a9 : A9) (a10 : A10) (a11 : A11) (a12 : A12), I a1 a2 a3 a4 a5 a6 a7 a8 a9 a10 a11 a12 → (∀ (b1 : A1) (b2 : A2) (b3 : A3) (b4 : A4) (b5 : A5) (b6 : A6) (b7 : A7) (b8 : A8) (b9 : A9) (b10 : A10) (b11 : A11) (b12 : A12), I b1 b2 b3 b4 b5 b6 b7 b8 b9 b10 b11 b12 → μ b1 b2 b3 b4 b5 b6 b7 b8 b9 b10 b11 b12 < μ a1 a2 a3 a4 a5 a6 a7 a8 a9 a10 a11 a12 → W n b1 b2 b3 b4 b5 b6 b7 b8 b9 b10 b11 b12) → W (n + 1) a1 a2 a3 a4 a5 a6 a7 a8 a9 a10 a11 a12) (a1 : A1) (a2 : A2) (a3 : A3) (a4 : A4) (a5 : A5) (a6 : A6) (a7 : A7) (a8 : A8) (a9 : A9) (a10 : A10) (a11 : A11) (a12 : A12) (h : I a1 a2 a3 a4 a5 a6 a7 a8 a9 a10 a11 a12) : ∃ n, W n a1 a2 a3 a4 a5 a6 a7 a8 a9 a10 a11 a12 :=
  loop_m (σ := A1 × A2 × A3 × A4 × A5 × A6 × A7 × A8 × A9 × A10 × A11 × A12) (fun n s => W n s.1 s.2.1 s.2.2.1 s.2.2.2.1 s.2.2.2.2.1 s.2.2.2.2.2.1 s.2.2.2.2.2.2.1 s.2.2.2.2.2.2.2.1 s.2.2.2.2.2.2.2.2.1 s.2.2.2.2.2.2.2.2.2.1 s.2.2.2.2.2.2.2.2.2.2.1 s.2.2.2.2.2.2.2.2.2.2.2) (fun s => I s.1 s.2.1 s.2.2.1 s.2.2.2.1 s.2.2.2.2.1 s.2.2.2.2.2.1 s.2.2.2.2.2.2.1 s.2.2.2.2.2.2.2.1 s.2.2.2.2.2.2.2.2.1 s.2.2.2.2.2.2.2.2.2.1 s.2.2.2.2.2.2.2.2.2.2.1 s.2.2.2.2.2.2.2.2.2.2.2) (fun s => μ s.1 s.2.1 s.2.2.1 s.2.2.2.1 s.2.2.2.2.1 s.2.2.2.2.2.1 s.2.2.2.2.2.2.1 s.2.2.2.2.2.2.2.1 s.2.2.2.2.2.2.2.2.1 s.2.2.2.2.2.2.2.2.2.1 s.2.2.2.2.2.2.2.2.2.2.1 s.2.2.2.2.2.2.2.2.2.2.2) (fun n s hI hk => hs n s.1 s.2.1 s.2.2.1 s.2.2.2.1 s.2.2.2.2.1 s.2.2.2.2.2.1 s.2.2.2.2.2.2.1 s.2.2.2.2.2.2.2.1 s.2.2.2.2.2.2.2.2.1 s.2.2.2.2.2.2.2.2.2.1 s.2.2.2.2.2.2.2.2.2.2.1 s.2.2.2.2.2.2.2.2.2.2.2 hI (fun b1 b2 b3 b4 b5 b6 b7 b8 b9 b10 b11 b12 h9 hm => hk (b1, b2, b3, b4, b5, b6, b7, b8, b9, b10, b11, b12) h9 hm)) (a1, a2, a3, a4, a5, a6, a7, a8, a9, a10, a11, a12) h
theorem lp13 {A1 A2 A3 A4 A5 A6 A7 A8 A9 A10 A11 A12 A13 : Type} (W : Nat → A1 → A2 → A3 → A4 → A5 → A6 → A7 → A8 → A9 → A10 → A11 → A12 → A13 → Prop) (I : A1 → A2 → A3 → A4 → A5 → A6 → A7 → A8 → A9 → A10 → A11 → A12 → A13 → Prop) (μ : A1 → A2 → A3 → A4 → A5 → A6 → A7 → A8 → A9 → A10 → A11 → A12 → A13 → Nat) (hs : ∀ (n : Nat) (a1 : A1) (a2 : A2) (a3 : A3) (a4 : A4) (a5 : A5) (a6 : A6) (a7 : A7) (a8 : A8) (a9 : A9) (a10 : A10) (a11 : A11) (a12 : A12) (a13 : A13), I a1 a2 a3 a4 a5 a6 a7 a8 a9 a10 a11 a12 a13 → (∀ (b1 : A1) (b2 : A2) (b3 : A3) (b4 : A4) (b5 : A5) (b6 : A6) (b7 : A7) (b8 : A8) (b9 : A9) (b10 : A10) (b11 : A11) (b12 : A12) (b13 : A13), I b1 b2 b3 b4 b5 b6 b7 b8 b9 b10 b11 b12 b13 → μ b1 b2 b3 b4 b5 b6 b7 b8 b9 b10 b11 b12 b13 < μ a1 a2 a3 a4 a5 a6 a7 a8 a9 a10 a11 a12 a13 → W n b1 b2 b3 b4 b5 b6 b7 b8 b9 b10 b11 b12 b13) → W (n + 1) a1 a2 a3 a4 a5 a6 a7 a8 a9 a10 a11 a12 a13) (a1 : A1) (a2 : A2) (a3 : A3) (a4 : A4) (a5 : A5) (a6 : A6) (a7 : A7) (a8 : A8) (a9 : A9) (a10 : A10) (a11 : A11) (a12 : A12) (a13 : A13) (h : I a1 a2 a3 a4 a5 a6 a7 a8 a9 a10 a11 a12 a13) : ∃ n, W n a1 a2 a3 a4 a5 a6 a7 a8 a9 a10 a11 a12 a13 :=
  loop_m (σ := A1 × A2 × A3 × A4 × A5 × A6 × A7 × A8 × A9 × A10 × A11 × A12 × A13) (fun n s => W n s.1 s.2.1 s.2.2.1 s.2.2.2.1 s.2.2.2.2.1 s.2.2.2.2.2.1 s.2.2.2.2.2.2.1 s.2.2.2.2.2.2.2.1 s.2.2.2.2.2.2.2.2.1 s.2.2.2.2.2.2.2.2.2.1 s.2.2.2.2.2.2.2.2.2.2.1 s.2.2.2.2.2.2.2.2.2.2.2.1 s.2.2.2.2.2.2.2.2.2.2.2.2) (fun s => I s.1 s.2.1 s.2.2.1 s.2.2.2.1 s.2.2.2.2.1 s.2.2.2.2.2.1 s.2.2.2.2.2.2.1 s.2.2.2.2.2.2.2.1 s.2.2.2.2.2.2.2.2.1 s.2.2.2.2.2.2.2.2.2.1 s.2.2.2.2.2.2.2.2.2.2.1 s.2.2.2.2.2.2.2.2.2.2.2.1 s.2.2.2.2.2.2.2.2.2.2.2.2) (fun s => μ s.1 s.2.1 s.2.2.1 s.2.2.2.1 s.2.2.2.2.1 s.2.2.2.2.2.1 s.2.2.2.2.2.2.1 s.2.2.2.2.2.2.2.1 s.2.2.2.2.2.2.2.2.1 s.2.2.2.2.2.2.2.2.2.1 s.2.2.2.2.2.2.2.2.2.2.1 s.2.2.2.2.2.2.2.2.2.2.2.1 s.2.2.2.2.2.2.2.2.2.2.2.2) (fun n s hI hk => hs n s.1 s.2.1 s.2.2.1 s.2.2.2.1 s.2.2.2.2.1 s.2.2.2.2.2.1 s.2.2.2.2.2.2.1 s.2.2.2.2.2.2.2.1 s.2.2.2.2.2.2.2.2.1 s.2.2.2.2.2.2.2.2.2.1 s.2.2.2.2.2.2.2.2.2.2.1 s.2.2.2.2.2.2.2.2.2.2.2.1 s.2.2.2.2.2.2.2.2.2.2.2.2 hI (fun b1 b2 b3 b4 b5 b6 b7 b8 b9 b10 b11 b12 b13 h9 hm => hk (b1, b2, b3, b4, b5, b6, b7, b8, b9, b10, b11, b12, b13) h9 hm)) (a1, a2, a3, a4, a5, a6, a7, a8, a9, a10, a11, a12, a13) h
theorem lp14 {A1 A2 A3 A4 A5 A6 A7 A8 A9 A10 A11 A12 A13 A14 : Type} (W : Nat → A1 → A2 → A3 → A4 → A5 → A6 → A7 → A8 → A9 → A10 → A11 → A12 → A13 → A14 → Prop) (I : A1 → A2 → A3 → A4 → A5 → A6 → A7 → A8 → A9 → A10 → A11 → A12 → A13 → A14 → Prop) (μ : A1 → A2 → A3 → A4 → A5 → A6 → A7 → A8 → A9 → A10 → A11 → A12 → A13 → A14 → Nat) (hs : ∀ (n : Nat) (a1 : A1) (a2 : A2) (a3 : A3) (a4 : A4) (a5 : A5) (a6 : A6) (a7 : A7) (a8 : A8) (a9 : A9) (a10 : A10) (a11 : A11) (a12 : A12) (a13 : A13) (a14 : A14), I a1 a2 a3 a4 a5 a6 a7 a8 a9 a10 a11 a12 a13 a14 → (∀ (b1 : A1) (b2 : A2) (b3 : A3) (b4 : A4) (b5 : A5) (b6 : A6) (b7 : A7) (b8 : A8) (b9 : A9) (b10 : A10) (b11 : A11) (b12 : A12) (b13 : A13) (b14 : A14), I b1 b2 b3 b4 b5 b6 b7 b8 b9 b10 b11 b12 b13 b14 → μ b1 b2 b3 b4 b5 b6 b7 b8 b9 b10 b11 b12 b13 b14 < μ a1 a2 a3 a4 a5 a6 a7 a8 a9 a10 a11 a12 a13 a14 → W n b1 b2 b3 b4 b5 b6 b7 b8 b9 b10 b11 b12 b13 b14) → W (n + 1) a1 a2 a3 a4 a5 a6 a7 a8 a9 a10 a11 a12 a13 a14) (a1 : A1) (a2 : A2) (a3 : A3) (a4 : A4) (a5 : A5) (a6 : A6) (a7 : A7) (a8 : A8) (a9 : A9) (a10 : A10) (a11 : A11) (a12 : A12) (a13 : A13) (a14 : A14) (h : I a1 a2 a3 a4 a5 a6 a7 a8 a9 a10 a11 a12 a13 a14) : ∃ n, W n a1 a2 a3 a4 a5 a6 a7 a8 a9 a10 a11 a12 a13 a14 :=
  loop_m (σ := A1 × A2 × A3 × A4 × A5 × A6 × A7 × A8 × A9 × A10 × A11 × A12 × A13 × A14) (fun n s => W n s.1 s.2.1 s.2.2.1 s.2.2.2.1 s.2.2.2.2.1 s.2.2.2.2.2.1 s.2.2.2.2.2.2.1 s.2.2.2.2.2.2.2.1 s.2.2.2.2.2.2.2.2.1 s.2.2.2.2.2.2.2.2.2.1 s.2.2.2.2.2.2.2.2.2.2.1 s.2.2.2.2.2.2.2.2.2.2.2.1 s.2.2.2.2.2.2.2.2.2.2.2.2.1 s.2.2.2.2.2.2.2.2.2.2.2.2.2) (fun s => I s.1 s.2.1 s.2.2.1 s.2.2.2.1 s.2.2.2.2.1 s.2.2.2.2.2.1 s.2.2.2.2.2.2.1 s.2.2.2.2.2.2.2.1 s.2.2.2.2.2.2.2.2.1 s.2.2.2.2.2.2.2.2.2.1 s.2.2.2.2.2.2.2.2.2.2.1 s.2.2.2.2.2.2.2.2.2.2.2.1 s.2.2.2.2.2.2.2.2.2.2.2.2.1 s.2.2.2.2.2.2.2.2.2.2.2.2.2) (fun s => μ s.1 s.2.1 s.2.2.1 s.2.2.2.1 s.2.2.2.2.1 s.2.2.2.2.2.1 s.2.2.2.2.2.2.1 s.2.2.2.2.2.2.2.1 s.2.2.2.2.2.2.2.2.1 s.2.2.2.2.2.2.2.2.2.1 s.2.2.2.2.2.2.2.2.2.2.1 s.2.2.2.2.2.2.2.2.2.2.2.1 s.2.2.2.2.2.2.2.2.2.2.2.2.1 s.2.2.2.2.2.2.2.2.2.2.2.2.2) (fun n s hI hk => hs n s.1 s.2.1 s.2.2.1 s.2.2.2.1 s.2.2.2.2.1 s.2.2.2.2.2.1 s.2.2.2.2.2.2.1 s.2.2.2.2.2.2.2.1 s.2.2.2.2.2.2.2.2.1 s.2.2.2.2.2.2.2.2.2.1 s.2.2.2.2.2.2.2.2.2.2.1 s.2.2.2.2.2.2.2.2.2.2.2.1 s.2.2.2.2.2.2.2.2.2.2.2.2.1 s.2.2.2.2.2.2.2.2.2.2.2.2.2 hI (fun b1 b2 b3 b4 b5 b6 b7 b8 b9 b10 b11 b12 b13 b14 h9 hm => hk (b1, b2, b3, b4, b5, b6, b7, b8, b9, b10, b11, b12, b13, b14) h9 hm)) (a1, a2, a3, a4, a5, a6, a7, a8, a9, a10, a11, a12, a13, a14) h
theorem lp15 {A1 A2 A3 A4 A5 A6 A7 A8 A9 A10 A11 A12 A13 A14 A15 : Type} (W : Nat → A1 → A2 → A3 → A4 → A5 → A6 → A7 → A8 → A9 → A10 → A11 → A12 → A13 → A14 → A15 → Prop) (I : A1 → A2 → A3 → A4 → A5 → A6 → A7 → A8 → A9 → A10 → A11 → A12 → A13 → A14 → A15 → Prop) (μ : A1 → A2 → A3 → A4 → A5 → A6 → A7 → A8 → A9 → A10 → A11 → A12 → A13 → A14 → A15 → Nat) (hs : ∀ (n : Nat) (a1 : A1) (a2 : A2) (a3 : A3) (a4 : A4) (a5 : A5) (a6 : A6) (a7 : A7) (a8 : A8) (a9 : A9) (a10 : A10) (a11 : A11) (a12 : A12) (a13 : A13) (a14 : A14) (a15 : A15), I a1 a2 a3 a4 a5 a6 a7 a8 a9 a10 a11 a12 a13 a14 a15 → (∀ (b1 : A1) (b2 : A2) (b3 : A3) (b4 : A4) (b5 : A5) (b6 : A6) (b7 : A7) (b8 : A8) (b9 : A9) (b10 : A10) (b11 : A11) (b12 : A12) (b13 : A13) (b14 : A14) (b15 : A15), I b1 b2 b3 b4 b5 b6 b7 b8 b9 b10 b11 b12 b13 b14 b15 → μ b1 b2 b3 b4 b5 b6 b7 b8 b9 b10 b11 b12 b13 b14 b15 < μ a1 a2 a3 a4 a5 a6 a7 a8 a9 a10 a11 a12 a13 a14 a15 → W n b1 b2 b3 b4 b5 b6 b7 b8 b9 b10 b11 b12 b13 b14 b15) → W (n + 1) a1 a2 a3 a4 a5 a6 a7 a8 a9 a10 a11 a12 a13 a14 a15) (a1 : A1) (a2 : A2) (a3 : A3) (a4 : A4) (a5 : A5) (a6 : A6) (a7 : A7) (a8 : A8) (a9 : A9) (a10 : A10) (a11 : A11) (a12 : A12) (a13 : A13) (a14 : A14) (a15 : A15) (h : I a1 a2 a3 a4 a5 a6 a7 a8 a9 a10 a11 a12 a13 a14 a15) : ∃ n, W n a1 a2 a3 a4 a5 a6 a7 a8 a9 a10 a11 a12 a13 a14 a15 :=
  loop_m (σ := A1 × A2 × A3 × A4 × A5 × A6 × A7 × A8 × A9 × A10 × A11 × A12 × A13 × A14 × A15) (fun n s => W n s.1 s.2.1 s.2.2.1 s.2.2.2.1 s.2.2.2.2.1 s.2.2.2.2.2.1 s.2.2.2.2.2.2.1 s.2.2.2.2.2.2.2.1 s.2.2.2.2.2.2.2.2.1 s.2.2.2.2.2.2.2.2.2.1 s.2.2.2.2.2.2.2.2.2.2.1 s.2.2.2.2.2.2.2.2.2.2.2.1 s.2.2.2.2.2.2.2.2.2.2.2.2.1 s.2.2.2.2.2.2.2.2.2.2.2.2.2.1 s.2.2.2.2.2.2.2.2.2.2.2.2.2.2) (fun s => I s.1 s.2.1 s.2.2.1 s.2.2.2.1 s.2.2.2.2.1 s.2.2.2.2.2.1 s.2.2.2.2.2.2.1 s.2.2.2.2.2.2.2.1 s.2.2.2.2.2.2.2.2.1 s.2.2.2.2.2.2.2.2.2.1 s.2.2.2.2.2.2.2.2.2.2.1 s.2.2.2.2.2.2.2.2.2.2.2.1 s.2.2.2.2.2.2.2.2.2.2.2.2.1 s.2.2.2.2.2.2.2.2.2.2.2.2.2.1 s.2.2.2.2.2.2.2.2.2.2.2.2.2.2) (fun s => μ s.1 s.2.1 s.2.2.1 s.2.2.2.1 s.2.2.2.2.1 s.2.2.2.2.2.1 s.2.2.2.2.2.2.1 s.2.2.2.2.2.2.2.1 s.2.2.2.2.2.2.2.2.1 s.2.2.2.2.2.2.2.2.2.1 s.2.2.2.2.2.2.2.2.2.2.1 s.2.2.2.2.2.2.2.2.2.2.2.1 s.2.2.2.2.2.2.2.2.2.2.2.2.1 s.2.2.2.2.2.2.2.2.2.2.2.2.2.1 s.2.2.2.2.2.2.2.2.2.2.2.2.2.2) (fun n s hI hk => hs n s.1 s.2.1 s.2.2.1 s.2.2.2.1 s.2.2.2.2.1 s.2.2.2.2.2.1 s.2.2.2.2.2.2.1 s.2.2.2.2.2.2.2.1 s.2.2.2.2.2.2.2.2.1 s.2.2.2.2.2.2.2.2.2.1 s.2.2.2.2.2.2.2.2.2.2.1 s.2.2.2.2.2.2.2.2.2.2.2.1 s.2.2.2.2.2.2.2.2.2.2.2.2.1 s.2.2.2.2.2.2.2.2.2.2.2.2.2.1 s.2.2.2.2.2.2.2.2.2.2.2.2.2.2 hI (fun b1 b2 b3 b4 b5 b6 b7 b8 b9 b10 b11 b12 b13 b14 b15 h9 hm => hk (b1, b2, b3, b4, b5, b6, b7, b8, b9, b10, b11, b12, b13, b14, b15) h9 hm)) (a1, a2, a3, a4, a5, a6, a7, a8, a9, a10, a11, a12, a13, a14, a15) h
theorem lp16 {A1 A2 A3 A4 A5 A6 A7 A8 A9 A10 A11 A12 A13 A14 A15 A16 : Type} (W : Nat → A1 → A2 → A3 → A4 → A5 → A6 → A7 → A8 → A9 → A10 → A11 → A12 → A13 → A14 → A15 → A16 → Prop) (I : A1 → A2 → A3 → A4 → A5 → A6 → A7 → A8 → A9 → A10 → A11 → A12 → A13 → A14 → A15 → A16 → Prop) (μ : A1 → A2 → A3 → A4 → A5 → A6 → A7 → A8 → A9 → A10 → A11 → A12 → A13 → A14 → A15 → A16 → Nat) (hs : ∀ (n : Nat) (a1 : A1) (a2 : A2) (a3 : A3) (a4 : A4) (a5 : A5) (a6 : A6) (a7 : A7) (a8 : A8) (a9 : A9) (a10 : A10) (a11 : A11) (a12 : A12) (a13 : A13) (a14 : A14) (a15 : A15) (a16 : A16), I a1 a2 a3 a4 a5 a6 a7 a8 a9 a10 a11 a12 a13 a14 a15 a16 → (∀ (b1 : A1) (b2 : A2) (b3 : A3) (b4 : A4) (b5 : A5) (b6 : A6) (b7 : A7) (b8 : A8) (b9 : A9) (b10 : A10) (b11 : A11) (b12 : A12) (b13 : A13) (b14 : A14) (b15 : A15) (b16 : A16), I b1 b2 b3 b4 b5 b6 b7 b8 b9 b10 b11 b12 b13 b14 b15 b16 → μ b1 b2 b3 b4 b5 b6 b7 b8 b9 b10 b11 b12 b13 b14 b15 b16 < μ a1 a2 a3 a4 a5 a6 a7 a8 a9 a10 a11 a12 a13 a14 a15 a16 → W n b1 b2 b3 b4 b5 b6 b7 b8 b9 b10 b11 b12 b13 b14 b15 b16) → W (n + 1) a1 a2 a3 a4 a5 a6 a7 a8 a9 a10 a11 a12 a13 a14 a15 a16) (a1 : A1) (a2 : A2) (a3 : A3) (a4 : A4) (a5 : A5) (a6 : A6) (a7 : A7) (a8 : A8) (a9 : A9) (a10 : A10) (a11 : A11) (a12 : A12) (a13 : A13) (a14 : A14) (a15 : A15) (a16 : A16) (h : I a1 a2 a3 a4 a5 a6 a7 a8 a9 a10 a11 a12 a13 a14 a15 a16) : ∃ n, W n a1 a2 a3 a4 a5 a6 a7 a8 a9 a10 a11 a12 a13 a14 a15 a16 :=
  loop_m (σ := A1 × A2 × A3 × A4 × A5 × A6 × A7 × A8 × A9 × A10 × A11 × A12 × A13 × A14 × A15 × A16) (fun n s => W n s.1 s.2.1 s.2.2.1 s.2.2.2.1 s.2.2.2.2.1 s.2.2.2.2.2.1 s.2.2.2.2.2.2.1 s.2.2.2.2.2.2.2.1 s.2.2.2.2.2.2.2.2.1 s.2.2.2.2.2.2.2.2.2.1 s.2.2.2.2.2.2.2.2.2.2.1 s.2.2.2.2.2.2.2.2.2.2.2.1 s.2.2.2.2.2.2.2.2.2.2.2.2.1 s.2.2.2.2.2.2.2.2.2.2.2.2.2.1 s.2.2.2.2.2.2.2.2.2.2.2.2.2.2.1 s.2.2.2.2.2.2.2.2.2.2.2.2.2.2.2) (fun s => I s.1 s.2.1 s.2.2.1 s.2.2.2.1 s.2.2.2.2.1 s.2.2.2.2.2.1 s.2.2.2.2.2.2.1 s.2.2.2.2.2.2.2.1 s.2.2.2.2.2.2.2.2.1 s.2.2.2.2.2.2.2.2.2.1 s.2.2.2.2.2.2.2.2.2.2.1 s.2.2.2.2.2.2.2.2.2.2.2.1 s.2.2.2.2.2.2.2.2.2.2.2.2.1 s.2.2.2.2.2.2.2.2.2.2.2.2.2.1 s.2.2.2.2.2.2.2.2.2.2.2.2.2.2.1 s.2.2.2.2.2.2.2.2.2.2.2.2.2.2.2) (fun s => μ s.1 s.2.1 s.2.2.1 s.2.2.2.1 s.2.2.2.2.1 s.2.2.2.2.2.1 s.2.2.2.2.2.2.1 s.2.2.2.2.2.2.2.1 s.2.2.2.2.2.2.2.2.1 s.2.2.2.2.2.2.2.2.2.1 s.2.2.2.2.2.2.2.2.2.2.1 s.2.2.2.2.2.2.2.2.2.2.2.1 s.2.2.2.2.2.2.2.2.2.2.2.2.1 s.2.2.2.2.2.2.2.2.2.2.2.2.2.1 s.2.2.2.2.2.2.2.2.2.2.2.2.2.2.1 s.2.2.2.2.2.2.2.2.2.2.2.2.2.2.2) (fun n s hI hk => hs n s.1 s.2.1 s.2.2.1 s.2.2.2.1 s.2.2.2.2.1 s.2.2.2.2.2.1 s.2.2.2.2.2.2.1 s.2.2.2.2.2.2.2.1 s.2.2.2.2.2.2.2.2.1 s.2.2.2.2.2.2.2.2.2.1 s.2.2.2.2.2.2.2.2.2.2.1 s.2.2.2.2.2.2.2.2.2.2.2.1 s.2.2.2.2.2.2.2.2.2.2.2.2.1 s.2.2.2.2.2.2.2.2.2.2.2.2.2.1 s.2.2.2.2.2.2.2.2.2.2.2.2.2.2.1 s.2.2.2.2.2.2.2.2.2.2.2.2.2.2.2 hI (fun b1 b2 b3 b4 b5 b6 b7 b8 b9 b10 b11 b12 b13 b14 b15 b16 h9 hm => hk (b1, b2, b3, b4, b5, b6, b7, b8, b9, b10, b11, b12, b13, b14, b15, b16) h9 hm)) (a1, a2, a3, a4, a5, a6, a7, a8, a9, a10, a11, a12, a13, a14, a15, a16) h
theorem pk_least (P : Nat → Prop) (h : ∃ k, P k) : ∃ k, P k ∧ ∀ j, j < k → ¬ P j := by
  obtain ⟨k, hk⟩ := h
  induction k using Nat.strongRecOn with
  | ind k ih =>
    by_cases e : ∃ j, j < k ∧ P j
    · obtain ⟨j, hj, pj⟩ := e
      exact ih j hj pj
    · exact ⟨k, hk, fun j hj pj => e ⟨j, hj, pj⟩⟩
theorem rp1 {ρ A1 : Type} (W : Nat → (ρ → Prop) → A1 → Prop) (ok : A1 → Prop) (μ : A1 → Nat) (val : A1 → ρ)
    (hs : ∀ (d : Nat) (post : ρ → Prop) (a1 : A1), ok a1 → post (val a1) → (∀ (post' : ρ → Prop) (b1 : A1), ok b1 → μ b1 < μ a1 → post' (val b1) → W d post' b1) → W (d + 1) post a1) :
    ∀ (d : Nat) (post : ρ → Prop) (a1 : A1), ok a1 → μ a1 < d → post (val a1) → W d post a1 := by
  intro d
  induction d with
  | zero => intro post a1 _ h; omega
  | succ d ih =>
    intro post a1 ho hm hp
    exact hs d post a1 ho hp (fun post' b1 ho' hm' hp' => ih post' b1 ho' (by omega) hp')
theorem rp2 {ρ A1 A2 : Type} (W : Nat → (ρ → Prop) → A1 → A2 → Prop) (ok : A1 → A2 → Prop) (μ : A1 → A2 → Nat) (val : A1 → A2 → ρ)
    (hs : ∀ (d : Nat) (post : ρ → Prop) (a1 : A1) (a2 : A2), ok a1 a2 → post (val a1 a2) → (∀ (post' : ρ → Prop) (b1 : A1) (b2 : A2), ok b1 b2 → μ b1 b2 < μ a1 a2 → post' (val b1 b2) → W d post' b1 b2) → W (d + 1) post a1 a2) :
    ∀ (d : Nat) (post : ρ → Prop) (a1 : A1) (a2 : A2), ok a1 a2 → μ a1 a2 < d → post (val a1 a2) → W d post a1 a2 := by
  intro d
  induction d with
  | zero => intro post a1 a2 _ h; omega
  | succ d ih =>
    intro post a1 a2 ho hm hp
    exact hs d post a1 a2 ho hp (fun post' b1 b2 ho' hm' hp' => ih post' b1 b2 ho' (by omega) hp')
theorem rp3 {ρ A1 A2 A3 : Type} (W : Nat → (ρ → Prop) → A1 → A2 → A3 → Prop) (ok : A1 → A2 → A3 → Prop) (μ : A1 → A2 → A3 → Nat) (val : A1 → A2 → A3 → ρ)
    (hs : ∀ (d : Nat) (post : ρ → Prop) (a1 : A1) (a2 : A2) (a3 : A3), ok a1 a2 a3 → post (val a1 a2 a3) → (∀ (post' : ρ → Prop) (b1 : A1) (b2 : A2) (b3 : A3), ok b1 b2 b3 → μ b1 b2 b3 < μ a1 a2 a3 → post' (val b1 b2 b3) → W d post' b1 b2 b3) → W (d + 1) post a1 a2 a3) :
    ∀ (d : Nat) (post : ρ → Prop) (a1 : A1) (a2 : A2) (a3 : A3), ok a1 a2 a3 → μ a1 a2 a3 < d → post (val a1 a2 a3) → W d post a1 a2 a3 := by
  intro d
  induction d with
  | zero => intro post a1 a2 a3 _ h; omega
  | succ d ih =>
    intro post a1 a2 a3 ho hm hp
    exact hs d post a1 a2 a3 ho hp (fun post' b1 b2 b3 ho' hm' hp' => ih post' b1 b2 b3 ho' (by omega) hp')
theorem rp4 {ρ A1 A2 A3 A4 : Type} (W : Nat → (ρ → Prop) → A1 → A2 → A3 → A4 → Prop) (ok : A1 → A2 → A3 → A4 → Prop) (μ : A1 → A2 → A3 → A4 → Nat) (val : A1 → A2 → A3 → A4 → ρ)
    (hs : ∀ (d : Nat) (post : ρ → Prop) (a1 : A1) (a2 : A2) (a3 : A3) (a4 : A4), ok a1 a2 a3 a4 → post (val a1 a2 a3 a4) → (∀ (post' : ρ → Prop) (b1 : A1) (b2 : A2) (b3 : A3) (b4 : A4), ok b1 b2 b3 b4 → μ b1 b2 b3 b4 < μ a1 a2 a3 a4 → post' (val b1 b2 b3 b4) → W d post' b1 b2 b3 b4) → W (d + 1) post a1 a2 a3 a4) :
    ∀ (d : Nat) (post : ρ → Prop) (a1 : A1) (a2 : A2) (a3 : A3) (a4 : A4), ok a1 a2 a3 a4 → μ a1 a2 a3 a4 < d → post (val a1 a2 a3 a4) → W d post a1 a2 a3 a4 := by
  intro d
  induction d with
  | zero => intro post a1 a2 a3 a4 _ h; omega
  | succ d ih =>
    intro post a1 a2 a3 a4 ho hm hp
    exact hs d post a1 a2 a3 a4 ho hp (fun post' b1 b2 b3 b4 ho' hm' hp' => ih post' b1 b2 b3 b4 ho' (by omega) hp')
theorem rp5 {ρ A1 A2 A3 A4 A5 : Type} (W : Nat → (ρ → Prop) → A1 → A2 → A3 → A4 → A5 → Prop) (ok : A1 → A2 → A3 → A4 → A5 → Prop) (μ : A1 → A2 → A3 → A4 → A5 → Nat) (val : A1 → A2 → A3 → A4 → A5 → ρ)
    (hs : ∀ (d : Nat) (post : ρ → Prop) (a1 : A1) (a2 : A2) (a3 : A3) (a4 : A4) (a5 : A5), ok a1 a2 a3 a4 a5 → post (val a1 a2 a3 a4 a5) → (∀ (post' : ρ → Prop) (b1 : A1) (b2 : A2) (b3 : A3) (b4 : A4) (b5 : A5), ok b1 b2 b3 b4 b5 → μ b1 b2 b3 b4 b5 < μ a1 a2 a3 a4 a5 → post' (val b1 b2 b3 b4 b5) → W d post' b1 b2 b3 b4 b5) → W (d + 1) post a1 a2 a3 a4 a5) :
    ∀ (d : Nat) (post : ρ → Prop) (a1 : A1) (a2 : A2) (a3 : A3) (a4 : A4) (a5 : A5), ok a1 a2 a3 a4 a5 → μ a1 a2 a3 a4 a5 < d → post (val a1 a2 a3 a4 a5) → W d post a1 a2 a3 a4 a5 := by
  intro d
  induction d with
  | zero => intro post a1 a2 a3 a4 a5 _ h; omega
  | succ d ih =>
    intro post a1 a2 a3 a4 a5 ho hm hp
    exact hs d post a1 a2 a3 a4 a5 ho hp (fun post' b1 b2 b3 b4 b5 ho' hm' hp' => ih post' b1 b2 b3 b4 b5 ho' (by omega) hp')
theorem rp6 {ρ A1 A2 A3 A4 A5 A6 : Type} (W : Nat → (ρ → Prop) → A1 → A2 → A3 → A4 → A5 → A6 → Prop) (ok : A1 → A2 → A3 → A4 → A5 → A6 → Prop) (μ : A1 → A2 → A3 → A4 → A5 → A6 → Nat) (val : A1 → A2 → A3 → A4 → A5 → A6 → ρ)
    (hs : ∀ (d : Nat) (post : ρ → Prop) (a1 : A1) (a2 : A2) (a3 : A3) (a4 : A4) (a5 : A5) (a6 : A6), ok a1 a2 a3 a4 a5 a6 → post (val a1 a2 a3 a4 a5 a6) → (∀ (post' : ρ → Prop) (b1 : A1) (b2 : A2) (b3 : A3) (b4 : A4) (b5 : A5) (b6 : A6), ok b1 b2 b3 b4 b5 b6 → μ b1 b2 b3 b4 b5 b6 < μ a1 a2 a3 a4 a5 a6 → post' (val b1 b2 b3 b4 b5 b6) → W d post' b1 b2 b3 b4 b5 b6) → W (d + 1) post a1 a2 a3 a4 a5 a6) :
    ∀ (d : Nat) (post : ρ → Prop) (a1 : A1) (a2 : A2) (a3 : A3) (a4 : A4) (a5 : A5) (a6 : A6), ok a1 a2 a3 a4 a5 a6 → μ a1 a2 a3 a4 a5 a6 < d → post (val a1 a2 a3 a4 a5 a6) → W d post a1 a2 a3 a4 a5 a6 := by
  intro d
  induction d with
  | zero => intro post a1 a2 a3 a4 a5 a6 _ h; omega
  | succ d ih =>
    intro post a1 a2 a3 a4 a5 a6 ho hm hp
    exact hs d post a1 a2 a3 a4 a5 a6 ho hp (fun post' b1 b2 b3 b4 b5 b6 ho' hm' hp' => ih post' b1 b2 b3 b4 b5 b6 ho' (by omega) hp')
theorem rec_p {σ ρ : Type} (W : Nat → (ρ → Prop) → σ → Prop) (ok : σ → Prop) (μ : σ → Nat) (val : σ → ρ)
    (hs : ∀ d s post, ok s → post (val s) → (∀ s' post', ok s' → μ s' < μ s → post' (val s') → W d post' s') → W (d + 1) post s) :
    ∀ d s post, ok s → μ s < d → post (val s) → W d post s := by
  intro d
  induction d with
  | zero => intro s post _ h; omega
  | succ d ih =>
    intro s post ho hm hp
    exact hs d s post ho hp (fun s' post' ho' hm' hp' => ih s' post' ho' (by omega) hp')
theorem rec_q {σ ρ : Type} (W : Nat → (ρ → Prop) → σ → Prop) (ok : σ → Prop) (μ : σ → Nat) (Q : σ → ρ → Prop)
    (hs : ∀ d s post, ok s → (∀ r, Q s r → post r) → (∀ s' post', ok s' → μ s' < μ s → (∀ r, Q s' r → post' r) → W d post' s') → W (d + 1) post s) :
    ∀ d s post, ok s → μ s < d → (∀ r, Q s r → post r) → W d post s := by
  intro d
  induction d with
  | zero => intro s post _ h; omega
  | succ d ih =>
    intro s post ho hm hp
    exact hs d s post ho hp (fun s' post' ho' hm' hp' => ih s' post' ho' (by omega) hp')
def bx_sum (f : Nat → Int32) : Nat → Int32
  | 0 => 0
  | n + 1 => bx_sum f n + f n
theorem ek_u {A : Prop} {B : Nat → Prop} {k N : Nat} (hk : k < N) (h : B k) : (some k = none → A) ∧ (∀ y : Nat, some k = some y → (y < N ∧ B y)) :=
  ⟨fun z => absurd z (Option.some_ne_none k), fun _ e => (by cases e; exact ⟨hk, h⟩)⟩
theorem ek_nu {A : Prop} {B : Nat → Prop} (h : A) : ((none : Option Nat) = none → A) ∧ (∀ y : Nat, (none : Option Nat) = some y → B y) :=
  ⟨fun _ => h, fun _ e => (by cases e)⟩
theorem ek_if {c d A B : Prop} (e : c ↔ d) (f : d → A) (g : ¬ d → B) : (c → A) ∧ (¬ c → B) :=
  ⟨fun z => f (e.mp z), fun z => g (fun y => z (e.mpr y))⟩
theorem ek_v {α : Sort _} {P : α → Prop} {a b : α} (e : a = b) (h : P b) : P a := e ▸ h
theorem co_some {x : Option Nat} {A : Prop} {B : Nat → Prop} (i : Nat) (h : B i) (hx : x = some i := by rfl) : (x = none → A) ∧ (∀ y : Nat, x = some y → B y) := by
  subst hx
  exact ⟨fun e => (nomatch e), fun y e => Option.some.inj e ▸ h⟩
theorem co_none {x : Option Nat} {A : Prop} {B : Nat → Prop} (h : A) (hx : x = none := by rfl) : (x = none → A) ∧ (∀ y : Nat, x = some y → B y) := by
  subst hx
  exact ⟨fun _ => h, fun y e => (nomatch e)⟩
theorem co_any {x : Option Nat} {A : Prop} {B : Nat → Prop} (hn : x = none → A) (hs : ∀ i : Nat, x = some i → B i) : (x = none → A) ∧ (∀ y : Nat, x = some y → B y) := ⟨hn, hs⟩
theorem co_2 {P : Nat → Prop} (h0 : P 0) (h1 : P 1) {i : Nat} (hi : i < 2) : P i :=
  match i, hi with
  | 0, _ => h0
  | 1, _ => h1
theorem co_3 {P : Nat → Prop} (h0 : P 0) (h1 : P 1) (h2 : P 2) {i : Nat} (hi : i < 3) : P i :=
  match i, hi with
  | 0, _ => h0
  | 1, _ => h1
  | 2, _ => h2
theorem co_4 {P : Nat → Prop} (h0 : P 0) (h1 : P 1) (h2 : P 2) (h3 : P 3) {i : Nat} (hi : i < 4) : P i :=
  match i, hi with
  | 0, _ => h0
  | 1, _ => h1
  | 2, _ => h2
  | 3, _ => h3
theorem co_dec {N : Nat} {P : Nat → Prop} [DecidablePred P] (h : (List.range N).all (fun i => decide (P i)) = true) {i : Nat} (hi : i < N) : P i := by
  have := List.all_eq_true.mp h i (List.mem_range.mpr hi)
  exact of_decide_eq_true this
theorem co_tab {α : Type} {l : List α} {d : α} {P : α → Prop} (h : ∀ a, a ∈ l → P a) {i : Nat} (hi : i < l.length) : P (l.getD i d) := by
  rw [List.getD_eq_getElem?_getD, List.getElem?_eq_getElem hi]
  exact h _ (List.getElem_mem hi)
theorem pk_mu {x : Int32} {L : Nat} (h0 : ¬ x < 0) (h : ¬ nI L ≤ x) (hL : L < 2 ^ 31) : ∃ j : Nat, j < L ∧ x = nI j ∧ x + 1 = nI (j + 1) ∧ x.toNatClampNeg = j ∧ L - (x + 1).toNatClampNeg < L - x.toNatClampNeg := by
  obtain ⟨j, hj, rfl⟩ := nI_of h0
  have hl : j < L := Nat.not_le.mp fun q => h (nI_le q hj)
  refine ⟨j, hl, rfl, nI_1 j, nI_clamp hj, ?_⟩
  rw [nI_1, nI_clamp (by omega), nI_clamp hj]
  omega
theorem op_s {α : Type} {r : Option α} {A : Prop} {B : α → Prop} {y : α} (h : r = some y) (b : B y) : (r = none → A) ∧ ∀ z, r = some z → B z :=
  ⟨fun e => (by rw [h] at e; cases e), fun z e => (by rw [h] at e; cases e; exact b)⟩
def l_holds {α : Type} (a : Nat → Option Nat) (LP : List Nat) (p : Nat → α) (c : Nat) (b : Nat → α) : Prop :=
  ∀ j, j < c → ∃ y, a j = some y ∧ y ∈ LP ∧ p y = b j
theorem l_holds_0 {α : Type} {a : Nat → Option Nat} {LP : List Nat} {p b : Nat → α} : l_holds a LP p 0 b := fun j h => absurd h (Nat.not_lt_zero j)
theorem l_in_new (LP : List Nat) (q : Nat) : q ∈ LP ++ [q] := List.mem_append.mpr (Or.inr (List.mem_singleton.mpr rfl))
def l_sum (b : Nat → Int32) : Nat → Int32
  | 0 => 0
  | k + 1 => l_sum b k + b k
theorem sb_shr0 (x : Int32) : x >>> ((0 : Int32) &&& 31) = x := by
  rw [show ((0 : Int32) &&& 31) = 0 by decide]
  simp
theorem sb_shl0 (x : Int32) : x <<< ((0 : Int32) &&& 31) = x := by
  rw [show ((0 : Int32) &&& 31) = 0 by decide]
  simp
theorem sb_cl0 : (0 : Int32).toNatClampNeg = 0 := by decide
theorem sb_m1 {p : Nat} (h : 0 < p) : nI p + (-1) = nI (p - 1) := by
  obtain ⟨q, rfl⟩ : ∃ q, p = q + 1 := ⟨p - 1, by omega⟩
  exact pk_m1 q
def sb_b (c : Nat) : Int32 := (nI c).toInt8.toInt32
theorem sb_byte : ∀ c, c < 256 → sb_b c &&& 255 = nI c ∧ ((nI c).toUInt32 % 65536).toInt32 = nI c ∧ nI c ≤ 255 := by decide +kernel
def sb_Fit (a : Nat → Int32) : Prop := ∀ j, fits .byte (.int (a j)) = true
def sb_Lat (t : Nat → Nat) (n : Nat) (a : Nat → Int32) : Prop := ∀ j, j < n → t j < 256 ∧ a j = sb_b (t j)
theorem sb_fitB (c : Nat) : fits .byte (.int (sb_b c)) = true := pk_fb _
theorem sb_fit0 : sb_Fit (fun _ => 0) := fun _ => by
  show fits .byte (.int 0) = true
  decide
theorem sb_fitU {a : Nat → Int32} {k : Nat} {x : Int32} (h : sb_Fit a) (hx : fits .byte (.int x) = true) : sb_Fit (upd a k x) := by
  intro j
  by_cases e : j = k
  · subst e
    rw [pk_us]
    exact hx
  · rw [pk_un e]
    exact h j
def sb_cat (t : Nat → Nat) (n : Nat) (s : Nat → Nat) : Nat → Nat := fun j => if j < n then t j else s (j - n)
theorem sb_cat_lo {t s : Nat → Nat} {n j : Nat} (h : j < n) : sb_cat t n s j = t j := if_pos h
theorem sb_cat_hi {t s : Nat → Nat} {n j : Nat} : sb_cat t n s (n + j) = s j := by
  show (if n + j < n then t (n + j) else s (n + j - n)) = s j
  rw [if_neg (by omega), Nat.add_sub_cancel_left]
theorem sb_latPut {t s : Nat → Nat} {n w : Nat} {a a' : Nat → Int32} (h : sb_Lat t n a) (hk : ∀ j, j < n → a' j = a j) (hs : ∀ i, i < w → s i < 256 ∧ a' (n + i) = sb_b (s i)) : sb_Lat (sb_cat t n s) (n + w) a' := by
  intro j hj
  by_cases e : j < n
  · rw [sb_cat_lo e, hk j e]
    exact h j e
  · obtain ⟨i, rfl⟩ : ∃ i, j = n + i := ⟨j - n, by omega⟩
    rw [sb_cat_hi]
    exact hs i (by omega)
theorem sb_latKeep {t : Nat → Nat} {n : Nat} {a a' : Nat → Int32} (h : sb_Lat t n a) (hk : ∀ j, j < n → a' j = a j) : sb_Lat t n a' := fun j hj => by
  rw [hk j hj]
  exact h j hj
def sb_cap (q m : Nat) : Nat := if q ≤ m then m else if 2 * m + 2 < q then q else 2 * m + 2
def sb_Room (q m mc ms : Nat) : Prop := q ≤ m ∨ (1 ≤ mc ∧ sb_cap q m ≤ ms ∧ sb_cap q m ≤ 65536)
theorem sb_cap_ge (q m : Nat) : q ≤ sb_cap q m := by
  unfold sb_cap
  split
  · omega
  · split <;> omega
theorem sb_cap_gem (q m : Nat) : m ≤ sb_cap q m := by
  unfold sb_cap
  split
  · omega
  · split <;> omega
theorem sb_cap_le {q m mc ms : Nat} (hm : m ≤ 65536) (hr : sb_Room q m mc ms) : sb_cap q m ≤ 65536 := by
  rcases hr with h | h
  · rw [sb_cap, if_pos h]
    exact hm
  · exact h.2.2
theorem sb_at {P : Int32 → Prop} {x y : Int32} (e : x = y) (h : P y) : P x := e ▸ h
def sb_dg (w : Nat) : Nat := if w < 10 then 1 else if w < 100 then 2 else if w < 1000 then 3 else if w < 10000 then 4 else if w < 100000 then 5 else if w < 1000000 then 6 else if w < 10000000 then 7 else if w < 100000000 then 8 else if w < 1000000000 then 9 else 10
def sb_dec (v : Nat) : Nat → Nat := fun i => 48 + v / 10 ^ (sb_dg v - 1 - i) % 10
theorem sb_dg_in (w : Nat) : 1 ≤ sb_dg w ∧ sb_dg w ≤ 10 := by
  unfold sb_dg
  constructor <;> (repeat' split) <;> omega
theorem sb_dg100 {w : Nat} (h : 100 ≤ w) (hw : w < 2 ^ 31) : sb_dg w = sb_dg (w / 100) + 2 := by
  rw [sb_dg, sb_dg, if_neg (show ¬ w < 10 by omega), if_neg (show ¬ w < 100 by omega)]
  by_cases h3 : w < 1000
  · rw [if_pos h3, if_pos (show w / 100 < 10 by omega)]
  rw [if_neg h3, if_neg (show ¬ w / 100 < 10 by omega)]
  by_cases h4 : w < 10000
  · rw [if_pos h4, if_pos (show w / 100 < 100 by omega)]
  rw [if_neg h4, if_neg (show ¬ w / 100 < 100 by omega)]
  by_cases h5 : w < 100000
  · rw [if_pos h5, if_pos (show w / 100 < 1000 by omega)]
  rw [if_neg h5, if_neg (show ¬ w / 100 < 1000 by omega)]
  by_cases h6 : w < 1000000
  · rw [if_pos h6, if_pos (show w / 100 < 10000 by omega)]
  rw [if_neg h6, if_neg (show ¬ w / 100 < 10000 by omega)]
  by_cases h7 : w < 10000000
  · rw [if_pos h7, if_pos (show w / 100 < 100000 by omega)]
  rw [if_neg h7, if_neg (show ¬ w / 100 < 100000 by omega)]
  by_cases h8 : w < 100000000
  · rw [if_pos h8, if_pos (show w / 100 < 1000000 by omega)]
  rw [if_neg h8, if_neg (show ¬ w / 100 < 1000000 by omega)]
  by_cases h9 : w < 1000000000
  · rw [if_pos h9, if_pos (show w / 100 < 10000000 by omega)]
  rw [if_neg h9, if_neg (show ¬ w / 100 < 10000000 by omega)]
  rw [if_pos (show w / 100 < 100000000 by omega)]
theorem sb_negT {w : Nat} (h : w < 2 ^ 31) : (-nI w).toInt = -(w : Int) := by
  rw [Int32.toInt_neg, nI_toInt h]
  exact Int.bmod_eq_of_le (by omega) (by omega)
theorem sb_nle {a b : Nat} (ha : a < 2 ^ 31) (hb : b < 2 ^ 31) : -nI a ≤ -nI b ↔ b ≤ a := by
  rw [Int32.le_iff_toInt_le, sb_negT ha, sb_negT hb]
  omega
theorem sb_nlt {a b : Nat} (ha : a < 2 ^ 31) (hb : b < 2 ^ 31) : -nI a < -nI b ↔ b < a := by
  rw [Int32.lt_iff_toInt_lt, sb_negT ha, sb_negT hb]
  omega
theorem sb_cmp {A B : Prop} {x : Int32} (v c : Nat) (f : c ≤ v → A) (g : v < c → B) (hv : v < 2 ^ 31) (hx : x = -nI c := by rfl) (hc : c < 2 ^ 31 := by omega) : (-nI v ≤ x → A) ∧ (¬ -nI v ≤ x → B) := by
  subst hx
  rw [sb_nle hv hc]
  exact ⟨f, fun z => g (by omega)⟩
theorem sb_ndiv {w : Nat} (hw : w < 2 ^ 31) : (-nI w) / 100 = -nI (w / 100) := by
  apply Int32.toInt_inj.mp
  have h100 : (100 : Int32).toInt = 100 := by decide
  rw [Int32.toInt_div, sb_negT hw, h100, sb_negT (by omega), Int.neg_tdiv, Int.tdiv_eq_ediv_of_nonneg (by omega), Int.bmod_eq_of_le (by omega) (by omega)]
  omega
theorem sb_nrem {w : Nat} (hw : w < 2 ^ 31) : (-nI (w / 100)) * 100 - (-nI w) = nI (w % 100) := by
  have h := pk_rem (a := w) (d := 100) hw (by decide) (by decide)
  rw [pk_div hw (by decide) (by decide)] at h
  rw [← h]
  show (-nI (w / 100)) * nI 100 - (-nI w) = nI w - nI (w / 100) * nI 100
  rw [Int32.neg_mul, Int32.sub_neg, Int32.add_comm, ← Int32.sub_eq_add_neg]
/-! ===== Int32 by its bits: bt x i ===== -/
def bt (x : Int32) (i : Nat) : Bool := x.toBitVec.getLsbD i
theorem b_ext {x y : Int32} (h : ∀ i, i < 32 → bt x i = bt y i) : x = y := Int32.toBitVec_inj.mp (BitVec.eq_of_getLsbD_eq (fun i hi => h i hi))
theorem b_or (x y : Int32) (i : Nat) : bt (x ||| y) i = (bt x i || bt y i) := by unfold bt; rw [Int32.toBitVec_or, BitVec.getLsbD_or]
theorem b_and (x y : Int32) (i : Nat) : bt (x &&& y) i = (bt x i && bt y i) := by unfold bt; rw [Int32.toBitVec_and, BitVec.getLsbD_and]
theorem b_xor (x y : Int32) (i : Nat) : bt (x ^^^ y) i = (bt x i ^^ bt y i) := by unfold bt; rw [Int32.toBitVec_xor, BitVec.getLsbD_xor]
theorem b_big {x : Int32} {i : Nat} (h : 32 ≤ i) : bt x i = false := BitVec.getLsbD_of_ge _ _ h
theorem b_255 (i : Nat) : bt 255 i = decide (i < 8) := by
  rcases Nat.lt_or_ge i 32 with h | h
  · exact (by decide +kernel : ∀ i, i < 32 → bt 255 i = decide (i < 8)) i h
  · rw [b_big h, decide_eq_false (by omega)]
theorem b_65535 (i : Nat) : bt 65535 i = decide (i < 16) := by
  rcases Nat.lt_or_ge i 32 with h | h
  · exact (by decide +kernel : ∀ i, i < 32 → bt 65535 i = decide (i < 16)) i h
  · rw [b_big h, decide_eq_false (by omega)]
theorem b_m1 : ∀ i, i < 32 → bt (-1) i = true := by decide +kernel
theorem b_0 (i : Nat) : bt 0 i = false := BitVec.getLsbD_zero
theorem s_l : ∀ n, n < 32 → ((nI n &&& 31).toBitVec.smod 32).toNat = n := by decide +kernel
theorem s_u : ∀ n, n < 32 → (((nI n).toUInt32 &&& Int32.toUInt32 31).toBitVec % 32).toNat = n := by decide +kernel
theorem b_shl (n : Nat) (hn : n < 32) (x : Int32) {i : Nat} (hi : i < 32) : bt (x <<< (nI n &&& 31)) i = (decide (n ≤ i) && bt x (i - n)) := by
  unfold bt
  rw [Int32.toBitVec_shiftLeft]
  show (x.toBitVec <<< ((nI n &&& 31).toBitVec.smod 32).toNat).getLsbD i = _
  rw [s_l n hn, BitVec.getLsbD_shiftLeft]
  rcases Nat.lt_or_ge i n with h | h
  · simp [h, Nat.not_le.mpr h]
  · simp [hi, h, Nat.not_lt.mpr h]
theorem b_ushr (n : Nat) (hn : n < 32) (x : Int32) (i : Nat) : bt ((x.toUInt32 >>> ((nI n).toUInt32 &&& Int32.toUInt32 31)).toInt32) i = bt x (n + i) := by
  show (x.toUInt32 >>> ((nI n).toUInt32 &&& Int32.toUInt32 31)).toBitVec.getLsbD i = x.toUInt32.toBitVec.getLsbD (n + i)
  rw [UInt32.toBitVec_shiftRight]
  show (x.toUInt32.toBitVec >>> (((nI n).toUInt32 &&& Int32.toUInt32 31).toBitVec % 32).toNat).getLsbD i = _
  rw [s_u n hn, BitVec.getLsbD_ushiftRight]
theorem b_sshr (n : Nat) (hn : n < 32) (x : Int32) {i : Nat} (hi : i < 32) : bt (x >>> (nI n &&& 31)) i = if n + i < 32 then bt x (n + i) else bt x 31 := by
  unfold bt
  rw [Int32.toBitVec_shiftRight]
  show (x.toBitVec.sshiftRight ((nI n &&& 31).toBitVec.smod 32).toNat).getLsbD i = _
  rw [s_l n hn, BitVec.getLsbD_sshiftRight, BitVec.msb_eq_getLsbD_last]
  simp [hi]
theorem b_shl8 (x : Int32) {i : Nat} (hi : i < 32) : bt (x <<< ((8 : Int32) &&& 31)) i = (decide (8 ≤ i) && bt x (i - 8)) := b_shl 8 (by omega) x hi
theorem b_shl16 (x : Int32) {i : Nat} (hi : i < 32) : bt (x <<< ((16 : Int32) &&& 31)) i = (decide (16 ≤ i) && bt x (i - 16)) := b_shl 16 (by omega) x hi
theorem b_shl24 (x : Int32) {i : Nat} (hi : i < 32) : bt (x <<< ((24 : Int32) &&& 31)) i = (decide (24 ≤ i) && bt x (i - 24)) := b_shl 24 (by omega) x hi
theorem b_sshr8 (x : Int32) {i : Nat} (hi : i < 32) : bt (x >>> ((8 : Int32) &&& 31)) i = if 8 + i < 32 then bt x (8 + i) else bt x 31 := b_sshr 8 (by omega) x hi
end
section
/-! counting below n -/
def zc_i (b : Bool) : Nat := if b = true then 1 else 0
theorem zc_it : zc_i true = 1 := rfl
theorem zc_if : zc_i false = 0 := rfl
def zc_n (p : Nat → Bool) : Nat → Nat
  | 0 => 0
  | n + 1 => zc_n p n + zc_i (p n)
theorem zc_s (p : Nat → Bool) (n : Nat) : zc_n p (n + 1) = zc_n p n + zc_i (p n) := rfl
theorem zc_le {p q : Nat → Bool} {n : Nat} (h : ∀ i, i < n → p i = true → q i = true) : zc_n p n ≤ zc_n q n := by
  induction n with
  | zero => exact Nat.le_refl _
  | succ n ih =>
    have h1 := ih (fun i hi => h i (by omega))
    have h2 : zc_i (p n) ≤ zc_i (q n) := by
      have h3 := h n (by omega)
      cases hp : p n
      · rw [zc_if]; omega
      · rw [h3 hp]; omega
    rw [zc_s, zc_s]; omega
theorem zc_bd (p : Nat → Bool) (n : Nat) : zc_n p n ≤ n := by
  induction n with
  | zero => exact Nat.le_refl _
  | succ n ih =>
    rw [zc_s]
    cases hp : p n
    · rw [zc_if]; omega
    · rw [zc_it]; omega
theorem zc_21 {a b c : Nat → Bool} {n : Nat} (h : ∀ i, i < n → zc_i (a i) = zc_i (b i) + zc_i (c i)) : zc_n a n = zc_n b n + zc_n c n := by
  induction n with
  | zero => rfl
  | succ n ih =>
    have h1 := ih (fun i hi => h i (by omega))
    have h2 := h n (by omega)
    rw [zc_s, zc_s, zc_s]; omega
theorem zc_31 {a b c d : Nat → Bool} {n : Nat} (h : ∀ i, i < n → zc_i (a i) = zc_i (b i) + zc_i (c i) + zc_i (d i)) : zc_n a n = zc_n b n + zc_n c n + zc_n d n := by
  induction n with
  | zero => rfl
  | succ n ih =>
    have h1 := ih (fun i hi => h i (by omega))
    have h2 := h n (by omega)
    rw [zc_s, zc_s, zc_s, zc_s]; omega
theorem zc_22 {a b c d : Nat → Bool} {n : Nat} (h : ∀ i, i < n → zc_i (a i) + zc_i (b i) = zc_i (c i) + zc_i (d i)) : zc_n a n + zc_n b n = zc_n c n + zc_n d n := by
  induction n with
  | zero => rfl
  | succ n ih =>
    have h1 := ih (fun i hi => h i (by omega))
    have h2 := h n (by omega)
    rw [zc_s, zc_s, zc_s, zc_s]; omega
theorem zc_32 {a b c d e : Nat → Bool} {n : Nat} (h : ∀ i, i < n → zc_i (a i) + zc_i (b i) + zc_i (c i) = zc_i (d i) + zc_i (e i)) : zc_n a n + zc_n b n + zc_n c n = zc_n d n + zc_n e n := by
  induction n with
  | zero => rfl
  | succ n ih =>
    have h1 := ih (fun i hi => h i (by omega))
    have h2 := h n (by omega)
    rw [zc_s, zc_s, zc_s, zc_s, zc_s]; omega
theorem zc_eq {a b : Nat → Bool} {n : Nat} (h : ∀ i, i < n → a i = b i) : zc_n a n = zc_n b n := by
  induction n with
  | zero => rfl
  | succ n ih => rw [zc_s, zc_s, ih (fun i hi => h i (by omega)), h n (by omega)]
theorem zc_one0 (x : Nat) (m : Nat) (h : m ≤ x) : zc_n (fun j => decide (j = x)) m = 0 := by
  induction m with
  | zero => rfl
  | succ m ih =>
    rw [zc_s, ih (by omega), decide_eq_false (by omega : ¬ m = x), zc_if]
theorem zc_one {x m : Nat} (h : x < m) : zc_n (fun j => decide (j = x)) m = 1 := by
  induction m with
  | zero => omega
  | succ m ih =>
    rw [zc_s]
    by_cases hx : m = x
    · rw [decide_eq_true hx, zc_one0 x m (by omega), zc_it]
    · rw [decide_eq_false hx, ih (by omega), zc_if]
theorem zc_all (n : Nat) : zc_n (fun _ => true) n = n := by
  induction n with
  | zero => rfl
  | succ n ih => rw [zc_s, ih, zc_it]
theorem zc_pos {p : Nat → Bool} {n : Nat} (h : 0 < zc_n p n) : ∃ i, i < n ∧ p i = true := by
  induction n with
  | zero => exact absurd h (by show ¬ 0 < 0; omega)
  | succ n ih =>
    cases hp : p n
    · rw [zc_s, hp, zc_if] at h
      obtain ⟨i, hi, hpi⟩ := ih h
      exact ⟨i, by omega, hpi⟩
    · exact ⟨n, by omega, hp⟩
theorem zc_rem {q : Nat → Bool} {x m : Nat} (hx : x < m) (hq : q x = true) : zc_n q m = zc_n (fun j => q j && decide (j ≠ x)) m + 1 := by
  have h := zc_21 (a := q) (b := fun j => q j && decide (j ≠ x)) (c := fun j => decide (j = x)) (n := m) (fun i _ => by
    by_cases e : i = x
    · subst e; simp [hq, zc_i]
    · simp [e, zc_i])
  rw [h, zc_one hx]
theorem zc_has {p : Nat → Bool} {n i : Nat} (hi : i < n) (hp : p i = true) : 0 < zc_n p n := by
  rw [zc_rem hi hp]; omega
theorem zc_inj {p : Nat → Bool} (f : Nat → Nat) {m : Nat} : ∀ {n : Nat} {q : Nat → Bool}, (∀ i, i < n → p i = true → f i < m ∧ q (f i) = true) → (∀ i j, i < n → j < n → p i = true → p j = true → f i = f j → i = j) → zc_n p n ≤ zc_n q m := by
  intro n
  induction n with
  | zero => intro q _ _; exact Nat.zero_le _
  | succ n ih =>
    intro q h hi
    rw [zc_s]
    cases hp : p n
    · have := ih (q := q) (fun i hin => h i (by omega)) (fun i j hin hjn => hi i j (by omega) (by omega))
      rw [zc_if]; omega
    · obtain ⟨h1, h2⟩ := h n (by omega) hp
      have h3 := ih (q := fun j => q j && decide (j ≠ f n)) (fun i hin hpi => by
        obtain ⟨h4, h5⟩ := h i (by omega) hpi
        refine ⟨h4, ?_⟩
        have h6 : f i ≠ f n := fun e => by
          have := hi i n (by omega) (by omega) hpi hp e
          omega
        simp [h5, h6]) (fun i j hin hjn => hi i j (by omega) (by omega))
      rw [zc_rem h1 h2, zc_it]; omega
theorem zc_even {n : Nat} (f : Nat → Nat) : ∀ (k : Nat) (p : Nat → Bool), zc_n p n ≤ k → (∀ i, i < n → p i = true → f i < n ∧ p (f i) = true ∧ f i ≠ i ∧ f (f i) = i) → zc_n p n % 2 = 0 := by
  intro k
  induction k with
  | zero => intro p hk _; have : zc_n p n = 0 := by omega
            rw [this]
  | succ k ih =>
    intro p hk h
    by_cases h0 : 0 < zc_n p n
    · obtain ⟨i, hi, hpi⟩ := zc_pos h0
      obtain ⟨h1, h2, h3, h4⟩ := h i hi hpi
      have e1 := zc_rem hi hpi
      have e2 := zc_rem (q := fun j => p j && decide (j ≠ i)) (x := f i) h1 (by simp [h2, h3])
      have e3 := ih (fun j => (p j && decide (j ≠ i)) && decide (j ≠ f i)) (by omega) (fun x hx hpx => by
        simp at hpx
        obtain ⟨⟨hx1, hx2⟩, hx3⟩ := hpx
        obtain ⟨g1, g2, g3, g4⟩ := h x hx hx1
        have n1 : f x ≠ i := fun e => hx3 (by rw [← e, g4])
        have n2 : f x ≠ f i := fun e => hx2 (by rw [← g4, e, h4])
        refine ⟨g1, ?_, g3, g4⟩
        simp [g2, n1, n2])
      omega
    · have : zc_n p n = 0 := by omega
      rw [this]
theorem zc_len {n : Nat} : ∀ (l : List Nat), l.Nodup → (∀ x, x ∈ l → x < n) → zc_n (fun i => decide (i ∈ l)) n = l.length := by
  intro l
  induction l with
  | nil => intro _ _; exact Nat.le_antisymm (by
      have h := zc_le (p := fun i => decide (i ∈ ([] : List Nat))) (q := fun j => decide (j = n)) (n := n) (fun i _ h => by simp at h)
      rw [zc_one0 n n (Nat.le_refl _)] at h
      exact h) (Nat.zero_le _)
  | cons x l ih =>
    intro hn hb
    rw [List.nodup_cons] at hn
    have h1 := ih hn.2 (fun y hy => hb y (List.mem_cons_of_mem _ hy))
    rw [zc_rem (x := x) (hb x List.mem_cons_self) (by simp)]
    rw [List.length_cons, ← h1]
    congr 1
    apply zc_eq
    intro i _
    by_cases e : i = x
    · subst e; simp [hn.1]
    · simp [e]
theorem zc_len_le {n : Nat} {l : List Nat} (h : l.Nodup) (hb : ∀ x, x ∈ l → x < n) : l.length ≤ n := by
  rw [← zc_len l h hb]; exact zc_bd _ _
end
section
/-! pairings: involutions; a free point is a fixed point -/
def zm_M (g : Nat → Nat → Bool) (S : Nat → Bool) (N : Nat → Nat) : Prop := (∀ v, N (N v) = v) ∧ (∀ v, N v ≠ v → S v = true ∧ g v (N v) = true)
def zm_z (N : Nat → Nat) : Nat := zc_n (fun v => decide (N v ≠ v)) 10
theorem zm_inv {g : Nat → Nat → Bool} {S : Nat → Bool} {N : Nat → Nat} (h : zm_M g S N) (v : Nat) : N (N v) = v := h.1 v
theorem zm_ne {g : Nat → Nat → Bool} {S : Nat → Bool} {N : Nat → Nat} (h : zm_M g S N) {v : Nat} (hv : N v ≠ v) : N (N v) ≠ N v := by
  rw [h.1]; exact fun e => hv e.symm
theorem zm_eq {g : Nat → Nat → Bool} {S : Nat → Bool} {N : Nat → Nat} (h : zm_M g S N) {v w : Nat} (e : N v = w) : N w = v := by
  rw [← e]; exact h.1 v
theorem zm_in {g : Nat → Nat → Bool} {S : Nat → Bool} {N : Nat → Nat} (h : zm_M g S N) {v : Nat} (hv : N v ≠ v) : S (N v) = true := (h.2 _ (zm_ne h hv)).1
theorem zm_mono {g : Nat → Nat → Bool} {S S' : Nat → Bool} {N : Nat → Nat} (h : zm_M g S N) (hs : ∀ v, N v ≠ v → S' v = true) : zm_M g S' N :=
  ⟨h.1, fun v hv => ⟨hs v hv, (h.2 v hv).2⟩⟩
/-! the empty pairing -/
theorem zm_id {g : Nat → Nat → Bool} {S : Nat → Bool} : zm_M g S (fun v => v) := ⟨fun _ => rfl, fun v hv => absurd rfl hv⟩
theorem zm_z_id : zm_z (fun v => v) = 0 := by decide +kernel
/-! a line put in -/
def zm_ad (N : Nat → Nat) (x y : Nat) : Nat → Nat := fun v => if v = x then y else if v = y then x else N v
theorem zm_ad_x (N : Nat → Nat) (x y : Nat) : zm_ad N x y x = y := if_pos rfl
theorem zm_ad_y (N : Nat → Nat) {x y : Nat} (h : x ≠ y) : zm_ad N x y y = x := by
  unfold zm_ad; rw [if_neg (fun e => h e.symm), if_pos rfl]
theorem zm_ad_n (N : Nat → Nat) {x y v : Nat} (h1 : v ≠ x) (h2 : v ≠ y) : zm_ad N x y v = N v := by
  unfold zm_ad; rw [if_neg h1, if_neg h2]
theorem zm_ad_M {g : Nat → Nat → Bool} {S : Nat → Bool} {N : Nat → Nat} (hg : ∀ u v, g u v = g v u) (h : zm_M g S N) {x y : Nat} (hxy : x ≠ y) (hx : N x = x) (hy : N y = y) (sx : S x = true) (sy : S y = true) (e : g x y = true) : zm_M g S (zm_ad N x y) := by
  refine ⟨fun v => ?_, fun v hv => ?_⟩
  · by_cases h1 : v = x
    · rw [h1, zm_ad_x, zm_ad_y N hxy]
    · by_cases h2 : v = y
      · rw [h2, zm_ad_y N hxy, zm_ad_x]
      · rw [zm_ad_n N h1 h2]
        have h3 : N v ≠ x := fun e => h1 (by rw [← h.1 v, e, hx])
        have h4 : N v ≠ y := fun e => h2 (by rw [← h.1 v, e, hy])
        rw [zm_ad_n N h3 h4, h.1]
  · by_cases h1 : v = x
    · rw [h1, zm_ad_x]; exact ⟨sx, e⟩
    · by_cases h2 : v = y
      · rw [h2, zm_ad_y N hxy]; exact ⟨sy, by rw [hg]; exact e⟩
      · rw [zm_ad_n N h1 h2] at hv ⊢
        exact h.2 v hv
theorem zm_ad_c {N : Nat → Nat} {x y : Nat} (hxy : x ≠ y) (v : Nat) : zm_ad N x y v ≠ v ↔ (N v ≠ v ∨ v = x ∨ v = y) := by
  by_cases h1 : v = x
  · rw [h1, zm_ad_x]; exact ⟨fun _ => Or.inr (Or.inl rfl), fun _ e => hxy e.symm⟩
  · by_cases h2 : v = y
    · rw [h2, zm_ad_y N hxy]; exact ⟨fun _ => Or.inr (Or.inr rfl), fun _ e => hxy e⟩
    · rw [zm_ad_n N h1 h2]
      exact ⟨Or.inl, fun h => h.elim id (fun h => h.elim (fun e => absurd e h1) (fun e => absurd e h2))⟩
/-! covered points and two more -/
theorem zm_z2 {N N' : Nat → Nat} {x y : Nat} (hxy : x ≠ y) (hx : N x = x) (hy : N y = y) (bx : x < 10) (by' : y < 10) (h : ∀ v, N' v ≠ v ↔ (N v ≠ v ∨ v = x ∨ v = y)) : zm_z N' = zm_z N + 2 := by
  unfold zm_z
  rw [zc_31 (a := fun v => decide (N' v ≠ v)) (b := fun v => decide (N v ≠ v)) (c := fun v => decide (v = x)) (d := fun v => decide (v = y)) (n := 10) (fun v _ => ?_), zc_one bx, zc_one by']
  have h1 := h v
  by_cases a : v = x
  · have b : v ≠ y := fun e => hxy (by rw [← a, e])
    have c : N v = v := by rw [a]; exact hx
    have d : N' v ≠ v := h1.mpr (Or.inr (Or.inl a))
    simp only [zc_i, decide_eq_true d, decide_eq_false (Classical.not_not.mpr c), decide_eq_true a, decide_eq_false b]
    rfl
  · by_cases b : v = y
    · have c : N v = v := by rw [b]; exact hy
      have d : N' v ≠ v := h1.mpr (Or.inr (Or.inr b))
      simp only [zc_i, decide_eq_true d, decide_eq_false (Classical.not_not.mpr c), decide_eq_false a, decide_eq_true b]
      rfl
    · by_cases c : N v = v
      · have d : ¬ N' v ≠ v := fun z => (h1.mp z).elim (fun z => z c) (fun z => z.elim a b)
        have d' : N' v = v := Classical.not_not.mp d
        simp [zc_i, a, b, c, d']
      · have d : N' v ≠ v := h1.mpr (Or.inl c)
        simp [zc_i, a, b, c, d]
/-! a line taken out -/
def zm_dl (N : Nat → Nat) (x : Nat) : Nat → Nat := fun v => if v = x then v else if v = N x then v else N v
theorem zm_dl_x (N : Nat → Nat) (x : Nat) : zm_dl N x x = x := if_pos rfl
theorem zm_dl_y (N : Nat → Nat) (x : Nat) : zm_dl N x (N x) = N x := by
  unfold zm_dl
  by_cases h : N x = x
  · rw [if_pos h]
  · rw [if_neg h, if_pos rfl]
theorem zm_dl_n (N : Nat → Nat) {x v : Nat} (h1 : v ≠ x) (h2 : v ≠ N x) : zm_dl N x v = N v := by
  unfold zm_dl; rw [if_neg h1, if_neg h2]
theorem zm_dl_M {g : Nat → Nat → Bool} {S : Nat → Bool} {N : Nat → Nat} (h : zm_M g S N) (x : Nat) : zm_M g S (zm_dl N x) := by
  refine ⟨fun v => ?_, fun v hv => ?_⟩
  · by_cases h1 : v = x
    · rw [h1, zm_dl_x, zm_dl_x]
    · by_cases h2 : v = N x
      · rw [h2, zm_dl_y, zm_dl_y]
      · have h3 : N v ≠ x := fun e => h2 (by rw [← e, h.1])
        have h4 : N v ≠ N x := fun e => h1 (by rw [← h.1 v, e, h.1])
        rw [zm_dl_n N h1 h2, zm_dl_n N h3 h4, h.1]
  · by_cases h1 : v = x
    · rw [h1, zm_dl_x] at hv; exact absurd rfl hv
    · by_cases h2 : v = N x
      · rw [h2, zm_dl_y] at hv; exact absurd rfl hv
      · rw [zm_dl_n N h1 h2] at hv ⊢
        exact h.2 v hv
theorem zm_dl_c {N : Nat → Nat} {x : Nat} (hi : N (N x) = x) (hx : N x ≠ x) (v : Nat) : N v ≠ v ↔ (zm_dl N x v ≠ v ∨ v = x ∨ v = N x) := by
  by_cases h1 : v = x
  · rw [h1]; exact ⟨fun _ => Or.inr (Or.inl rfl), fun _ => hx⟩
  · by_cases h2 : v = N x
    · rw [h2]; exact ⟨fun _ => Or.inr (Or.inr rfl), fun _ => by rw [hi]; exact fun e => hx e.symm⟩
    · rw [zm_dl_n N h1 h2]
      exact ⟨Or.inl, fun h => h.elim id (fun h => h.elim (fun e => absurd e h1) (fun e => absurd e h2))⟩
theorem zm_dl_z {g : Nat → Nat → Bool} {S : Nat → Bool} {N : Nat → Nat} (hS : ∀ v, S v = true → v < 10) (h : zm_M g S N) {x : Nat} (hx : N x ≠ x) : zm_z N = zm_z (zm_dl N x) + 2 :=
  zm_z2 (fun e => hx e.symm) (zm_dl_x N x) (zm_dl_y N x) (hS _ (h.2 x hx).1) (hS _ (zm_in h hx)) (zm_dl_c (h.1 x) hx)
end
section
/-! the certificate of a search that fails -/
section
variable {g : Nat → Nat → Bool} {S O I : Nat → Bool} {M N B : Nat → Nat} {r : Nat}
/-- each ring has a point that is free in N or joined to an inner point -/
theorem zk_ring (hM : zm_M g S M) (hN : zm_M g S N) (hS : ∀ v, S v = true → v < 10) (hMr : M r = r)
    (hOS : ∀ u, O u = true → S u = true)
    (h3 : ∀ u, O u = true → B u ≠ u → O (M u) = true ∧ B (M u) = B u ∧ M u ≠ u)
    (h4 : ∀ u, O u = true → B u = u → u ≠ r → I (M u) = true)
    (h5 : ∀ w, I w = true → O w = false ∧ O (M w) = true ∧ B (M w) = M w)
    (h6 : ∀ u t, O u = true → S t = true → g u t = true → I t = true ∨ (O t = true ∧ B t = B u))
    (b : Nat) (hb : O b = true) (hbb : B b = b) : ∃ x, O x = true ∧ B x = b ∧ (N x = x ∨ I (N x) = true) := by
  apply Classical.byContradiction
  intro hno
  have hall : ∀ x, O x = true → B x = b → N x ≠ x ∧ ¬ I (N x) = true := fun x hx hbx =>
    ⟨fun e => hno ⟨x, hx, hbx, Or.inl e⟩, fun e => hno ⟨x, hx, hbx, Or.inr e⟩⟩
  have e1 := zc_even (n := 10) N _ (fun x => O x && decide (B x = b)) (Nat.le_refl _) (fun x hx hp => by
    simp at hp
    obtain ⟨a1, a2⟩ := hall x hp.1 hp.2
    have a3 := zm_in hN a1
    refine ⟨hS _ a3, ?_, a1, hN.1 x⟩
    rcases h6 x (N x) hp.1 a3 (hN.2 x a1).2 with a4 | a4
    · exact absurd a4 a2
    · simp [a4.1, a4.2, hp.2])
  have e2 := zc_even (n := 10) M _ (fun x => (O x && decide (B x = b)) && decide (x ≠ b)) (Nat.le_refl _) (fun x hx hp => by
    simp at hp
    obtain ⟨⟨a1, a2⟩, a3⟩ := hp
    obtain ⟨c1, c2, c3⟩ := h3 x a1 (by rw [a2]; exact fun e => a3 e.symm)
    refine ⟨hS _ (hOS _ c1), ?_, c3, hM.1 x⟩
    have c4 : M x ≠ b := fun e => by
      have c5 := zm_eq hM e
      by_cases q : b = r
      · rw [q, hMr] at c5
        exact a3 (by rw [← c5, q])
      · have c6 := h4 b hb hbb q
        rw [c5] at c6
        have c7 := (h5 x c6).1
        rw [a1] at c7
        exact absurd c7 (by decide)
    simp [c1, c2, a2, c4])
  have e3 := zc_rem (q := fun x => O x && decide (B x = b)) (x := b) (m := 10) (hS _ (hOS _ hb)) (by simp [hb, hbb])
  omega
theorem zk_cert (hg : ∀ u v, g u v = g v u) (hM : zm_M g S M) (hN : zm_M g S N) (hS : ∀ v, S v = true → v < 10) (hr : O r = true) (hMr : M r = r) (hBr : B r = r)
    (hOS : ∀ u, O u = true → S u = true)
    (h3 : ∀ u, O u = true → B u ≠ u → O (M u) = true ∧ B (M u) = B u ∧ M u ≠ u)
    (h4 : ∀ u, O u = true → B u = u → u ≠ r → I (M u) = true)
    (h5 : ∀ w, I w = true → O w = false ∧ O (M w) = true ∧ B (M w) = M w)
    (h6 : ∀ u t, O u = true → S t = true → g u t = true → I t = true ∨ (O t = true ∧ B t = B u)) :
    ∃ N', zm_M g S N' ∧ zm_z N ≤ zm_z N' ∧ N' r = r ∧ (∀ v, N' v ≠ v → N v ≠ v ∨ M v ≠ v) ∧ (∀ v, O v = false → N v = v → N' v = v ∨ zm_z N < zm_z N') := by
  have hIr : I r = false := by
    cases h : I r
    · rfl
    · have := (h5 r h).1
      rw [hr] at this
      exact absurd this (by decide)
  have hIM : ∀ w, I w = true → M w ≠ w := fun w hw e => by
    have a := (h5 w hw).1
    have b := (h5 w hw).2.1
    rw [e, a] at b
    exact absurd b (by decide)
  have hIS : ∀ w, I w = true → w < 10 := fun w hw => hS _ (hM.2 w (hIM w hw)).1
  have hOI : ∀ w, O w = true → I w = false := fun w hw => by
    cases h : I w
    · rfl
    · have := (h5 w h).1
      rw [hw] at this
      exact absurd this (by decide)
  have hOM : ∀ u, O u = true → u ≠ r → M u ≠ u := fun u hu hur e => by
    by_cases q : B u = u
    · have := h4 u hu q hur
      rw [e, hOI u hu] at this
      exact absurd this (by decide)
    · exact (h3 u hu q).2.2 e
  -- the set O ∪ I is closed under M
  have hT : ∀ v, (O v || I v) = true → (O (M v) || I (M v)) = true := fun v hv => by
    cases ho : O v
    · rw [ho, Bool.false_or] at hv
      rw [(h5 v hv).2.1, Bool.true_or]
    · by_cases q : v = r
      · rw [q, hMr, hr, Bool.true_or]
      · by_cases q2 : B v = v
        · rw [h4 v ho q2 q, Bool.or_true]
        · rw [(h3 v ho q2).1, Bool.true_or]
  have hcross : ∀ v, (O v || I v) = false → (O (N v) || I (N v)) = true → I (N v) = true := fun v h1 h2 => by
    cases ho : O (N v)
    · rw [ho, Bool.false_or] at h2; exact h2
    · have hne : N v ≠ v := fun e => by
        rw [e] at h2; rw [h1] at h2; exact absurd h2 (by decide)
      have a := hN.2 v hne
      rcases h6 (N v) v ho a.1 (by rw [hg]; exact a.2) with b | b
      · rw [b, Bool.or_true] at h1; exact absurd h1 (by decide)
      · rw [b.1, Bool.true_or] at h1; exact absurd h1 (by decide)
  -- counts
  obtain ⟨f, hf⟩ := Classical.skolem.mp (fun b => by
    by_cases q : O b = true ∧ B b = b
    · obtain ⟨x, hx⟩ := zk_ring (N := N) hM hN hS hMr hOS h3 h4 h5 h6 b q.1 q.2
      exact ⟨x, fun _ => hx⟩
    · exact ⟨0, fun z => absurd z q⟩ : ∀ b, ∃ x, (O b = true ∧ B b = b) → (O x = true ∧ B x = b ∧ (N x = x ∨ I (N x) = true)))
  have cA : zc_n (fun b => O b && decide (B b = b)) 10 ≤ zc_n (fun x => O x && (decide (N x = x) || I (N x))) 10 :=
    zc_inj f (fun b hb hp => by
      simp at hp
      obtain ⟨a1, a2, a3⟩ := hf b hp
      refine ⟨hS _ (hOS _ a1), ?_⟩
      rcases a3 with a3 | a3 <;> simp [a1, a3]) (fun b b' _ _ hp hp' e => by
      simp at hp hp'
      have a := (hf b hp).2.1
      have a' := (hf b' hp').2.1
      rw [← a, ← a', e])
  have cA2 : zc_n (fun x => O x && (decide (N x = x) || I (N x))) 10 = zc_n (fun x => O x && decide (N x = x)) 10 + zc_n (fun x => O x && I (N x)) 10 :=
    zc_21 (fun x _ => by
      cases ho : O x
      · simp [zc_i]
      · by_cases e : N x = x
        · have := hOI x ho
          simp [zc_i, e, this]
        · simp [zc_i, e])
  have cB : zc_n (fun w => I w || decide (w = r)) 10 ≤ zc_n (fun b => O b && decide (B b = b)) 10 :=
    zc_inj M (fun w hw hp => by
      simp at hp
      rcases hp with hp | hp
      · obtain ⟨a1, a2, a3⟩ := h5 w hp
        exact ⟨hS _ (hOS _ a2), by simp [a2, a3]⟩
      · rw [hp, hMr]
        exact ⟨hS _ (hOS _ hr), by simp [hr, hBr]⟩) (fun w w' _ _ _ _ e => by rw [← hM.1 w, e, hM.1])
  have cB2 : zc_n (fun w => I w || decide (w = r)) 10 = zc_n I 10 + zc_n (fun w => decide (w = r)) 10 :=
    zc_21 (fun w _ => by
      by_cases e : w = r
      · simp [zc_i, e, hIr]
      · simp [zc_i, e])
  rw [zc_one (hS _ (hOS _ hr))] at cB2
  have cC : zc_n (fun x => (O x && I (N x)) || (!(O x || I x) && (O (N x) || I (N x)))) 10 ≤ zc_n (fun w => I w && decide (N w ≠ w)) 10 :=
    zc_inj N (fun x hx hp => by
      have key : I (N x) = true ∧ N x ≠ x := by
        cases ht : (O x || I x)
        · rw [ht] at hp
          have ho : O x = false := by
            cases q : O x
            · rfl
            · rw [q, Bool.true_or] at ht; exact absurd ht (by decide)
          rw [ho] at hp
          have hp' : (O (N x) || I (N x)) = true := by simpa using hp
          refine ⟨hcross x ht hp', fun e => ?_⟩
          rw [e, ht] at hp'
          exact absurd hp' (by decide)
        · rw [ht] at hp
          have hp' : O x = true ∧ I (N x) = true := by simpa using hp
          refine ⟨hp'.2, fun e => ?_⟩
          have a := hp'.2
          rw [e, hOI x hp'.1] at a
          exact absurd a (by decide)
      refine ⟨hIS _ key.1, ?_⟩
      have a : N (N x) ≠ N x := zm_ne hN key.2
      simp [key.1, a]) (fun w w' _ _ _ _ e => by rw [← hN.1 w, e, hN.1])
  have cC2 : zc_n (fun x => (O x && I (N x)) || (!(O x || I x) && (O (N x) || I (N x)))) 10 = zc_n (fun x => O x && I (N x)) 10 + zc_n (fun x => !(O x || I x) && (O (N x) || I (N x))) 10 :=
    zc_21 (fun x _ => by
      cases ho : O x
      · simp [zc_i]
      · simp [zc_i])
  have cC3 : zc_n I 10 = zc_n (fun w => I w && decide (N w ≠ w)) 10 + zc_n (fun w => I w && decide (N w = w)) 10 :=
    zc_21 (fun x _ => by
      by_cases e : N x = x
      · simp [zc_i, e]
      · simp [zc_i, e])
  have cD : zm_z N + zc_n (fun x => O x && decide (N x = x)) 10 + zc_n (fun w => I w && decide (N w = w)) 10 = zc_n (fun x => O x || I x) 10 + zc_n (fun x => !(O x || I x) && decide (N x ≠ x)) 10 :=
    zc_32 (fun x _ => by
      by_cases e : N x = x
      · cases ho : O x
        · cases hi : I x <;> simp [zc_i, e]
        · have := hOI x ho
          simp [zc_i, e, this]
      · cases ho : O x
        · cases hi : I x <;> simp [zc_i, e]
        · simp [zc_i, e])
  have cE : zc_n (fun x => !(O x || I x) && decide (N x ≠ x)) 10 = zc_n (fun x => !(O x || I x) && (O (N x) || I (N x))) 10 + zc_n (fun x => (!(O x || I x) && !(O (N x) || I (N x))) && decide (N x ≠ x)) 10 :=
    zc_21 (fun x _ => by
      cases ht : (O x || I x)
      · cases ht2 : (O (N x) || I (N x))
        · simp [zc_i]
        · have : N x ≠ x := fun e => by
            rw [e, ht] at ht2; exact absurd ht2 (by decide)
          simp [zc_i, this]
      · simp [zc_i])
  -- the new pairing
  let N' : Nat → Nat := fun v => if (O v || I v) = true then M v else if (O (N v) || I (N v)) = true then v else N v
  have n1 : ∀ v, (O v || I v) = true → N' v = M v := fun v hv => if_pos hv
  have n2 : ∀ v, (O v || I v) = false → (O (N v) || I (N v)) = true → N' v = v := fun v h1 h2 => by
    show (if (O v || I v) = true then M v else if (O (N v) || I (N v)) = true then v else N v) = v
    rw [if_neg (by rw [h1]; decide), if_pos h2]
  have n3 : ∀ v, (O v || I v) = false → (O (N v) || I (N v)) = false → N' v = N v := fun v h1 h2 => by
    show (if (O v || I v) = true then M v else if (O (N v) || I (N v)) = true then v else N v) = N v
    rw [if_neg (by rw [h1]; decide), if_neg (by rw [h2]; decide)]
  have cF : zm_z N' + zc_n (fun w => decide (w = r)) 10 = zc_n (fun x => O x || I x) 10 + zc_n (fun x => (!(O x || I x) && !(O (N x) || I (N x))) && decide (N x ≠ x)) 10 :=
    zc_22 (fun x _ => by
      cases ht : (O x || I x)
      · have hxr : x ≠ r := fun e => by rw [e, hr, Bool.true_or] at ht; exact absurd ht (by decide)
        cases ht2 : (O (N x) || I (N x))
        · rw [n3 x ht ht2]; simp [zc_i, hxr]
        · rw [n2 x ht ht2]; simp [zc_i, hxr]
      · rw [n1 x ht]
        by_cases e : x = r
        · rw [e, hMr]; simp [zc_i]
        · have : M x ≠ x := by
            cases ho : O x
            · rw [ho, Bool.false_or] at ht; exact hIM x ht
            · exact hOM x ho e
          simp [zc_i, e, this])
  rw [zc_one (hS _ (hOS _ hr))] at cF
  refine ⟨N', ⟨fun v => ?_, fun v hv => ?_⟩, by omega, ?_, fun v hv => ?_, fun v hv hNv => ?_⟩
  · cases ht : (O v || I v)
    · cases ht2 : (O (N v) || I (N v))
      · rw [n3 v ht ht2, n3 (N v) ht2 (by rw [hN.1]; exact ht), hN.1]
      · rw [n2 v ht ht2, n2 v ht ht2]
    · rw [n1 v ht, n1 (M v) (hT v ht), hM.1]
  · cases ht : (O v || I v)
    · cases ht2 : (O (N v) || I (N v))
      · rw [n3 v ht ht2] at hv ⊢; exact hN.2 v hv
      · exact absurd (n2 v ht ht2) hv
    · rw [n1 v ht] at hv ⊢; exact hM.2 v hv
  · rw [n1 r (by rw [hr, Bool.true_or]), hMr]
  · cases ht : (O v || I v)
    · cases ht2 : (O (N v) || I (N v))
      · rw [n3 v ht ht2] at hv; exact Or.inl hv
      · exact absurd (n2 v ht ht2) hv
    · rw [n1 v ht] at hv; exact Or.inr hv
  · cases hi : I v
    · have ht : (O v || I v) = false := by rw [hv, hi]; rfl
      exact Or.inl (by rw [n3 v ht (by rw [hNv]; exact ht)]; exact hNv)
    · have := zc_has (p := fun w => I w && decide (N w = w)) (n := 10) (hIS v hi) (by simp [hi, hNv])
      exact Or.inr (by omega)
end
/-! a point that fails, and the end -/
def zk_K (g : Nat → Nat → Bool) (S : Nat → Bool) (M : Nat → Nat) (f : Nat) (O : Nat → Bool) : Prop :=
  O f = true ∧ ∀ N, zm_M g S N → ∃ N', zm_M g S N' ∧ zm_z N ≤ zm_z N' ∧ N' f = f ∧ (∀ v, N' v ≠ v → N v ≠ v ∨ M v ≠ v) ∧ (∀ v, O v = false → N v = v → N' v = v ∨ zm_z N < zm_z N')
theorem zk_up {g : Nat → Nat → Bool} {S : Nat → Bool} {M M1 : Nat → Nat} {f : Nat} {O : Nat → Bool} (h : zk_K g S M f O) (hm : ∀ v, M v ≠ v → M1 v ≠ v) : zk_K g S M1 f O :=
  ⟨h.1, fun N hN => by
    obtain ⟨N', a, b, c, d, e⟩ := h.2 N hN
    exact ⟨N', a, b, c, fun v hv => (d v hv).imp id (hm v), e⟩⟩
theorem zk_seq {g : Nat → Nat → Bool} {S : Nat → Bool} {M : Nat → Nat} {O : Nat → Nat → Bool} (hK : ∀ f, S f = true → M f = f → zk_K g S M f (O f)) {N : Nat → Nat} (hN : zm_M g S N) :
    ∀ k : Nat, ∃ N', zm_M g S N' ∧ zm_z N ≤ zm_z N' ∧ (∀ f, f < k → M f = f → N' f = f) ∧ (∀ v, (∀ f, S f = true → M f = f → O f v = false) → N v = v → N' v = v ∨ zm_z N < zm_z N') := by
  intro k
  induction k with
  | zero => exact ⟨N, hN, Nat.le_refl _, fun f hf => absurd hf (by omega), fun v _ h => Or.inl h⟩
  | succ k ih =>
    obtain ⟨N1, a1, a2, a3, a4⟩ := ih
    by_cases q : S k = true ∧ M k = k
    · obtain ⟨N2, b1, b2, b3, b4, b5⟩ := (hK k q.1 q.2).2 N1 a1
      refine ⟨N2, b1, by omega, fun f hf hMf => ?_, fun v hv hNv => ?_⟩
      · by_cases e : f = k
        · rw [e]; exact b3
        · apply Classical.byContradiction
          intro hne
          rcases b4 f hne with c | c
          · exact c (a3 f (by omega) hMf)
          · exact c hMf
      · rcases a4 v hv hNv with c | c
        · rcases b5 v (hv k q.1 q.2) c with d | d
          · exact Or.inl d
          · exact Or.inr (by omega)
        · exact Or.inr (by omega)
    · refine ⟨N1, a1, a2, fun f hf hMf => ?_, a4⟩
      by_cases e : f = k
      · apply Classical.byContradiction
        intro hne
        have := (a1.2 f hne).1
        rw [e] at this hMf
        exact q ⟨this, hMf⟩
      · exact a3 f (by omega) hMf
theorem zk_fin {g : Nat → Nat → Bool} {S : Nat → Bool} {M : Nat → Nat} {O : Nat → Nat → Bool} (hS : ∀ v, S v = true → v < 10) (hK : ∀ f, S f = true → M f = f → zk_K g S M f (O f)) {N : Nat → Nat} (hN : zm_M g S N) :
    zm_z N ≤ zm_z M ∧ ∀ v, S v = true → (∀ f, S f = true → M f = f → O f v = false) → N v = v → zm_z N < zm_z M := by
  obtain ⟨N', a1, a2, a3, a4⟩ := zk_seq hK hN 10
  have hc : ∀ v, N' v ≠ v → M v ≠ v := fun v hv e => hv (a3 v (hS v (a1.2 v hv).1) e)
  have h1 : zm_z N' ≤ zm_z M := zc_le (fun v _ hv => by simp at hv ⊢; exact hc v hv)
  refine ⟨by omega, fun v hSv hv hNv => ?_⟩
  rcases a4 v hv hNv with c | c
  · have hMv : M v ≠ v := fun e => by
      have b := hv v hSv e
      rw [(hK v hSv e).1] at b
      exact absurd b (by decide)
    have h2 := zc_rem (q := fun v => decide (M v ≠ v)) (x := v) (m := 10) (hS v hSv) (by simp [hMv])
    have h3 : zm_z N' ≤ zc_n (fun j => decide (M j ≠ j) && decide (j ≠ v)) 10 := zc_le (fun j _ hj => by
      simp at hj ⊢
      exact ⟨hc j hj, fun e => hj (by rw [e]; exact c)⟩)
    have h4 : zm_z M = zc_n (fun v => decide (M v ≠ v)) 10 := rfl
    omega
  · omega
end
section
/-! the table of all sets: k is the number of lines of a largest pairing inside the set -/
def zd_P (g : Nat → Nat → Bool) (S : Nat → Bool) (k : Nat) : Prop :=
  (∀ N, zm_M g S N → zm_z N ≤ 2 * k) ∧ ∃ N, zm_M g S N ∧ zm_z N = 2 * k
theorem zd_uniq {g : Nat → Nat → Bool} {S : Nat → Bool} {k k' : Nat} (h : zd_P g S k) (h' : zd_P g S k') : k = k' := by
  obtain ⟨N, a, b⟩ := h.2
  obtain ⟨N', a', b'⟩ := h'.2
  have c := h.1 N' a'
  have c' := h'.1 N a
  omega
theorem zd_ext {g g' : Nat → Nat → Bool} {S S' : Nat → Bool} {k : Nat} (h : zd_P g S k) (hS : ∀ v, S v = S' v) (hg : ∀ u v, S u = true → S v = true → g u v = g' u v) : zd_P g' S' k := by
  have t : ∀ N, zm_M g S N ↔ zm_M g' S' N := fun N => by
    constructor
    · intro hN
      exact ⟨hN.1, fun v hv => ⟨by rw [← hS]; exact (hN.2 v hv).1, by rw [← hg _ _ (hN.2 v hv).1 (zm_in hN hv)]; exact (hN.2 v hv).2⟩⟩
    · intro hN
      have a : ∀ v, N v ≠ v → S v = true := fun v hv => by rw [hS]; exact (hN.2 v hv).1
      exact ⟨hN.1, fun v hv => ⟨a v hv, by rw [hg _ _ (a v hv) (a _ (zm_ne hN hv))]; exact (hN.2 v hv).2⟩⟩
  refine ⟨fun N hN => h.1 N ((t N).mpr hN), ?_⟩
  obtain ⟨N, a, b⟩ := h.2
  exact ⟨N, (t N).mp a, b⟩
theorem zd_0 {g : Nat → Nat → Bool} {S : Nat → Bool} (h : ∀ v, S v = false) : zd_P g S 0 := by
  refine ⟨fun N hN => ?_, ⟨fun v => v, zm_id, zm_z_id⟩⟩
  have : zm_z N ≤ zc_n (fun j => decide (j = 10)) 10 := zc_le (fun v _ hv => by
    simp at hv
    have := (hN.2 v hv).1
    rw [h] at this
    exact absurd this (by decide))
  rw [zc_one0 10 10 (by omega)] at this
  omega
/-- the step: the point 'low' is free, or paired with one of the others -/
theorem zd_step {g : Nat → Nat → Bool} {S : Nat → Bool} (hg : ∀ u v, g u v = g v u) (hS : ∀ v, S v = true → v < 10) {low k k0 : Nat} {kp : Nat → Nat} (hl : S low = true) (hgl : g low low = false)
    (h0 : zd_P g (fun v => S v && decide (v ≠ low)) k0)
    (hp : ∀ p, S p = true → p ≠ low → g low p = true → zd_P g (fun v => (S v && decide (v ≠ low)) && decide (v ≠ p)) (kp p))
    (b0 : k0 ≤ k) (b1 : ∀ p, S p = true → p ≠ low → g low p = true → kp p + 1 ≤ k)
    (b2 : k = k0 ∨ ∃ p, S p = true ∧ p ≠ low ∧ g low p = true ∧ k = kp p + 1) : zd_P g S k := by
  refine ⟨fun N hN => ?_, ?_⟩
  · by_cases e : N low = low
    · have := h0.1 N (zm_mono hN (fun v hv => by
        have a : v ≠ low := fun q => hv (by rw [q]; exact e)
        simp [(hN.2 v hv).1, a]))
      omega
    · have hne : N low ≠ low := e
      have a1 := zm_in hN hne
      have a2 := (hN.2 low hne).2
      have a3 := (hp (N low) a1 hne a2).1 (zm_dl N low) (zm_mono (zm_dl_M hN low) (fun v hv => by
        have c1 : v ≠ low := fun q => hv (by rw [q]; exact zm_dl_x N low)
        have c2 : v ≠ N low := fun q => hv (by rw [q]; exact zm_dl_y N low)
        have c3 := ((zm_dl_M hN low).2 v hv).1
        simp [c1, c2, c3]))
      have a4 := zm_dl_z hS hN hne
      have a5 := b1 (N low) a1 hne a2
      omega
  · rcases b2 with e | ⟨p, p1, p2, p3, e⟩
    · obtain ⟨N, a, b⟩ := h0.2
      exact ⟨N, zm_mono a (fun v hv => by have := (a.2 v hv).1; simp at this; exact this.1), by rw [e]; exact b⟩
    · obtain ⟨N, a, b⟩ := (hp p p1 p2 p3).2
      have hf : ∀ v, v = low ∨ v = p → N v = v := fun v hv => by
        apply Classical.byContradiction
        intro q
        have := (a.2 v q).1
        simp at this
        rcases hv with hv | hv
        · exact this.1.2 hv
        · exact this.2 hv
      have a' : zm_M g S N := zm_mono a (fun v hv => by have := (a.2 v hv).1; simp at this; exact this.1.1)
      have hne : low ≠ p := fun q => p2 q.symm
      refine ⟨zm_ad N low p, zm_ad_M hg a' hne (hf low (Or.inl rfl)) (hf p (Or.inr rfl)) hl p1 p3, ?_⟩
      rw [zm_z2 hne (hf low (Or.inl rfl)) (hf p (Or.inr rfl)) (hS _ hl) (hS _ p1) (zm_ad_c hne), b]
      omega
end
section
/-! the search: outer points O, reachedFrom F (10: none), bases B, the way E x of an outer point x to the root r -/
def zs_I (g : Nat → Nat → Bool) (S : Nat → Bool) (M : Nat → Nat) (r : Nat) (O : Nat → Bool) (F B : Nat → Nat) (E : Nat → List Nat) : Prop :=
  (zm_M g S M ∧ O r = true ∧ M r = r ∧ B r = r) ∧
  (∀ x, O x = true → S x = true) ∧
  (∀ x, O x = true → x ≠ r → M x ≠ x ∧ F (M x) < 10 ∧ O (F (M x)) = true) ∧
  (∀ w, F w < 10 → g (F w) w = true ∧ O (F w) = true ∧ M w ≠ w ∧ O (M w) = true) ∧
  (∀ x, O x = false → B x = x) ∧
  (∀ x, O x = true → O (B x) = true ∧ B (B x) = B x) ∧
  (∀ x, O x = true → B x ≠ x → O (M x) = true ∧ B (M x) = B x ∧ B (F (M x)) = B x) ∧
  (∀ x, O x = true → B x = x → x ≠ r → O (M x) = false) ∧
  (E r = [r] ∧ (∀ x, O x = true → x ≠ r → E x = x :: E (F (M x))) ∧ ∀ x, O x = true → ∀ v, v ∈ E x → ∀ w, w ∈ E x → M v = w → v = w)
section
variable {g : Nat → Nat → Bool} {S O : Nat → Bool} {M F B : Nat → Nat} {r : Nat} {E : Nat → List Nat}
theorem zs_ma (H : zs_I g S M r O F B E) : zm_M g S M := H.1.1
theorem zs_or (H : zs_I g S M r O F B E) : O r = true := H.1.2.1
theorem zs_mr (H : zs_I g S M r O F B E) : M r = r := H.1.2.2.1
theorem zs_br (H : zs_I g S M r O F B E) : B r = r := H.1.2.2.2
theorem zs_a (H : zs_I g S M r O F B E) {x : Nat} (h : O x = true) : S x = true := H.2.1 x h
theorem zs_b (H : zs_I g S M r O F B E) {x : Nat} (h : O x = true) (hr : x ≠ r) : M x ≠ x ∧ F (M x) < 10 ∧ O (F (M x)) = true := H.2.2.1 x h hr
theorem zs_c (H : zs_I g S M r O F B E) {w : Nat} (h : F w < 10) : g (F w) w = true ∧ O (F w) = true ∧ M w ≠ w ∧ O (M w) = true := H.2.2.2.1 w h
theorem zs_d (H : zs_I g S M r O F B E) {x : Nat} (h : O x = false) : B x = x := H.2.2.2.2.1 x h
theorem zs_e (H : zs_I g S M r O F B E) {x : Nat} (h : O x = true) : O (B x) = true ∧ B (B x) = B x := H.2.2.2.2.2.1 x h
theorem zs_f (H : zs_I g S M r O F B E) {x : Nat} (h : O x = true) (hb : B x ≠ x) : O (M x) = true ∧ B (M x) = B x ∧ B (F (M x)) = B x := H.2.2.2.2.2.2.1 x h hb
theorem zs_h (H : zs_I g S M r O F B E) {x : Nat} (h : O x = true) (hb : B x = x) (hr : x ≠ r) : O (M x) = false := H.2.2.2.2.2.2.2.1 x h hb hr
theorem zs_E0 (H : zs_I g S M r O F B E) : E r = [r] := H.2.2.2.2.2.2.2.2.1
theorem zs_E1 (H : zs_I g S M r O F B E) {x : Nat} (h : O x = true) (hr : x ≠ r) : E x = x :: E (F (M x)) := H.2.2.2.2.2.2.2.2.2.1 x h hr
theorem zs_E2 (H : zs_I g S M r O F B E) {x v : Nat} (h : O x = true) (hv : v ∈ E x) (hm : M v ∈ E x) : M v = v := (H.2.2.2.2.2.2.2.2.2.2 x h v hv (M v) hm rfl).symm
theorem zs_ind (H : zs_I g S M r O F B E) {P : Nat → Prop} (h0 : P r) (hs : ∀ x, O x = true → x ≠ r → O (F (M x)) = true → P (F (M x)) → P x) {x : Nat} (hx : O x = true) : P x := by
  have : ∀ n x, (E x).length ≤ n → O x = true → P x := by
    intro n
    induction n with
    | zero =>
      intro x hl hx
      by_cases q : x = r
      · rw [q]; exact h0
      · rw [zs_E1 H hx q, List.length_cons] at hl; omega
    | succ n ih =>
      intro x hl hx
      by_cases q : x = r
      · rw [q]; exact h0
      · rw [zs_E1 H hx q, List.length_cons] at hl
        have a := (zs_b H hx q).2.2
        exact hs x hx q a (ih _ (by omega) a)
  exact this _ x (Nat.le_refl _) hx
theorem zs_hd (H : zs_I g S M r O F B E) {x : Nat} (hx : O x = true) : ∃ t, E x = x :: t := by
  by_cases q : x = r
  · rw [q, zs_E0 H]; exact ⟨[], rfl⟩
  · exact ⟨_, zs_E1 H hx q⟩
theorem zs_in (H : zs_I g S M r O F B E) {x : Nat} (hx : O x = true) : x ∈ E x := by
  obtain ⟨t, e⟩ := zs_hd H hx
  rw [e]; exact List.mem_cons_self
theorem zs_out (H : zs_I g S M r O F B E) {x z : Nat} (hx : O x = true) (hz : z ∈ E x) : O z = true := by
  refine zs_ind H (P := fun x => z ∈ E x → O z = true) ?_ ?_ hx hz
  · intro h; rw [zs_E0 H, List.mem_singleton] at h; rw [h]; exact zs_or H
  · intro x hx hr _ ih h
    rw [zs_E1 H hx hr, List.mem_cons] at h
    rcases h with h | h
    · rw [h]; exact hx
    · exact ih h
theorem zs_suf (H : zs_I g S M r O F B E) {x z : Nat} (hx : O x = true) (hz : z ∈ E x) : ∃ l, E x = l ++ E z := by
  refine zs_ind H (P := fun x => z ∈ E x → ∃ l, E x = l ++ E z) ?_ ?_ hx hz
  · intro h; rw [zs_E0 H, List.mem_singleton] at h; rw [h]; exact ⟨[], rfl⟩
  · intro x hx hr _ ih h
    by_cases q : z = x
    · rw [q]; exact ⟨[], rfl⟩
    · rw [zs_E1 H hx hr, List.mem_cons] at h
      rcases h with h | h
      · exact absurd h q
      · obtain ⟨l, e⟩ := ih h
        exact ⟨x :: l, by rw [zs_E1 H hx hr, e]; rfl⟩
theorem zs_r (H : zs_I g S M r O F B E) {x : Nat} (hx : O x = true) : r ∈ E x := by
  refine zs_ind H (P := fun x => r ∈ E x) ?_ ?_ hx
  · rw [zs_E0 H]; exact List.mem_cons_self
  · intro x hx hr _ ih
    rw [zs_E1 H hx hr]; exact List.mem_cons_of_mem _ ih
theorem zs_tr (H : zs_I g S M r O F B E) {x y z : Nat} (hx : O x = true) (hy : y ∈ E x) (hz : z ∈ E y) : z ∈ E x := by
  obtain ⟨l, e⟩ := zs_suf H hx hy
  rw [e]; exact List.mem_append_right _ hz
theorem zs_base (H : zs_I g S M r O F B E) {x : Nat} (hx : O x = true) : B x ∈ E x := by
  refine zs_ind H (P := fun x => B x ∈ E x) ?_ ?_ hx
  · rw [zs_br H, zs_E0 H]; exact List.mem_cons_self
  · intro x hx hr _ ih
    by_cases q : B x = x
    · rw [q]; exact zs_in H hx
    · have a := (zs_f H hx q).2.2
      rw [a] at ih
      rw [zs_E1 H hx hr]; exact List.mem_cons_of_mem _ ih
theorem zs_gw (H : zs_I g S M r O F B E) {x z : Nat} (hx : O x = true) (hz : z ∈ E x) : B z = B x ∨ z ∈ E (B x) := by
  refine zs_ind H (P := fun x => z ∈ E x → B z = B x ∨ z ∈ E (B x)) ?_ ?_ hx hz
  · intro h; rw [zs_br H]; exact Or.inr h
  · intro x hx hr _ ih h
    by_cases q : B x = x
    · rw [q]; exact Or.inr h
    · have a := (zs_f H hx q).2.2
      rw [a] at ih
      by_cases q2 : z = x
      · rw [q2]; exact Or.inl rfl
      · rw [zs_E1 H hx hr, List.mem_cons] at h
        rcases h with h | h
        · exact absurd h q2
        · exact ih h
theorem zs_anti (H : zs_I g S M r O F B E) {x y : Nat} (hx : O x = true) (hy : O y = true) (h1 : x ∈ E y) (h2 : y ∈ E x) : x = y := by
  obtain ⟨l1, e1⟩ := zs_suf H hx h2
  obtain ⟨l2, e2⟩ := zs_suf H hy h1
  have a1 := congrArg List.length e1
  have a2 := congrArg List.length e2
  rw [List.length_append] at a1 a2
  have : l1 = [] := List.length_eq_zero_iff.mp (by omega)
  rw [this, List.nil_append] at e1
  obtain ⟨t, e3⟩ := zs_hd H hx
  obtain ⟨t', e4⟩ := zs_hd H hy
  rw [e3, e4] at e1
  exact (List.cons.inj e1).1
/-- two outer points that are paired lie in one ring -/
theorem zs_mm (H : zs_I g S M r O F B E) {x : Nat} (hx : O x = true) (hm : O (M x) = true) : B (M x) = B x := by
  by_cases q : B x = x
  · by_cases q2 : x = r
    · rw [q2, zs_mr H]
    · rw [zs_h H hx q q2] at hm; exact absurd hm (by decide)
  · exact (zs_f H hx q).2.1
theorem zs_nin (H : zs_I g S M r O F B E) {x : Nat} (hx : O x = true) (hr : x ≠ r) : x ∉ E (F (M x)) := by
  intro h
  obtain ⟨l, e⟩ := zs_suf H (zs_b H hx hr).2.2 h
  have a := congrArg List.length e
  rw [zs_E1 H hx hr, List.length_append, List.length_cons] at a
  omega
theorem zs_nd (H : zs_I g S M r O F B E) {x : Nat} (hx : O x = true) : (E x).Nodup := by
  refine zs_ind H (P := fun x => (E x).Nodup) ?_ ?_ hx
  · rw [zs_E0 H]; simp
  · intro x hx hr _ ih
    rw [zs_E1 H hx hr, List.nodup_cons]
    exact ⟨zs_nin H hx hr, ih⟩
theorem zs_len (hS : ∀ v, S v = true → v < 10) (H : zs_I g S M r O F B E) {x : Nat} (hx : O x = true) : (E x).length ≤ 10 :=
  zc_len_le (zs_nd H hx) (fun z hz => hS z (zs_a H (zs_out H hx hz)))
/-- the bases on the way: the next one -/
theorem zs_nx (H : zs_I g S M r O F B E) {x z : Nat} (hx : O x = true) (hr : x ≠ r) (hz : z ∈ E x) (hzb : B z = z) (hne : z ≠ x) : z ∈ E (B (F (M x))) := by
  rw [zs_E1 H hx hr, List.mem_cons] at hz
  have a := (zs_b H hx hr).2.2
  rcases hz with h | h
  · exact absurd h hne
  · rcases zs_gw H a h with b | b
    · rw [hzb] at b
      rw [b]; exact zs_in H (zs_e H a).1
    · exact b
theorem zs_nxl (H : zs_I g S M r O F B E) {x : Nat} (hx : O x = true) (hr : x ≠ r) : (E (B (F (M x)))).length < (E x).length := by
  have a := (zs_b H hx hr).2.2
  obtain ⟨l, e⟩ := zs_suf H a (zs_base H a)
  rw [zs_E1 H hx hr, List.length_cons, e, List.length_append]
  omega
/-- a way up to the ring of c -/
theorem zs_split (H : zs_I g S M r O F B E) {v c : Nat} (hv : O v = true) (hc : c ∈ E v) (hcb : B c = c) : ∃ A h, E v = A ++ E h ∧ O h = true ∧ B h = c ∧ ∀ x, x ∈ A → B x ≠ c := by
  refine zs_ind H (P := fun v => c ∈ E v → ∃ A h, E v = A ++ E h ∧ O h = true ∧ B h = c ∧ ∀ x, x ∈ A → B x ≠ c) ?_ ?_ hv hc
  · intro h
    rw [zs_E0 H, List.mem_singleton] at h
    exact ⟨[], r, rfl, zs_or H, by rw [zs_br H, h], fun x hx => absurd hx (by simp)⟩
  · intro x hx hr _ ih h
    by_cases q : B x = c
    · exact ⟨[], x, rfl, hx, q, fun x hx => absurd hx (by simp)⟩
    · have a : c ≠ x := fun e => q (by rw [← e]; exact hcb)
      rw [zs_E1 H hx hr, List.mem_cons] at h
      rcases h with h | h
      · exact absurd h a
      · obtain ⟨A, h', e1, e2, e3, e4⟩ := ih h
        refine ⟨x :: A, h', by rw [zs_E1 H hx hr, e1]; rfl, e2, e3, fun y hy => ?_⟩
        rw [List.mem_cons] at hy
        rcases hy with hy | hy
        · rw [hy]; exact q
        · exact e4 y hy
end
end
section
/-! an odd ring is drawn together -/
def zu_u (f : Nat → Nat) (k x : Nat) : Nat → Nat := fun j => if j = k then x else f j
theorem zu_s (f : Nat → Nat) (k x : Nat) : zu_u f k x k = x := if_pos rfl
theorem zu_n (f : Nat → Nat) {k x j : Nat} (h : j ≠ k) : zu_u f k x j = f j := if_neg h
/-- the marks along a way, each from the one before -/
def zb_c (M F' : Nat → Nat) : List Nat → Nat → Prop
  | [], _ => True
  | v :: A, ch => F' v = ch ∧ zb_c M F' A (M v)
def zb_k (M : Nat → Nat) : List Nat → (Nat → Nat) → Nat → Nat → Nat
  | [], F, _ => F
  | v :: A, F, ch => zb_k M A (zu_u F v ch) (M v)
theorem zb_k_n (M : Nat → Nat) {y : Nat} : ∀ (A : List Nat) (F : Nat → Nat) (ch : Nat), y ∉ A → zb_k M A F ch y = F y := by
  intro A
  induction A with
  | nil => intro F ch _; rfl
  | cons v A ih =>
    intro F ch h
    rw [List.mem_cons, not_or] at h
    show zb_k M A (zu_u F v ch) (M v) y = F y
    rw [ih _ _ h.2, zu_n _ h.1]
theorem zb_k_c (M : Nat → Nat) : ∀ (A : List Nat) (F : Nat → Nat) (ch : Nat), A.Nodup → zb_c M (zb_k M A F ch) A ch := by
  intro A
  induction A with
  | nil => intro F ch _; exact trivial
  | cons v A ih =>
    intro F ch h
    rw [List.nodup_cons] at h
    refine ⟨?_, ih _ _ h.2⟩
    show zb_k M A (zu_u F v ch) (M v) v = ch
    rw [zb_k_n M A _ _ h.1, zu_s]
theorem zb_c_e {M F1 F2 : Nat → Nat} : ∀ (A : List Nat) (ch : Nat), (∀ y, y ∈ A → F2 y = F1 y) → zb_c M F1 A ch → zb_c M F2 A ch := by
  intro A
  induction A with
  | nil => intro ch _ _; exact trivial
  | cons v A ih =>
    intro ch h hc
    exact ⟨by rw [h v List.mem_cons_self]; exact hc.1, ih _ (fun y hy => h y (List.mem_cons_of_mem _ hy)) hc.2⟩
/-- a way as a list -/
def zb_p (r : Nat) (φ : Nat → Nat) : List Nat → Nat → Prop
  | [], _ => False
  | v :: l, x => v = x ∧ ((x = r ∧ l = []) ∨ (x ≠ r ∧ zb_p r φ l (φ x)))
theorem zb_pu {r : Nat} {φ : Nat → Nat} : ∀ (l l' : List Nat) (x : Nat), zb_p r φ l x → zb_p r φ l' x → l = l' := by
  intro l
  induction l with
  | nil => intro l' x h; exact h.elim
  | cons v l ih =>
    intro l' x h h'
    cases l' with
    | nil => exact h'.elim
    | cons v' l' =>
      obtain ⟨a, b⟩ := h
      obtain ⟨a', b'⟩ := h'
      rcases b with ⟨b1, b2⟩ | ⟨b1, b2⟩
      · rcases b' with ⟨c1, c2⟩ | ⟨c1, c2⟩
        · rw [a, a', b2, c2]
        · exact absurd b1 c1
      · rcases b' with ⟨c1, c2⟩ | ⟨c1, c2⟩
        · exact absurd c1 b1
        · rw [a, a', ih l' (φ x) b2 c2]
def zb_s (M : Nat → Nat) (l : List Nat) : Prop := ∀ v, v ∈ l → ∀ w, w ∈ l → M v = w → v = w
theorem zb_tail {M F' : Nat → Nat} {r : Nat} (hi : ∀ v, M (M v) = v) : ∀ (A : List Nat) (ch : Nat) (lch : List Nat), zb_p r (fun x => F' (M x)) lch ch → zb_s M lch → zb_c M F' A ch →
    (∀ v, v ∈ A → v ∉ lch) → (∀ v, v ∈ A → ∀ w, w ∈ A → M v ≠ w) → (∀ v, v ∈ A → M v ≠ r) →
    ∀ y, y ∈ A → ∃ l, zb_p r (fun x => F' (M x)) l (M y) ∧ zb_s M l ∧ ∀ z, z ∈ l → (∃ w, w ∈ A ∧ z = M w) ∨ z ∈ lch := by
  intro A
  induction A with
  | nil => intro ch lch _ _ _ _ _ _ y hy; exact absurd hy (by simp)
  | cons v A ih =>
    intro ch lch hp hs hc h1 h2 h3 y hy
    have hv := h1 v List.mem_cons_self
    have p0 : zb_p r (fun x => F' (M x)) (M v :: lch) (M v) := ⟨rfl, Or.inr ⟨h3 v List.mem_cons_self, by
      show zb_p r (fun x => F' (M x)) lch (F' (M (M v)))
      rw [hi, hc.1]; exact hp⟩⟩
    have s0 : zb_s M (M v :: lch) := fun p hp q hq e => by
      rw [List.mem_cons] at hp hq
      rcases hp with hp | hp
      · rcases hq with hq | hq
        · rw [hp, hq]
        · rw [hp, hi] at e
          exact absurd (e ▸ hq) hv
      · rcases hq with hq | hq
        · have : p = v := by rw [← hi p, e, hq, hi]
          exact absurd (this ▸ hp) hv
        · exact hs p hp q hq e
    rw [List.mem_cons] at hy
    rcases hy with hy | hy
    · rw [hy]
      refine ⟨M v :: lch, p0, s0, fun z hz => ?_⟩
      rw [List.mem_cons] at hz
      rcases hz with hz | hz
      · exact Or.inl ⟨v, List.mem_cons_self, hz⟩
      · exact Or.inr hz
    · obtain ⟨l, q1, q2, q3⟩ := ih (M v) (M v :: lch) p0 s0 hc.2 (fun w hw hm => by
        rw [List.mem_cons] at hm
        rcases hm with hm | hm
        · exact h2 v List.mem_cons_self w (List.mem_cons_of_mem _ hw) hm.symm
        · exact h1 w (List.mem_cons_of_mem _ hw) hm) (fun p hp q hq => h2 p (List.mem_cons_of_mem _ hp) q (List.mem_cons_of_mem _ hq)) (fun p hp => h3 p (List.mem_cons_of_mem _ hp)) y hy
      refine ⟨l, q1, q2, fun z hz => ?_⟩
      rcases q3 z hz with ⟨w, hw, e⟩ | hz
      · exact Or.inl ⟨w, List.mem_cons_of_mem _ hw, e⟩
      · rw [List.mem_cons] at hz
        rcases hz with hz | hz
        · exact Or.inl ⟨v, List.mem_cons_self, hz⟩
        · exact Or.inr hz
section
variable {g : Nat → Nat → Bool} {S O : Nat → Bool} {M F B : Nat → Nat} {r : Nat} {E : Nat → List Nat}
/-- one way up to the ring of c: E a = A ++ E h -/
theorem zb_1 (H : zs_I g S M r O F B E) {h : Nat} (hh : O h = true) : ∀ (A : List Nat) (a : Nat), O a = true → E a = A ++ E h → ∀ x, x ∈ A → x ≠ r ∧ O x = true ∧ x ∈ E a ∧ h ∈ E x ∧ (F (M x) ∈ A ∨ F (M x) = h) := by
  intro A
  induction A with
  | nil => intro a _ _ x hx; exact absurd hx (by simp)
  | cons v A ih =>
    intro a ha e x hx
    obtain ⟨t, et⟩ := zs_hd H hh
    have hv : v = a := by
      obtain ⟨t', et'⟩ := zs_hd H ha
      rw [et'] at e
      exact (List.cons.inj e).1.symm
    subst hv
    have hr : v ≠ r := fun q => by
      rw [q, zs_E0 H] at e
      have := congrArg List.length e
      rw [et] at this
      simp at this
    have e2 : E (F (M v)) = A ++ E h := by
      rw [zs_E1 H ha hr] at e
      exact (List.cons.inj e).2
    have hn := (zs_b H ha hr).2.2
    rw [List.mem_cons] at hx
    rcases hx with hx | hx
    · rw [hx]
      refine ⟨hr, ha, zs_in H ha, ?_, ?_⟩
      · rw [e]; exact List.mem_append_right _ (zs_in H hh)
      · obtain ⟨t', et'⟩ := zs_hd H hn
        cases A with
        | nil =>
          rw [List.nil_append, et', et] at e2
          exact Or.inr (List.cons.inj e2).1
        | cons y A =>
          rw [et'] at e2
          exact Or.inl (by rw [(List.cons.inj e2).1]; exact List.mem_cons_of_mem _ List.mem_cons_self)
    · obtain ⟨q1, q2, q3, q4, q5⟩ := ih _ hn e2 x hx
      refine ⟨q1, q2, ?_, q4, ?_⟩
      · rw [zs_E1 H ha hr]; exact List.mem_cons_of_mem _ q3
      · exact q5.imp (List.mem_cons_of_mem _) id
/-- what is marked along it -/
theorem zb_2 (H : zs_I g S M r O F B E) {F' : Nat → Nat} {h : Nat} (hh : O h = true) : ∀ (A : List Nat) (a ch : Nat), O a = true → E a = A ++ E h → zb_c M F' A ch → ∀ y, y ∈ A → (y = a ∧ F' y = ch) ∨ ∃ y', y' ∈ A ∧ F (M y') = y ∧ F' y = M y' := by
  intro A
  induction A with
  | nil => intro a ch _ _ _ y hy; exact absurd hy (by simp)
  | cons v A ih =>
    intro a ch ha e hc y hy
    have hv : v = a := by
      obtain ⟨t', et'⟩ := zs_hd H ha
      rw [et'] at e
      exact (List.cons.inj e).1.symm
    have hr := (zb_1 H hh (v :: A) a ha e v List.mem_cons_self).1
    subst hv
    have e2 : E (F (M v)) = A ++ E h := by
      rw [zs_E1 H ha hr] at e
      exact (List.cons.inj e).2
    have hn := (zs_b H ha hr).2.2
    rw [List.mem_cons] at hy
    rcases hy with hy | hy
    · rw [hy]; exact Or.inl ⟨rfl, hc.1⟩
    · rcases ih _ _ hn e2 hc.2 y hy with ⟨q1, q2⟩ | ⟨y', q1, q2, q3⟩
      · exact Or.inr ⟨v, List.mem_cons_self, q1.symm, q2⟩
      · exact Or.inr ⟨y', List.mem_cons_of_mem _ q1, q2, q3⟩
/-- the side of a: A is outside the ring of c and of what lies beyond -/
def zb_S (O : Nat → Bool) (B : Nat → Nat) (E : Nat → List Nat) (c a h : Nat) (A : List Nat) : Prop :=
  O a = true ∧ O h = true ∧ E a = A ++ E h ∧ B h = c ∧ (∀ x, x ∈ A → B x ≠ c)
theorem zb_S3 (H : zs_I g S M r O F B E) {c a h : Nat} {A : List Nat} (hcb : B c = c) (s : zb_S O B E c a h A) {x : Nat} (hx : x ∈ A) : B x ∉ E c := by
  obtain ⟨ha, hh, e, hb, hA⟩ := s
  obtain ⟨q1, q2, q3, q4, q5⟩ := zb_1 H hh A a ha e x hx
  intro hc
  have hcx : c ∈ E x := zs_tr H q2 q4 (by rw [← hb]; exact zs_base H hh)
  have hOc : O c = true := zs_out H q2 hcx
  rcases zs_gw H q2 hcx with k | k
  · rw [hcb] at k
    exact hA x hx k.symm
  · exact hA x hx (zs_anti H (zs_e H q2).1 hOc hc k)
theorem zb_S4 (H : zs_I g S M r O F B E) {c a h : Nat} {A : List Nat} (s : zb_S O B E c a h A) {z : Nat} (hz : z ∈ E a) : z ∈ A ∨ B z ∈ E c := by
  obtain ⟨ha, hh, e, hb, hA⟩ := s
  rw [e, List.mem_append] at hz
  rcases hz with hz | hz
  · exact Or.inl hz
  · refine Or.inr ?_
    have hOc : O c = true := by rw [← hb]; exact (zs_e H hh).1
    rcases zs_gw H hh hz with k | k
    · rw [k, hb]; exact zs_in H hOc
    · rw [hb] at k
      exact zs_tr H hOc k (zs_base H (zs_out H hOc k))
theorem zb_S7 (H : zs_I g S M r O F B E) {c a h : Nat} {A : List Nat} (hcb : B c = c) (s : zb_S O B E c a h A) {x : Nat} (hx : x ∈ A) : B x ∈ A := by
  have q := zb_1 H s.2.1 A a s.1 s.2.2.1 x hx
  rcases zb_S4 H s (zs_tr H s.1 q.2.2.1 (zs_base H q.2.1)) with k | k
  · exact k
  · rw [(zs_e H q.2.1).2] at k
    exact absurd k (zb_S3 H hcb s hx)
theorem zb_Sh (H : zs_I g S M r O F B E) {c a h : Nat} {A : List Nat} (s : zb_S O B E c a h A) : a ∈ A ∨ B a = c := by
  obtain ⟨ha, hh, e, hb, hA⟩ := s
  obtain ⟨t, et⟩ := zs_hd H ha
  obtain ⟨t', et'⟩ := zs_hd H hh
  cases A with
  | nil =>
    rw [List.nil_append, et, et'] at e
    exact Or.inr (by rw [(List.cons.inj e).1]; exact hb)
  | cons v A =>
    rw [et] at e
    exact Or.inl (by rw [(List.cons.inj e).1]; exact List.mem_cons_self)
end
end
section
/-! both ways up to the common base c -/
def zb_X (g : Nat → Nat → Bool) (O : Nat → Bool) (B : Nat → Nat) (E : Nat → List Nat) (c a h : Nat) (A : List Nat) (b h' : Nat) (A' : List Nat) : Prop :=
  g a b = true ∧ B c = c ∧ zb_S O B E c a h A ∧ zb_S O B E c b h' A' ∧ ∀ z, B z = z → z ∈ E a → z ∈ E b → z ∈ E c
section
variable {g : Nat → Nat → Bool} {S O : Nat → Bool} {M F B : Nat → Nat} {r : Nat} {E : Nat → List Nat} {c a h b h' : Nat} {A A' : List Nat}
theorem zb_sym (hg : ∀ u v, g u v = g v u) (X : zb_X g O B E c a h A b h' A') : zb_X g O B E c b h' A' a h A :=
  ⟨by rw [hg]; exact X.1, X.2.1, X.2.2.2.1, X.2.2.1, fun z k1 k2 k3 => X.2.2.2.2 z k1 k3 k2⟩
theorem zb_a (H : zs_I g S M r O F B E) (X : zb_X g O B E c a h A b h' A') {x : Nat} (hx : x ∈ A) : x ≠ r ∧ O x = true ∧ B x ∉ E c ∧ M x ≠ x ∧ x ∈ E a := by
  have s := X.2.2.1
  obtain ⟨q1, q2, q3, q4, q5⟩ := zb_1 H s.2.1 A a s.1 s.2.2.1 x hx
  exact ⟨q1, q2, zb_S3 H X.2.1 s hx, (zs_b H q2 q1).1, q3⟩
theorem zb_d (hg : ∀ u v, g u v = g v u) (H : zs_I g S M r O F B E) (X : zb_X g O B E c a h A b h' A') {x : Nat} (hx : x ∈ A ∨ x ∈ A') : x ≠ r ∧ O x = true ∧ B x ∉ E c ∧ M x ≠ x := by
  rcases hx with hx | hx
  · have q := zb_a H X hx; exact ⟨q.1, q.2.1, q.2.2.1, q.2.2.2.1⟩
  · have q := zb_a H (zb_sym hg X) hx; exact ⟨q.1, q.2.1, q.2.2.1, q.2.2.2.1⟩
theorem zb_d1 (H : zs_I g S M r O F B E) (X : zb_X g O B E c a h A b h' A') {x : Nat} (hx : x ∈ A) : x ∉ E b := by
  intro hb
  have q := zb_a H X hx
  have k1 := zs_tr H X.2.2.2.1.1 hb (zs_base H q.2.1)
  have k2 := zs_tr H X.2.2.1.1 q.2.2.2.2 (zs_base H q.2.1)
  exact q.2.2.1 (X.2.2.2.2 _ (zs_e H q.2.1).2 k2 k1)
theorem zb_d2 (hg : ∀ u v, g u v = g v u) (H : zs_I g S M r O F B E) (X : zb_X g O B E c a h A b h' A') {x : Nat} (hx : x ∈ A ∨ x ∈ A') : M x ∉ E a := by
  intro hm
  have s := X.2.2.1
  have q0 := zb_d hg H X hx
  have hO := zs_out H s.1 hm
  rcases hx with hx | hx
  · have q := zb_a H X hx
    exact q0.2.2.2 (zs_E2 H s.1 q.2.2.2.2 hm)
  · have q := zb_a H (zb_sym hg X) hx
    have k := zs_tr H s.1 hm (zs_base H hO)
    rw [zs_mm H q.2.1 hO] at k
    have k2 := zs_tr H X.2.2.2.1.1 q.2.2.2.2 (zs_base H q.2.1)
    exact q.2.2.1 (X.2.2.2.2 _ (zs_e H q.2.1).2 k k2)
theorem zb_d2' (hg : ∀ u v, g u v = g v u) (H : zs_I g S M r O F B E) (X : zb_X g O B E c a h A b h' A') {x : Nat} (hx : x ∈ A ∨ x ∈ A') : M x ∉ E b :=
  zb_d2 hg H (zb_sym hg X) hx.symm
theorem zb_d3 (hg : ∀ u v, g u v = g v u) (H : zs_I g S M r O F B E) (X : zb_X g O B E c a h A b h' A') {x : Nat} (hx : x ∈ A ∨ x ∈ A') : ¬ (M x ∈ A ∨ M x ∈ A') := by
  intro hm
  rcases hm with hm | hm
  · exact zb_d2 hg H X hx (zb_a H X hm).2.2.2.2
  · exact zb_d2' hg H X hx (zb_a H (zb_sym hg X) hm).2.2.2.2
/-- no way from a ring point meets a turned point -/
theorem zb_x1 (hg : ∀ u v, g u v = g v u) (H : zs_I g S M r O F B E) (X : zb_X g O B E c a h A b h' A') {x w : Nat} (hx : x ∈ A ∨ x ∈ A') (hw : w ∈ A ∨ w ∈ A') : M w ∉ E x := by
  intro hm
  rcases hx with hx | hx
  · exact zb_d2 hg H X hw (zs_tr H X.2.2.1.1 (zb_a H X hx).2.2.2.2 hm)
  · exact zb_d2' hg H X hw (zs_tr H X.2.2.2.1.1 (zb_a H (zb_sym hg X) hx).2.2.2.2 hm)
theorem zb_x2 (hg : ∀ u v, g u v = g v u) (H : zs_I g S M r O F B E) (X : zb_X g O B E c a h A b h' A') {x w : Nat} (hO : O x = true) (hx : ¬ (M x ∈ A ∨ M x ∈ A')) (hw : w ∈ A ∨ w ∈ A') (hm : M w ∈ E x) (hb : M x ∈ E a) : False := by
  have hOm := zs_out H X.2.2.1.1 hb
  have k1 := zs_mm H hO hOm
  have k2 : B (M x) ∈ E c := by
    rcases zb_S4 H X.2.2.1 hb with k | k
    · exact absurd (Or.inl k) hx
    · exact k
  rw [k1] at k2
  have hOc : O c = true := by rw [← X.2.2.1.2.2.2.1]; exact (zs_e H X.2.2.1.2.1).1
  have hOw := zs_out H hO hm
  have q := zb_d hg H X hw
  have k3 := zs_mm H q.2.1 hOw
  refine q.2.2.1 ?_
  rw [← k3]
  rcases zs_gw H hO hm with k | k
  · rw [k]; exact k2
  · exact zs_tr H hOc (zs_tr H hOc k2 k) (zs_base H hOw)
/-- a way that no turned point meets is kept -/
theorem zb_keep {F' : Nat → Nat} {D : Nat → Prop} (H : zs_I g S M r O F B E) (hF : ∀ y, ¬ D y → F' y = F y) {x : Nat} (hx : O x = true) (hk : ∀ z, z ∈ E x → ¬ D (M z)) : zb_p r (fun x => F' (M x)) (E x) x := by
  refine zs_ind H (P := fun x => (∀ z, z ∈ E x → ¬ D (M z)) → zb_p r (fun x => F' (M x)) (E x) x) ?_ ?_ hx hk
  · intro _; rw [zs_E0 H]; exact ⟨rfl, Or.inl ⟨rfl, rfl⟩⟩
  · intro x hx hr _ ih hk
    have e := zs_E1 H hx hr
    rw [e]
    refine ⟨rfl, Or.inr ⟨hr, ?_⟩⟩
    show zb_p r (fun x => F' (M x)) (E (F (M x))) (F' (M x))
    rw [hF _ (hk x (zs_in H hx))]
    exact ih (fun z hz => hk z (by rw [e]; exact List.mem_cons_of_mem _ hz))
theorem zb_kb (hg : ∀ u v, g u v = g v u) {F' : Nat → Nat} (H : zs_I g S M r O F B E) (X : zb_X g O B E c a h A b h' A') (hF : ∀ y, ¬ (y ∈ A ∨ y ∈ A') → F' y = F y) : zb_p r (fun x => F' (M x)) (E b) b :=
  zb_keep H hF X.2.2.2.1.1 (fun z hz hd => zb_d2' hg H X hd (by rw [zm_inv (zs_ma H)]; exact hz))
/-- the turned points of one side have ways -/
theorem zb_tl (hg : ∀ u v, g u v = g v u) {F' : Nat → Nat} (H : zs_I g S M r O F B E) (X : zb_X g O B E c a h A b h' A') (hF : ∀ y, ¬ (y ∈ A ∨ y ∈ A') → F' y = F y) (hc : zb_c M F' A b) {y : Nat} (hy : y ∈ A) :
    ∃ l, zb_p r (fun x => F' (M x)) l (M y) ∧ zb_s M l ∧ ∀ z, z ∈ l → (∃ w, w ∈ A ∧ z = M w) ∨ z ∈ E b :=
  zb_tail (zm_inv (zs_ma H)) A b (E b) (zb_kb hg H X hF) (fun v hv w hw e => (zs_E2 H X.2.2.2.1.1 hv (by rw [e]; exact hw)).symm.trans e) hc (fun v hv => zb_d1 H X hv)
    (fun v hv w hw e => zb_d3 hg H X (Or.inl hv) (Or.inl (by rw [e]; exact hw)))
    (fun v hv e => (zb_a H X hv).1 (by rw [zm_eq (zs_ma H) e |>.symm, zs_mr H])) y hy
/-- every old outer point has a way again -/
theorem zb_new (hg : ∀ u v, g u v = g v u) {F' : Nat → Nat} (H : zs_I g S M r O F B E) (X : zb_X g O B E c a h A b h' A') (hF : ∀ y, ¬ (y ∈ A ∨ y ∈ A') → F' y = F y) (hc : zb_c M F' A b) (hc' : zb_c M F' A' a) {x : Nat} (hx : O x = true) :
    ∃ l, zb_p r (fun x => F' (M x)) l x ∧ zb_s M l ∧ ∀ z, z ∈ l → z ∈ E x ∨ ((∃ w, w ∈ A ∧ M w ∈ E x) ∧ ((∃ w, w ∈ A ∧ z = M w) ∨ z ∈ E b)) ∨ ((∃ w, w ∈ A' ∧ M w ∈ E x) ∧ ((∃ w, w ∈ A' ∧ z = M w) ∨ z ∈ E a)) := by
  refine zs_ind H (P := fun x => ∃ l, zb_p r (fun x => F' (M x)) l x ∧ zb_s M l ∧ ∀ z, z ∈ l → z ∈ E x ∨ ((∃ w, w ∈ A ∧ M w ∈ E x) ∧ ((∃ w, w ∈ A ∧ z = M w) ∨ z ∈ E b)) ∨ ((∃ w, w ∈ A' ∧ M w ∈ E x) ∧ ((∃ w, w ∈ A' ∧ z = M w) ∨ z ∈ E a))) ?_ ?_ hx
  · refine ⟨[r], ⟨rfl, Or.inl ⟨rfl, rfl⟩⟩, fun v hv w hw _ => ?_, fun z hz => Or.inl (by rw [zs_E0 H]; exact hz)⟩
    rw [List.mem_singleton] at hv hw
    rw [hv, hw]
  · intro x hx hr _ ih
    have hi := zm_inv (zs_ma H)
    by_cases q1 : M x ∈ A
    · obtain ⟨l, k1, k2, k3⟩ := zb_tl hg H X hF hc q1
      rw [hi] at k1
      exact ⟨l, k1, k2, fun z hz => Or.inr (Or.inl ⟨⟨M x, q1, by rw [hi]; exact zs_in H hx⟩, k3 z hz⟩)⟩
    · by_cases q2 : M x ∈ A'
      · obtain ⟨l, k1, k2, k3⟩ := zb_tl hg H (zb_sym hg X) (fun y hy => hF y (fun z => hy z.symm)) hc' q2
        rw [hi] at k1
        exact ⟨l, k1, k2, fun z hz => Or.inr (Or.inr ⟨⟨M x, q2, by rw [hi]; exact zs_in H hx⟩, k3 z hz⟩)⟩
      · have q3 : ¬ (M x ∈ A ∨ M x ∈ A') := fun z => z.elim q1 q2
        obtain ⟨l, k1, k2, k3⟩ := ih
        have e := zs_E1 H hx hr
        have sub : ∀ z, z ∈ E (F (M x)) → z ∈ E x := fun z hz => by rw [e]; exact List.mem_cons_of_mem _ hz
        have key : M x ∈ l → False := fun hm => by
          rcases k3 _ hm with p | ⟨⟨w, w1, w2⟩, p⟩ | ⟨⟨w, w1, w2⟩, p⟩
          · exact (zs_b H hx hr).1 (zs_E2 H hx (zs_in H hx) (sub _ p))
          · rcases p with ⟨w', p1, p2⟩ | p
            · have : x = w' := by rw [← hi x, p2, hi]
              exact zb_x1 hg H X (Or.inl (this ▸ p1)) (Or.inl w1) (sub _ w2)
            · exact zb_x2 hg H (zb_sym hg X) hx (fun z => q3 z.symm) (Or.inr w1) (sub _ w2) p
          · rcases p with ⟨w', p1, p2⟩ | p
            · have : x = w' := by rw [← hi x, p2, hi]
              exact zb_x1 hg H X (Or.inr (this ▸ p1)) (Or.inr w1) (sub _ w2)
            · exact zb_x2 hg H X hx q3 (Or.inr w1) (sub _ w2) p
        refine ⟨x :: l, ⟨rfl, Or.inr ⟨hr, ?_⟩⟩, fun v hv w hw ev => ?_, fun z hz => ?_⟩
        · show zb_p r (fun x => F' (M x)) l (F' (M x))
          rw [hF _ q3]; exact k1
        · rw [List.mem_cons] at hv hw
          rcases hv with hv | hv
          · rcases hw with hw | hw
            · rw [hv, hw]
            · rw [hv] at ev
              exact (key (by rw [ev]; exact hw)).elim
          · rcases hw with hw | hw
            · have : M x = v := by rw [← hw, ← ev, hi]
              exact (key (by rw [this]; exact hv)).elim
            · exact k2 v hv w hw ev
        · rw [List.mem_cons] at hz
          rcases hz with hz | hz
          · rw [hz]; exact Or.inl (zs_in H hx)
          · rcases k3 z hz with p | ⟨⟨w, w1, w2⟩, p⟩ | ⟨⟨w, w1, w2⟩, p⟩
            · exact Or.inl (sub _ p)
            · exact Or.inr (Or.inl ⟨⟨w, w1, sub _ w2⟩, p⟩)
            · exact Or.inr (Or.inr ⟨⟨w, w1, sub _ w2⟩, p⟩)
/-- ways of all outer points, as one function -/
theorem zb_ways {φ : Nat → Nat} {O' : Nat → Bool} (hr : O' r = true) (hφ : ∀ x, O' x = true → x ≠ r → O' (φ x) = true) (hw : ∀ x, O' x = true → ∃ l, zb_p r φ l x ∧ zb_s M l) :
    ∃ E' : Nat → List Nat, E' r = [r] ∧ (∀ x, O' x = true → x ≠ r → E' x = x :: E' (φ x)) ∧ ∀ x, O' x = true → ∀ v, v ∈ E' x → ∀ w, w ∈ E' x → M v = w → v = w := by
  obtain ⟨E', hE⟩ := Classical.skolem.mp (fun x => by
    by_cases q : O' x = true
    · obtain ⟨l, k⟩ := hw x q
      exact ⟨l, fun _ => k⟩
    · exact ⟨[], fun z => absurd z q⟩ : ∀ x, ∃ l, O' x = true → zb_p r φ l x ∧ zb_s M l)
  refine ⟨E', ?_, fun x hx hxr => ?_, fun x hx => (hE x hx).2⟩
  · exact zb_pu _ _ r (hE r hr).1 ⟨rfl, Or.inl ⟨rfl, rfl⟩⟩
  · exact zb_pu _ _ x (hE x hx).1 ⟨rfl, Or.inr ⟨hxr, (hE _ (hφ x hx hxr)).1⟩⟩
end
end
section
/-! the state after the drawing together -/
section
variable {g : Nat → Nat → Bool} {S O : Nat → Bool} {M F B : Nat → Nat} {r : Nat} {E : Nat → List Nat} {c a h b h' : Nat} {A A' : List Nat} {R : Nat → Bool} {F' : Nat → Nat}
theorem zr_no (hg : ∀ u v, g u v = g v u) (H : zs_I g S M r O F B E) (X : zb_X g O B E c a h A b h' A') (hR : ∀ z, R z = true ↔ ∃ x, (x ∈ A ∨ x ∈ A') ∧ (z = B x ∨ z = B (M x))) {z : Nat} (hz : z ∈ E c) : R z = false := by
  cases hq : R z
  · rfl
  · obtain ⟨x, hx, e⟩ := (hR z).mp hq
    have q := zb_d hg H X hx
    have hOc : O c = true := by rw [← X.2.2.1.2.2.2.1]; exact (zs_e H X.2.2.1.2.1).1
    rcases e with e | e
    · exact absurd (e ▸ hz) q.2.2.1
    · cases hm : O (M x)
      · rw [zs_d H hm] at e
        have := zs_out H hOc hz
        rw [e, hm] at this
        exact absurd this (by decide)
      · rw [zs_mm H q.2.1 hm] at e
        exact absurd (e ▸ hz) q.2.2.1
theorem zr_o (hg : ∀ u v, g u v = g v u) (H : zs_I g S M r O F B E) (X : zb_X g O B E c a h A b h' A') (hR : ∀ z, R z = true ↔ ∃ x, (x ∈ A ∨ x ∈ A') ∧ (z = B x ∨ z = B (M x))) {x : Nat} (hx : O x = true) (hr : R (B x) = true) : ∃ y, (y ∈ A ∨ y ∈ A') ∧ B x = B y := by
  obtain ⟨y, hy, e⟩ := (hR _).mp hr
  have q := zb_d hg H X hy
  rcases e with e | e
  · exact ⟨y, hy, e⟩
  · cases hm : O (M y)
    · rw [zs_d H hm] at e
      have := (zs_e H hx).1
      rw [e, hm] at this
      exact absurd this (by decide)
    · rw [zs_mm H q.2.1 hm] at e
      exact ⟨y, hy, e⟩
theorem zr_i (hg : ∀ u v, g u v = g v u) (H : zs_I g S M r O F B E) (X : zb_X g O B E c a h A b h' A') (hR : ∀ z, R z = true ↔ ∃ x, (x ∈ A ∨ x ∈ A') ∧ (z = B x ∨ z = B (M x))) {x : Nat} (hx : O x = false) (hr : R (B x) = true) : ∃ y, (y ∈ A ∨ y ∈ A') ∧ x = M y := by
  obtain ⟨y, hy, e⟩ := (hR _).mp hr
  have q := zb_d hg H X hy
  rw [zs_d H hx] at e
  rcases e with e | e
  · have := (zs_e H q.2.1).1
    rw [← e, hx] at this
    exact absurd this (by decide)
  · cases hm : O (M y)
    · rw [zs_d H hm] at e; exact ⟨y, hy, e⟩
    · have := (zs_e H hm).1
      rw [← e, hx] at this
      exact absurd this (by decide)
theorem zr_base (H : zs_I g S M r O F B E) (hg : ∀ u v, g u v = g v u) (X : zb_X g O B E c a h A b h' A') {y : Nat} (hy : y ∈ A ∨ y ∈ A') : B y ∈ A ∨ B y ∈ A' :=
  hy.imp (zb_S7 H X.2.1 X.2.2.1) (zb_S7 H X.2.1 X.2.2.2.1)
/-- the facts of a marked point -/
theorem zr_F1 (hS : ∀ v, S v = true → v < 10) (hg : ∀ u v, g u v = g v u) (H : zs_I g S M r O F B E) (X : zb_X g O B E c a h A b h' A') (hc : zb_c M F' A b) {y : Nat} (hy : y ∈ A) :
    g (F' y) y = true ∧ F' y < 10 ∧ ((F' y = b) ∨ ∃ y', y' ∈ A ∧ F' y = M y') := by
  have s := X.2.2.1
  rcases zb_2 H s.2.1 A a b s.1 s.2.2.1 hc y hy with ⟨e1, e2⟩ | ⟨y', k1, k2, k3⟩
  · rw [e2, e1]
    exact ⟨by rw [hg]; exact X.1, hS _ (zs_a H X.2.2.2.1.1), Or.inl rfl⟩
  · have q := zb_a H X k1
    have q2 := zs_b H q.2.1 q.1
    have q3 := zs_c H q2.2.1
    rw [k3]
    refine ⟨?_, hS _ (zm_in (zs_ma H) q2.1), Or.inr ⟨y', k1, rfl⟩⟩
    rw [k2] at q3
    rw [hg]; exact q3.1
theorem zr_draw (hS : ∀ v, S v = true → v < 10) (hg : ∀ u v, g u v = g v u) (H : zs_I g S M r O F B E) (X : zb_X g O B E c a h A b h' A')
    (hR : ∀ z, R z = true ↔ ∃ x, (x ∈ A ∨ x ∈ A') ∧ (z = B x ∨ z = B (M x)))
    (hF : ∀ y, ¬ (y ∈ A ∨ y ∈ A') → F' y = F y) (hc : zb_c M F' A b) (hc' : zb_c M F' A' a)
    {O' : Nat → Bool} {B' : Nat → Nat} (hO' : ∀ x, O' x = (O x || R (B x))) (hB' : ∀ x, B' x = if R (B x) = true then c else B x) :
    (∃ E', zs_I g S M r O' F' B' E') ∧ B' a = c ∧ B' b = c := by
  have hi := zm_inv (zs_ma H)
  have X' := zb_sym hg X
  have hcb := X.2.1
  have hOc : O c = true := by rw [← X.2.2.1.2.2.2.1]; exact (zs_e H X.2.2.1.2.1).1
  have hRc : R c = false := zr_no hg H X hR (zs_in H hOc)
  have hRr : R r = false := zr_no hg H X hR (zs_r H hOc)
  have Bt : ∀ x, R (B x) = true → B' x = c := fun x k => by rw [hB', if_pos k]
  have Bf : ∀ x, R (B x) = false → B' x = B x := fun x k => by rw [hB', if_neg (by rw [k]; decide)]
  have Ot : ∀ x, R (B x) = true → O' x = true := fun x k => by rw [hO', k, Bool.or_true]
  have Oo : ∀ x, O x = true → O' x = true := fun x k => by rw [hO', k, Bool.true_or]
  have Of : ∀ x, R (B x) = false → O' x = O x := fun x k => by rw [hO', k, Bool.or_false]
  have D1 : ∀ y, (y ∈ A ∨ y ∈ A') → R (B y) = true := fun y k => (hR _).mpr ⟨y, k, Or.inl rfl⟩
  have D2 : ∀ y, (y ∈ A ∨ y ∈ A') → R (B (M y)) = true := fun y k => (hR _).mpr ⟨y, k, Or.inr rfl⟩
  have Ba : B' a = c := by
    rcases zb_Sh H X.2.2.1 with k | k
    · exact Bt _ (D1 _ (Or.inl k))
    · rw [Bf _ (by rw [k]; exact hRc), k]
  have Bb : B' b = c := by
    rcases zb_Sh H X.2.2.2.1 with k | k
    · exact Bt _ (D1 _ (Or.inr k))
    · rw [Bf _ (by rw [k]; exact hRc), k]
  have hOa := X.2.2.1.1
  have hOb := X.2.2.2.1.1
  -- a marked point's new link
  have FD : ∀ y, (y ∈ A ∨ y ∈ A') → g (F' y) y = true ∧ F' y < 10 ∧ O' (F' y) = true ∧ B' (F' y) = c := fun y k => by
    rcases k with k | k
    · obtain ⟨k1, k2, k3⟩ := zr_F1 hS hg H X hc k
      refine ⟨k1, k2, ?_⟩
      rcases k3 with k3 | ⟨y', k3, k4⟩
      · rw [k3]; exact ⟨Oo _ hOb, Bb⟩
      · rw [k4]; exact ⟨Ot _ (D2 _ (Or.inl k3)), Bt _ (D2 _ (Or.inl k3))⟩
    · obtain ⟨k1, k2, k3⟩ := zr_F1 hS hg H X' hc' k
      refine ⟨k1, k2, ?_⟩
      rcases k3 with k3 | ⟨y', k3, k4⟩
      · rw [k3]; exact ⟨Oo _ hOa, Ba⟩
      · rw [k4]; exact ⟨Ot _ (D2 _ (Or.inr k3)), Bt _ (D2 _ (Or.inr k3))⟩
  have NW : ∀ x, O' x = true → O x = false → ∃ y, (y ∈ A ∨ y ∈ A') ∧ x = M y := fun x k1 k2 => by
    rw [hO', k2, Bool.false_or] at k1
    exact zr_i hg H X hR k2 k1
  have nextD : ∀ x, (x ∈ A ∨ x ∈ A') → B' (F (M x)) = c := fun x k => by
    rcases k with k | k
    · have s := X.2.2.1
      rcases (zb_1 H s.2.1 A a s.1 s.2.2.1 x k).2.2.2.2 with p | p
      · exact Bt _ (D1 _ (Or.inl p))
      · rw [p, Bf _ (by rw [s.2.2.2.1]; exact hRc), s.2.2.2.1]
    · have s := X.2.2.2.1
      rcases (zb_1 H s.2.1 A' b s.1 s.2.2.1 x k).2.2.2.2 with p | p
      · exact Bt _ (D1 _ (Or.inr p))
      · rw [p, Bf _ (by rw [s.2.2.2.1]; exact hRc), s.2.2.2.1]
  have hb' : ∀ x, O' x = true → x ≠ r → M x ≠ x ∧ F' (M x) < 10 ∧ O' (F' (M x)) = true := fun x k1 k2 => by
    cases ho : O x
    · obtain ⟨y, k3, k4⟩ := NW x k1 ho
      have q := FD y k3
      rw [k4, hi]
      exact ⟨fun z => (zb_d hg H X k3).2.2.2 z.symm, q.2.1, q.2.2.1⟩
    · have q := zs_b H ho k2
      by_cases k3 : M x ∈ A ∨ M x ∈ A'
      · have q2 := FD _ k3
        exact ⟨q.1, q2.2.1, q2.2.2.1⟩
      · rw [hF _ k3]; exact ⟨q.1, q.2.1, Oo _ q.2.2⟩
  refine ⟨?_, Ba, Bb⟩
  obtain ⟨E', w1, w2, w3⟩ := zb_ways (M := M) (r := r) (φ := fun x => F' (M x)) (O' := O') (Oo _ (zs_or H)) (fun x k1 k2 => (hb' x k1 k2).2.2) (fun x k1 => by
    cases ho : O x
    · obtain ⟨y, k3, k4⟩ := NW x k1 ho
      rw [k4]
      rcases k3 with k3 | k3
      · obtain ⟨l, p1, p2, p3⟩ := zb_tl hg H X hF hc k3
        exact ⟨l, p1, p2⟩
      · obtain ⟨l, p1, p2, p3⟩ := zb_tl hg H X' (fun y hy => hF y (fun z => hy z.symm)) hc' k3
        exact ⟨l, p1, p2⟩
    · obtain ⟨l, p1, p2, p3⟩ := zb_new hg H X hF hc hc' ho
      exact ⟨l, p1, p2⟩)
  refine ⟨E', ⟨zs_ma H, Oo _ (zs_or H), zs_mr H, ?_⟩, ?_, hb', ?_, ?_, ?_, ?_, ?_, w1, w2, w3⟩
  · rw [Bf _ (by rw [zs_br H]; exact hRr), zs_br H]
  · intro x k1
    cases ho : O x
    · obtain ⟨y, k3, k4⟩ := NW x k1 ho
      rw [k4]; exact zm_in (zs_ma H) (zb_d hg H X k3).2.2.2
    · exact zs_a H ho
  · intro w k1
    by_cases k2 : w ∈ A ∨ w ∈ A'
    · have q := FD w k2
      exact ⟨q.1, q.2.2.1, (zb_d hg H X k2).2.2.2, Ot _ (D2 w k2)⟩
    · rw [hF _ k2] at k1 ⊢
      have q := zs_c H k1
      exact ⟨q.1, Oo _ q.2.1, q.2.2.1, Oo _ q.2.2.2⟩
  · intro x k1
    have k2 : O x = false ∧ R (B x) = false := by
      rw [hO'] at k1
      cases p : O x <;> cases q : R (B x) <;> simp [p, q] at k1 ⊢
    rw [Bf _ k2.2, zs_d H k2.1]
  · intro x k1
    cases k2 : R (B x)
    · rw [Of _ k2] at k1
      have q := zs_e H k1
      rw [Bf _ k2]
      exact ⟨Oo _ q.1, by rw [Bf _ (by rw [q.2]; exact k2), q.2]⟩
    · rw [Bt _ k2]
      exact ⟨Oo _ hOc, by rw [Bf _ (by rw [hcb]; exact hRc), hcb]⟩
  · intro x k1 k2
    cases k3 : R (B x)
    · rw [Of _ k3] at k1
      rw [Bf _ k3] at k2 ⊢
      have q := zs_f H k1 k2
      have k4 : ¬ (M x ∈ A ∨ M x ∈ A') := fun z => by
        have := D1 _ z
        rw [q.2.1, k3] at this
        exact absurd this (by decide)
      rw [hF _ k4, Bf _ (by rw [q.2.1]; exact k3), Bf _ (by rw [q.2.2]; exact k3)]
      exact ⟨Oo _ q.1, q.2.1, q.2.2⟩
    · rw [Bt _ k3] at k2 ⊢
      cases ho : O x
      · obtain ⟨y, k4, k5⟩ := zr_i hg H X hR ho k3
        rw [k5, hi]
        exact ⟨Ot _ (D1 _ k4), Bt _ (D1 _ k4), (FD y k4).2.2.2⟩
      · by_cases k6 : B x = x
        · obtain ⟨y, k4, k5⟩ := zr_o hg H X hR ho k3
          have k7 : x ∈ A ∨ x ∈ A' := by
            have := zr_base H hg X k4
            rw [← k5, k6] at this
            exact this
          rw [hF _ (zb_d3 hg H X k7)]
          exact ⟨Ot _ (D2 _ k7), Bt _ (D2 _ k7), nextD x k7⟩
        · have q := zs_f H ho k6
          have k8 : R (B (M x)) = true := by rw [q.2.1]; exact k3
          refine ⟨Ot _ k8, Bt _ k8, ?_⟩
          by_cases k9 : M x ∈ A ∨ M x ∈ A'
          · exact (FD _ k9).2.2.2
          · rw [hF _ k9]; exact Bt _ (by rw [q.2.2]; exact k3)
  · intro x k1 k2 k3
    cases k4 : R (B x)
    · rw [Of _ k4] at k1
      rw [Bf _ k4] at k2
      have q := zs_h H k1 k2 k3
      rw [hO', q, Bool.false_or]
      cases k5 : R (B (M x))
      · rfl
      · obtain ⟨y, k6, k7⟩ := zr_i hg H X hR q k5
        have : x = y := by rw [← hi x, k7, hi]
        have k8 := D1 _ k6
        rw [← this, k4] at k8
        exact absurd k8 (by decide)
    · rw [Bt _ k4] at k2
      rw [← k2, hcb, hRc] at k4
      exact absurd k4 (by decide)
/-- a new point: its mate becomes outer -/
theorem zr_grow (hS : ∀ v, S v = true → v < 10) (hg : ∀ u v, g u v = g v u) (H : zs_I g S M r O F B E) {u t : Nat} (hu : O u = true) (hgt : g u t = true) (ht : t ≠ r) (hm : M t ≠ t) (hf : ¬ F (M t) < 10) (hft : ¬ F t < 10)
    {O' : Nat → Bool} (hO' : ∀ x, O' x = (O x || decide (x = M t))) : O (M t) = false ∧ ∃ E', zs_I g S M r O' (zu_u F t u) B E' := by
  have hi := zm_inv (zs_ma H)
  have Ot : O t = false := by
    cases q : O t
    · rfl
    · exact absurd (zs_b H q ht).2.1 hf
  have hzr : M t ≠ r := fun e => hm (by rw [e]; have := zm_eq (zs_ma H) e; rw [zs_mr H] at this; exact this)
  have Oz : O (M t) = false := by
    cases q : O (M t)
    · rfl
    · have := (zs_b H q hzr).2.1
      rw [hi] at this
      exact absurd this hft
  have Oo : ∀ x, O x = true → O' x = true := fun x k => by rw [hO', k, Bool.true_or]
  have Oz' : O' (M t) = true := by rw [hO', decide_eq_true rfl, Bool.or_true]
  have Oc : ∀ x, O' x = true → O x = true ∨ x = M t := fun x k => by rw [hO'] at k; simpa using k
  have Mo : ∀ x, O x = true → M x ≠ t := fun x k e => by
    have := zm_eq (zs_ma H) e
    rw [this, k] at Oz
    exact absurd Oz (by decide)
  have Mo2 : ∀ x, O x = true → M x ≠ M t := fun x k e => by
    have : x = t := by rw [← hi x, e, hi]
    rw [this, Ot] at k
    exact absurd k (by decide)
  have ne : ∀ x, O x = true → x ≠ M t := fun x k e => by rw [e, Oz] at k; exact absurd k (by decide)
  refine ⟨Oz, fun x => if x = M t then M t :: E u else E x, ⟨zs_ma H, Oo _ (zs_or H), zs_mr H, zs_br H⟩, ?_, ?_, ?_, ?_, ?_, ?_, ?_, ?_, ?_, ?_⟩
  · intro x k
    rcases Oc x k with k | k
    · exact zs_a H k
    · rw [k]; exact zm_in (zs_ma H) hm
  · intro x k hr
    rcases Oc x k with k | k
    · have q := zs_b H k hr
      rw [zu_n _ (Mo x k)]
      exact ⟨q.1, q.2.1, Oo _ q.2.2⟩
    · rw [k, hi, zu_s]
      exact ⟨fun e => hm e.symm, hS _ (zs_a H hu), Oo _ hu⟩
  · intro w k
    by_cases q : w = t
    · rw [q, zu_s]
      exact ⟨hgt, Oo _ hu, hm, Oz'⟩
    · rw [zu_n _ q] at k ⊢
      have q2 := zs_c H k
      exact ⟨q2.1, Oo _ q2.2.1, q2.2.2.1, Oo _ q2.2.2.2⟩
  · intro x k
    refine zs_d H ?_
    cases q : O x
    · rfl
    · rw [Oo x q] at k; exact absurd k (by decide)
  · intro x k
    rcases Oc x k with k | k
    · have q := zs_e H k
      exact ⟨Oo _ q.1, q.2⟩
    · rw [k, zs_d H Oz, zs_d H Oz]
      exact ⟨Oz', rfl⟩
  · intro x k kb
    rcases Oc x k with k | k
    · have q := zs_f H k kb
      rw [zu_n _ (Mo x k)]
      exact ⟨Oo _ q.1, q.2.1, q.2.2⟩
    · rw [k] at kb
      exact absurd (zs_d H Oz) kb
  · intro x k kb hr
    have key : ∀ y, O y = false → y ≠ M t → O' y = false := fun y k1 k2 => by rw [hO', k1, decide_eq_false k2]; rfl
    rcases Oc x k with k | k
    · exact key _ (zs_h H k kb hr) (Mo2 x k)
    · rw [k, hi]
      exact key _ Ot (fun e => hm e.symm)
  · show (if r = M t then M t :: E u else E r) = [r]
    rw [if_neg (fun e => hzr e.symm), zs_E0 H]
  · intro x k hr
    show (if x = M t then M t :: E u else E x) = x :: (if zu_u F t u (M x) = M t then M t :: E u else E (zu_u F t u (M x)))
    rcases Oc x k with k | k
    · rw [if_neg (ne x k), zu_n _ (Mo x k), if_neg (ne _ (zs_b H k hr).2.2)]
      exact zs_E1 H k hr
    · rw [if_pos k, k, hi, zu_s, if_neg (ne u hu)]
  · intro x k v hv w hw e
    have hv : v ∈ (if x = M t then M t :: E u else E x) := hv
    have hw : w ∈ (if x = M t then M t :: E u else E x) := hw
    rcases Oc x k with k | k
    · rw [if_neg (ne x k)] at hv hw
      exact (zs_E2 H k hv (by rw [e]; exact hw)).symm.trans e
    · rw [if_pos k, List.mem_cons] at hv hw
      rcases hv with hv | hv
      · rcases hw with hw | hw
        · rw [hv, hw]
        · rw [hv, hi] at e
          have := zs_out H hu hw
          rw [← e, Ot] at this
          exact absurd this (by decide)
      · rcases hw with hw | hw
        · exact absurd (e.trans hw) (Mo2 v (zs_out H hu hv))
        · exact (zs_E2 H hu hv (by rw [e]; exact hw)).symm.trans e
end
end
section
/-! the exchange along a way; the start and the end of a search -/
def zt_1 (M N : Nat → Nat) (v x : Nat) : Nat → Nat := fun i => if i = v then x else if i = x then v else if i = M x then i else N i
def zt_f (M : Nat → Nat) : List Nat → (Nat → Nat) → Nat → Nat → Nat
  | [], N, _ => N
  | x :: l, N, v => zt_f M l (zt_1 M N v x) (M x)
theorem zt_tau {a b c d e : Prop} : ((a ∨ b ∨ c) ∨ d ∨ e) ↔ ((a ∨ c ∨ d) ∨ b ∨ e) := by
  constructor
  · rintro ((h | h | h) | h | h)
    · exact Or.inl (Or.inl h)
    · exact Or.inr (Or.inl h)
    · exact Or.inl (Or.inr (Or.inl h))
    · exact Or.inl (Or.inr (Or.inr h))
    · exact Or.inr (Or.inr h)
  · rintro ((h | h | h) | h | h)
    · exact Or.inl (Or.inl h)
    · exact Or.inl (Or.inr (Or.inr h))
    · exact Or.inr (Or.inl h)
    · exact Or.inl (Or.inr (Or.inl h))
    · exact Or.inr (Or.inr h)
section
variable {g : Nat → Nat → Bool} {S O : Nat → Bool} {M F B : Nat → Nat} {r : Nat} {E : Nat → List Nat}
theorem zt_s (H : zs_I g S M r O F B E) (hg : ∀ u v, g u v = g v u) {x v : Nat} {N : Nat → Nat} (hx : O x = true) (hr : x ≠ r) (hN : zm_M g S N) (hv : N v = v) (hvx : v ∉ E x) (sv : S v = true) (gv : g x v = true) (ha : ∀ y, y ∈ E x → N y = M y) :
    zm_M g S (zt_1 M N v x) ∧ zt_1 M N v x (M x) = M x ∧ M x ∉ E (F (M x)) ∧ S (M x) = true ∧ g (F (M x)) (M x) = true ∧ (∀ y, y ∈ E (F (M x)) → zt_1 M N v x y = M y) ∧ M x ≠ v ∧
    (∀ i, (zt_1 M N v x i ≠ i ∨ i = M x ∨ i = r) ↔ (N i ≠ i ∨ i = v ∨ i = r)) := by
  have q := zs_b H hx hr
  have e := zs_E1 H hx hr
  have sub : ∀ z, z ∈ E (F (M x)) → z ∈ E x := fun z hz => by rw [e]; exact List.mem_cons_of_mem _ hz
  have hNx : N x = M x := ha x (zs_in H hx)
  have hne : N x ≠ x := by rw [hNx]; exact q.1
  have vx : v ≠ x := fun k => hvx (by rw [k]; exact zs_in H hx)
  have vm : v ≠ N x := fun k => by
    have := zm_eq hN k.symm
    rw [hv] at this
    exact vx this
  have f1 : zt_1 M N v x = zm_ad (zm_dl N x) v x := by
    funext i
    unfold zt_1 zm_ad zm_dl
    rw [hNx]
    by_cases k1 : i = v
    · rw [if_pos k1, if_pos k1]
    · by_cases k2 : i = x
      · rw [if_neg k1, if_neg k1, if_pos k2, if_pos k2]
      · rw [if_neg k1, if_neg k1, if_neg k2, if_neg k2, if_neg k2]
  have d1 : zm_dl N x v = v := by rw [zm_dl_n N vx vm]; exact hv
  have d2 : zm_dl N x x = x := zm_dl_x N x
  have mx : M x ∉ E (F (M x)) := fun k => q.1 (zs_E2 H hx (zs_in H hx) (sub _ k))
  have mv : M x ≠ v := fun k => vm (by rw [hNx, k])
  refine ⟨?_, ?_, mx, ?_, (zs_c H q.2.1).1, fun y hy => ?_, mv, fun i => ?_⟩
  · rw [f1]
    exact zm_ad_M hg (zm_dl_M hN x) vx d1 d2 sv (zs_a H hx) (by rw [hg]; exact gv)
  · rw [f1, zm_ad_n _ mv q.1, ← hNx, zm_dl_y]
  · exact zm_in (zs_ma H) q.1
  · have y1 : y ≠ v := fun k => hvx (by rw [← k]; exact sub _ hy)
    have y2 : y ≠ x := fun k => zs_nin H hx hr (by rw [k] at hy; exact hy)
    have y3 : y ≠ N x := fun k => mx (by rw [k, hNx] at hy; exact hy)
    rw [f1, zm_ad_n _ y1 y2, zm_dl_n N y2 y3]
    exact ha y (sub _ hy)
  · rw [f1, zm_ad_c vx, zm_dl_c (hN.1 x) hne, hNx]
    exact zt_tau
theorem zt_e (H : zs_I g S M r O F B E) (hg : ∀ u v, g u v = g v u) {v : Nat} {N : Nat → Nat} (hN : zm_M g S N) (hv : N v = v) (hvx : v ∉ E r) (sv : S v = true) (gv : g r v = true) (ha : ∀ y, y ∈ E r → N y = M y) :
    zm_M g S (zt_1 M N v r) ∧ (∀ i, zt_1 M N v r i ≠ i ↔ (N i ≠ i ∨ i = v ∨ i = r)) := by
  have vr : v ≠ r := fun k => hvx (by rw [k]; exact zs_in H (zs_or H))
  have hNr : N r = r := by rw [ha r (zs_in H (zs_or H)), zs_mr H]
  have f1 : zt_1 M N v r = zm_ad N v r := by
    funext i
    unfold zt_1 zm_ad
    by_cases k1 : i = v
    · rw [if_pos k1, if_pos k1]
    · by_cases k2 : i = r
      · rw [if_neg k1, if_neg k1, if_pos k2, if_pos k2]
      · rw [if_neg k1, if_neg k1, if_neg k2, if_neg k2, if_neg (by rw [zs_mr H]; exact k2)]
  rw [f1]
  exact ⟨zm_ad_M hg hN vr hv hNr sv (zs_a H (zs_or H)) (by rw [hg]; exact gv), zm_ad_c vr⟩
theorem zt_M (H : zs_I g S M r O F B E) (hg : ∀ u v, g u v = g v u) {x : Nat} (hx : O x = true) : ∀ {N : Nat → Nat} {v : Nat}, zm_M g S N → N v = v → v ∉ E x → S v = true → g x v = true → (∀ y, y ∈ E x → N y = M y) →
    zm_M g S (zt_f M (E x) N v) ∧ ∀ i, zt_f M (E x) N v i ≠ i ↔ (N i ≠ i ∨ i = v ∨ i = r) := by
  refine zs_ind H (P := fun x => ∀ {N : Nat → Nat} {v : Nat}, zm_M g S N → N v = v → v ∉ E x → S v = true → g x v = true → (∀ y, y ∈ E x → N y = M y) →
    zm_M g S (zt_f M (E x) N v) ∧ ∀ i, zt_f M (E x) N v i ≠ i ↔ (N i ≠ i ∨ i = v ∨ i = r)) ?_ ?_ hx
  · intro N v hN hv hvx sv gv ha
    have k := zt_e H hg hN hv hvx sv gv ha
    rw [zs_E0 H]
    exact k
  · intro x hx hr _ ih N v hN hv hvx sv gv ha
    obtain ⟨k1, k2, k3, k4, k5, k6, k7, k8⟩ := zt_s H hg hx hr hN hv hvx sv gv ha
    obtain ⟨j1, j2⟩ := ih k1 k2 k3 k4 k5 k6
    rw [zs_E1 H hx hr]
    exact ⟨j1, fun i => (j2 i).trans (k8 i)⟩
/-- an outer point can be left over -/
theorem zt_free (hS : ∀ v, S v = true → v < 10) (H : zs_I g S M r O F B E) (hg : ∀ u v, g u v = g v u) {x : Nat} (hx : O x = true) : ∃ N, zm_M g S N ∧ zm_z N = zm_z M ∧ N x = x := by
  by_cases q : x = r
  · exact ⟨M, zs_ma H, rfl, by rw [q]; exact zs_mr H⟩
  · have q2 := zs_b H hx q
    have e := zs_E1 H hx q
    have sub : ∀ z, z ∈ E (F (M x)) → z ∈ E x := fun z hz => by rw [e]; exact List.mem_cons_of_mem _ hz
    have mx : M x ∉ E (F (M x)) := fun k => q2.1 (zs_E2 H hx (zs_in H hx) (sub _ k))
    obtain ⟨k1, k2⟩ := zt_M H hg q2.2.2 (zm_dl_M (zs_ma H) x) (zm_dl_y M x) mx (zm_in (zs_ma H) q2.1) (zs_c H q2.2.1).1 (fun y hy => by
      have y2 : y ≠ x := fun k => zs_nin H hx q (by rw [k] at hy; exact hy)
      have y3 : y ≠ M x := fun k => mx (by rw [k] at hy; exact hy)
      exact zm_dl_n M y2 y3)
    refine ⟨_, k1, ?_, ?_⟩
    · have z1 := zm_dl_z hS (zs_ma H) q2.1
      have hrx : M x ≠ r := fun k => by
        have := zm_eq (zs_ma H) k
        rw [zs_mr H] at this
        exact q this.symm
      have hrd : zm_dl M x r = r := by
        have y2 : r ≠ x := fun k => q k.symm
        rw [zm_dl_n M y2 (fun k => hrx k.symm)]
        exact zs_mr H
      have z2 := zm_z2 hrx (zm_dl_y M x) hrd (hS _ (zm_in (zs_ma H) q2.1)) (hS _ (zs_a H (zs_or H))) k2
      omega
    · apply Classical.byContradiction
      intro hne
      rcases (k2 x).mp hne with k | k | k
      · exact k (zm_dl_x M x)
      · exact q2.1 k.symm
      · exact q k
end
theorem zs_0 {g : Nat → Nat → Bool} {S : Nat → Bool} {M : Nat → Nat} {r : Nat} (hM : zm_M g S M) (hr : S r = true) (hm : M r = r) {O : Nat → Bool} {F B : Nat → Nat} (hO : ∀ x, O x = decide (x = r)) (hF : ∀ x, ¬ F x < 10) (hB : ∀ x, B x = x) : zs_I g S M r O F B (fun _ => [r]) := by
  have o1 : ∀ x, O x = true → x = r := fun x k => by rw [hO] at k; simpa using k
  have o2 : O r = true := by rw [hO]; simp
  refine ⟨⟨hM, o2, hm, hB r⟩, ?_, ?_, ?_, ?_, ?_, ?_, ?_, rfl, ?_, ?_⟩
  · intro x k; rw [o1 x k]; exact hr
  · intro x k hne; exact absurd (o1 x k) hne
  · intro w k; exact absurd k (hF w)
  · intro x _; exact hB x
  · intro x k; rw [hB, hB]; exact ⟨k, rfl⟩
  · intro x _ k; exact absurd (hB x) k
  · intro x k _ hne; exact absurd (o1 x k) hne
  · intro x k hne; exact absurd (o1 x k) hne
  · intro x _ v hv w hw _
    rw [List.mem_singleton] at hv hw
    rw [hv, hw]
/-- a search that ends without a free point -/
theorem zs_end {g : Nat → Nat → Bool} {S O : Nat → Bool} {M F B : Nat → Nat} {r : Nat} {E : Nat → List Nat} (hS : ∀ v, S v = true → v < 10) (hg : ∀ u v, g u v = g v u) (H : zs_I g S M r O F B E)
    (e1 : ∀ u t, O u = true → S t = true → g u t = true → B u = B t ∨ M u = t ∨ F t < 10)
    (e2 : ∀ u t, O u = true → O t = true → g u t = true → (B u = B t ∨ M u = t) ∨ (B t = B u ∨ M t = u)) : zk_K g S M r O := by
  refine ⟨zs_or H, fun N hN => ?_⟩
  have hi := zm_inv (zs_ma H)
  have ur : ∀ u, B u ≠ u → u ≠ r := fun u k e => k (by rw [e]; exact zs_br H)
  refine zk_cert (I := fun w => decide (F w < 10) && !O w) (B := B) hg (zs_ma H) hN hS (zs_or H) (zs_mr H) (zs_br H) (fun u => zs_a H) ?_ ?_ ?_ ?_
  · intro u k kb
    have q := zs_f H k kb
    exact ⟨q.1, q.2.1, (zs_b H k (ur u kb)).1⟩
  · intro u k kb hr
    have q := zs_h H k kb hr
    have q2 := (zs_b H k hr).2.1
    simp [q, q2]
  · intro w k
    simp at k
    have q := zs_c H k.1
    refine ⟨k.2, q.2.2.2, ?_⟩
    apply Classical.byContradiction
    intro kb
    have q2 := (zs_f H q.2.2.2 kb).1
    rw [hi, k.2] at q2
    exact absurd q2 (by decide)
  · intro u t k st kg
    cases ht : O t
    · refine Or.inl ?_
      have : F t < 10 := by
        rcases e1 u t k st kg with p | p | p
        · rw [zs_d H ht] at p
          have q := (zs_e H k).1
          rw [p, ht] at q
          exact absurd q (by decide)
        · have ur' : u ≠ r := fun e => by
            rw [e, zs_mr H] at p
            rw [← p, zs_or H] at ht
            exact absurd ht (by decide)
          have q := (zs_b H k ur').2.1
          rw [p] at q
          exact q
        · exact p
      simp [this, ht]
    · refine Or.inr ⟨rfl, ?_⟩
      rcases e2 u t k ht kg with (p | p) | (p | p)
      · exact p.symm
      · have := zs_mm H k (by rw [p]; exact ht)
        rw [p] at this
        exact this
      · exact p
      · have := zs_mm H ht (by rw [p]; exact k)
        rw [p] at this
        exact this.symm
/-! the queue and the lines that have been followed -/
def zq_Q (O : Nat → Bool) (q : Nat → Nat) (e : Nat) : Prop := e ≤ 10 ∧ (∀ j, j < e → O (q j) = true) ∧ (∀ x, O x = true → ∃ j, j < e ∧ q j = x) ∧ (∀ i j, i < e → j < e → q i = q j → i = j)
theorem zq_lt {O : Nat → Bool} {q : Nat → Nat} {e p : Nat} (h : zq_Q O q e) (hO : ∀ x, O x = true → x < 10) (hp : p < 10) (ho : O p = false) : e < 10 := by
  have a := zc_inj (p := fun _ => true) (q := fun x => decide (x ≠ p)) q (m := 10) (n := e) (fun i hi _ => ⟨hO _ (h.2.1 i hi), by
    have : q i ≠ p := fun k => by
      have := h.2.1 i hi
      rw [k, ho] at this
      exact absurd this (by decide)
    simp [this]⟩) (fun i j hi hj _ _ k => h.2.2.2 i j hi hj k)
  rw [zc_all] at a
  have b := zc_rem (q := fun _ => true) (x := p) (m := 10) hp rfl
  rw [zc_all] at b
  have c : zc_n (fun j => true && decide (j ≠ p)) 10 = zc_n (fun x => decide (x ≠ p)) 10 := zc_eq (fun i _ => Bool.true_and _)
  omega
theorem zq_put {O O' : Nat → Bool} {q : Nat → Nat} {e p : Nat} (h : zq_Q O q e) (hO : ∀ x, O x = true → x < 10) (hp : p < 10) (ho : O p = false) (hO' : ∀ x, O' x = (O x || decide (x = p))) : zq_Q O' (zu_u q e p) (e + 1) := by
  have he := zq_lt h hO hp ho
  have np : ∀ j, j < e → q j ≠ p := fun j hj k => by
    have := h.2.1 j hj
    rw [k, ho] at this
    exact absurd this (by decide)
  refine ⟨by omega, fun j hj => ?_, fun x hx => ?_, fun i j hi hj k => ?_⟩
  · by_cases k : j = e
    · rw [k, zu_s, hO']; simp
    · rw [zu_n _ k, hO', h.2.1 j (by omega), Bool.true_or]
  · rw [hO'] at hx
    cases q2 : O x
    · rw [q2, Bool.false_or] at hx
      have : x = p := by simpa using hx
      exact ⟨e, by omega, by rw [zu_s, this]⟩
    · obtain ⟨j, j1, j2⟩ := h.2.2.1 x q2
      exact ⟨j, by omega, by rw [zu_n _ (by omega)]; exact j2⟩
  · by_cases k1 : i = e
    · by_cases k2 : j = e
      · omega
      · rw [k1, zu_s, zu_n _ k2] at k
        exact absurd k.symm (np j (by omega))
    · by_cases k2 : j = e
      · rw [k2, zu_s, zu_n _ k1] at k
        exact absurd k (np i (by omega))
      · rw [zu_n _ k1, zu_n _ k2] at k
        exact h.2.2.2 i j (by omega) (by omega) k
def zp_D (g : Nat → Nat → Bool) (S : Nat → Bool) (M B F q : Nat → Nat) (k tl : Nat) : Prop :=
  ∀ k' t, (k' < k ∨ (k' = k ∧ t < tl)) → S t = true → g (q k') t = true → (B (q k') = B t ∨ M (q k') = t ∨ F t < 10) ∧ ∀ j, j ≤ k' → q j = t → B (q k') = B t ∨ M (q k') = t
theorem zp_up {g : Nat → Nat → Bool} {S : Nat → Bool} {M B F q B' F' q' : Nat → Nat} {k tl : Nat} (h : zp_D g S M B F q k tl) (hB : ∀ x y, B x = B y → B' x = B' y) (hF : ∀ t, F t < 10 → F' t < 10) (hq : ∀ j, j ≤ k → q' j = q j) : zp_D g S M B' F' q' k tl := by
  intro k' t ht st kg
  have hk : k' ≤ k := by omega
  rw [hq k' hk] at kg ⊢
  obtain ⟨a, b⟩ := h k' t ht st kg
  refine ⟨?_, fun j hj e => ?_⟩
  · rcases a with a | a | a
    · exact Or.inl (hB _ _ a)
    · exact Or.inr (Or.inl a)
    · exact Or.inr (Or.inr (hF _ a))
  · rw [hq j (by omega)] at e
    exact (b j hj e).imp (hB _ _) id
theorem zp_next {g : Nat → Nat → Bool} {S : Nat → Bool} {M B F q : Nat → Nat} {k t : Nat} (h : zp_D g S M B F q k t)
    (hn : S t = true → g (q k) t = true → (B (q k) = B t ∨ M (q k) = t ∨ F t < 10) ∧ ∀ j, j ≤ k → q j = t → B (q k) = B t ∨ M (q k) = t) : zp_D g S M B F q k (t + 1) := by
  intro k' t' ht st kg
  by_cases e : k' = k ∧ t' = t
  · rw [e.1, e.2] at kg ⊢
    rw [e.2] at st
    exact hn st kg
  · exact h k' t' (by omega) st kg
theorem zp_row {g : Nat → Nat → Bool} {S : Nat → Bool} {M B F q : Nat → Nat} {k : Nat} (hS : ∀ v, S v = true → v < 10) (h : zp_D g S M B F q k 10) : zp_D g S M B F q (k + 1) 0 := by
  intro k' t' ht st kg
  have := hS t' st
  exact h k' t' (by omega) st kg
theorem zp_end {g : Nat → Nat → Bool} {S O : Nat → Bool} {M B F q : Nat → Nat} {r e : Nat} {E : Nat → List Nat} (hS : ∀ v, S v = true → v < 10) (hg : ∀ u v, g u v = g v u) (H : zs_I g S M r O F B E) (hq : zq_Q O q e) (h : zp_D g S M B F q e 0) : zk_K g S M r O := by
  refine zs_end hS hg H (fun u t hu st kg => ?_) (fun u t hu ht kg => ?_)
  · obtain ⟨i, i1, i2⟩ := hq.2.2.1 u hu
    rw [← i2] at kg ⊢
    exact (h i t (Or.inl i1) st kg).1
  · obtain ⟨i, i1, i2⟩ := hq.2.2.1 u hu
    obtain ⟨j, j1, j2⟩ := hq.2.2.1 t ht
    by_cases k : j ≤ i
    · rw [← i2] at kg ⊢
      exact Or.inl ((h i t (Or.inl i1) (zs_a H ht) kg).2 j k j2)
    · rw [hg, ← j2] at kg
      rw [← j2]
      exact Or.inr ((h j u (Or.inl j1) (zs_a H hu) kg).2 i (by omega) i2)
end
section
/-! the arrays and what they stand for -/
def za_M (a : Nat → Int32) (M : Nat → Nat) : Prop := ∀ i, i < 10 → M i < 10 ∧ a i = if M i = i then -1 else nI (M i)
def za_F (a : Nat → Int32) (F : Nat → Nat) : Prop := ∀ i, i < 10 → a i = if F i < 10 then nI (F i) else -1
def za_B (a : Nat → Int32) (B : Nat → Nat) : Prop := ∀ i, i < 10 → B i < 10 ∧ a i = nI (B i)
def za_O (a : Nat → Int32) (O : Nat → Bool) : Prop := ∀ i, i < 10 → a i = if O i = true then 1 else 0
def za_Q (a : Nat → Int32) (q : Nat → Nat) (e : Nat) : Prop := ∀ j, j < e → q j < 10 ∧ a j = nI (q j)
theorem za_c {i : Nat} (h : i < 10) : (nI i).toNatClampNeg = i := nI_clamp (by omega)
theorem za_in {i : Nat} (h : i < 10) : vp_in (nI i) 10 := vp_in_nI h (by decide)
theorem za_lt {i : Nat} (h : i < 10) : ¬ (10 : Int32) ≤ nI i := nI_ge (b := 10) h (by decide)
theorem za_ge : (10 : Int32) ≤ nI 10 := by decide
theorem za_m1 : (-1 : Int32) < 0 := by decide
theorem za_m1' : ¬ (0 : Int32) ≤ -1 := by decide
theorem za_p {i : Nat} (h : i < 10) : ¬ nI i < 0 := nI_pos (by omega)
theorem za_p' {i : Nat} (h : i < 10) : 0 ≤ nI i := nI_pos' (by omega)
theorem za_eq {i j : Nat} (hi : i < 10) (hj : j < 10) : nI i = nI j ↔ i = j := nI_eq (by omega) (by omega)
theorem za_Mt {a : Nat → Int32} {M : Nat → Nat} (h : za_M a M) {i : Nat} (hi : i < 10) (hm : M i ≠ i) : a i = nI (M i) := by
  rw [(h i hi).2, if_neg hm]
theorem za_Mf {a : Nat → Int32} {M : Nat → Nat} (h : za_M a M) {i : Nat} (hi : i < 10) (hm : M i = i) : a i = -1 := by
  rw [(h i hi).2, if_pos hm]
theorem za_Ft {a : Nat → Int32} {F : Nat → Nat} (h : za_F a F) {i : Nat} (hi : i < 10) (hm : F i < 10) : a i = nI (F i) := by
  rw [h i hi, if_pos hm]
theorem za_Ff {a : Nat → Int32} {F : Nat → Nat} (h : za_F a F) {i : Nat} (hi : i < 10) (hm : ¬ F i < 10) : a i = -1 := by
  rw [h i hi, if_neg hm]
theorem za_Ot {a : Nat → Int32} {O : Nat → Bool} (h : za_O a O) {i : Nat} (hi : i < 10) (hm : O i = true) : ¬ a i = 0 := by
  rw [h i hi, if_pos hm]; decide
theorem za_Of {a : Nat → Int32} {O : Nat → Bool} (h : za_O a O) {i : Nat} (hi : i < 10) (hm : O i = false) : a i = 0 := by
  rw [h i hi, if_neg (by rw [hm]; decide)]
theorem za_n1 : vp_nar .boolean 1 = 1 := rfl
theorem za_n0 : vp_nar .boolean 0 = 0 := rfl
theorem za_O1 {a : Nat → Int32} {O O' : Nat → Bool} {k : Nat} (h : za_O a O) (hO : ∀ z, O' z = (O z || decide (z = k))) : za_O (upd a k (vp_nar .boolean 1)) O' := by
  intro i hi
  by_cases e : i = k
  · rw [e, pk_us, hO, if_pos (by simp), za_n1]
  · rw [pk_un e, hO, decide_eq_false e, Bool.or_false]; exact h i hi
theorem za_O0 {a : Nat → Int32} {O O' : Nat → Bool} {k : Nat} (h : za_O a O) (hO : ∀ z, O' z = (O z && decide (z ≠ k))) : za_O (upd a k (vp_nar .boolean 0)) O' := by
  intro i hi
  by_cases e : i = k
  · rw [e, pk_us, hO, if_neg (by simp), za_n0]
  · rw [pk_un e, hO, decide_eq_true e, Bool.and_true]; exact h i hi
theorem za_F1 {a : Nat → Int32} {F : Nat → Nat} {k x : Nat} (h : za_F a F) (hx : x < 10) : za_F (upd a k (nI x)) (zu_u F k x) := by
  intro i hi
  by_cases e : i = k
  · rw [e, pk_us, zu_s, if_pos hx]
  · rw [pk_un e, zu_n _ e]; exact h i hi
theorem za_B1 {a : Nat → Int32} {B : Nat → Nat} {k x : Nat} (h : za_B a B) (hx : x < 10) : za_B (upd a k (nI x)) (zu_u B k x) := by
  intro i hi
  by_cases e : i = k
  · rw [e, pk_us, zu_s]; exact ⟨hx, rfl⟩
  · rw [pk_un e, zu_n _ e]; exact h i hi
theorem za_Q1 {a : Nat → Int32} {q : Nat → Nat} {e x : Nat} (h : za_Q a q e) (hx : x < 10) : za_Q (upd a e (nI x)) (zu_u q e x) (e + 1) := by
  intro j hj
  by_cases k : j = e
  · rw [k, pk_us, zu_s]; exact ⟨hx, rfl⟩
  · rw [pk_un k, zu_n _ k]; exact h j (by omega)
section
variable {fa fq : Int32} {aj am ao af ab ai ap aq : Nat → Int32}
theorem zw_mo {post : SX → Prop} {O : Nat → Bool} {q : Nat → Nat} {e p : Nat} (hp : p < 10) (hO : ∀ x, O x = true → x < 10) (ro : za_O ao O) (rq : za_Q aq q e) (hq : zq_Q O q e)
    (K : ∀ (e' : Nat) (ao' aq' : Nat → Int32) (O' : Nat → Bool) (q' : Nat → Nat), (∀ x, O' x = (O x || decide (x = p))) → za_O ao' O' → za_Q aq' q' e' → zq_Q O' q' e' → e ≤ e' → (∀ j, j < e → q' j = q j) → post (fa, nI e', aj, am, ao', af, ab, ai, ap, aq')) :
    wpX_makeOuter post (fa, nI e, aj, am, ao, af, ab, ai, ap, aq) (nI p) := by
  unfold wpX_makeOuter
  dsimp only
  rw [za_c hp]
  cases ho : O p
  · have he := zq_lt hq hO hp ho
    refine ⟨za_in hp, br_t (za_Of ro hp ho) ⟨za_in hp, nm_e ⟨za_in he, nm_e (nm_e ?_)⟩⟩⟩
    rw [za_c he, nI_1]
    exact K (e + 1) _ _ (fun x => O x || decide (x = p)) (zu_u q e p) (fun _ => rfl) (za_O1 ro (fun _ => rfl)) (za_Q1 rq hp) (zq_put hq hO hp ho (fun _ => rfl)) (by omega) (fun j hj => zu_n _ (by omega))
  · refine ⟨za_in hp, br_f (za_Ot ro hp ho) ?_⟩
    refine K e _ _ O q (fun x => ?_) ro rq hq (Nat.le_refl _) (fun j _ => rfl)
    by_cases k : x = p
    · rw [k, ho]; rfl
    · rw [decide_eq_false k, Bool.or_false]
end
end
section
/-! meetingBase -/
section
variable {g : Nat → Nat → Bool} {S O : Nat → Bool} {M F B : Nat → Nat} {r : Nat} {E : Nat → List Nat}
variable {fa fq : Int32} {aj am ao af ab ai ap aq : Nat → Int32} {post : Int32 → SX → Prop}
theorem zw_95 (hS : ∀ v, S v = true → v < 10) (H : zs_I g S M r O F B E) (rm : za_M am M) (rf : za_F af F) (rb : za_B ab B) {P : Nat → Bool} (rp : za_O ap P) {a b : Nat} (ha : O a = true) (hb : O b = true)
    (hP : ∀ z, P z = true ↔ (B z = z ∧ z ∈ E a))
    (K : ∀ c, O c = true → B c = c → c ∈ E a → c ∈ E b → (∀ z, B z = z → z ∈ E a → z ∈ E b → z ∈ E c) → post (nI c) (fa, fq, aj, am, ao, af, ab, ai, ap, aq)) :
    ∀ (m y s n : Nat), (E y).length ≤ m → m < n → s + (E y).length ≤ 10 → O y = true → B y = y → y ∈ E b → (∀ z, B z = z → z ∈ E a → z ∈ E b → z ∈ E y) → wX_meetingBase_95 post fa fq aj am ao af ab ai ap aq n (nI y) (nI s) := by
  intro m
  induction m with
  | zero =>
    intro y s n hl _ _ hy _ _ _
    obtain ⟨t, e⟩ := zs_hd H hy
    rw [e, List.length_cons] at hl
    omega
  | succ m ih =>
    intro y s n hl hn hs hy hyb hyE hz
    obtain ⟨n, rfl⟩ : ∃ k, n = k + 1 := ⟨n - 1, by omega⟩
    have hl1 : 1 ≤ (E y).length := by
      obtain ⟨t, e⟩ := zs_hd H hy
      rw [e, List.length_cons]; omega
    have hy10 := hS y (zs_a H hy)
    unfold wX_meetingBase_95
    rw [za_c hy10]
    refine br_f (za_lt (by omega)) ⟨za_in hy10, ?_⟩
    cases hp : P y
    · have hr : y ≠ r := fun k => by
        have := (hP y).mpr ⟨hyb, by rw [k]; exact zs_r H ha⟩
        rw [hp] at this
        exact absurd this (by decide)
      obtain ⟨q1, q2, q3⟩ := zs_b H hy hr
      have m10 := (rm y hy10).1
      have n10 := (rb (F (M y)) q2).1
      rw [za_Mt rm hy10 q1, za_c m10, za_Ft rf m10 q2, za_c q2, (rb (F (M y)) q2).2]
      refine br_t (za_Of rp hy10 hp) ⟨za_in hy10, za_in m10, za_in q2, nm_e (nm_r (nI_1 s) ?_)⟩
      have e3 := zs_e H q3
      have hlt := zs_nxl H hy hr
      exact ih (B (F (M y))) (s + 1) n (by omega) (by omega) (by omega) e3.1 e3.2 (zs_tr H hb hyE (by
        rw [zs_E1 H hy hr]; exact List.mem_cons_of_mem _ (zs_base H q3))) (fun z z1 z2 z3 => zs_nx H hy hr (hz z z1 z2 z3) z1 (fun k => by
        have := (hP z).mpr ⟨z1, z2⟩
        rw [k, hp] at this
        exact absurd this (by decide)))
    · exact br_f (za_Ot rp hy10 hp) (K y hy hyb ((hP y).mp hp).2 hyE hz)
theorem zw_38 (hS : ∀ v, S v = true → v < 10) (H : zs_I g S M r O F B E) (rm : za_M am M) (rf : za_F af F) (rb : za_B ab B) {a b : Nat} (ha : O a = true) (hb : O b = true)
    (K : ∀ (ap' : Nat → Int32) (P : Nat → Bool), za_O ap' P → (∀ z, P z = true ↔ (B z = z ∧ z ∈ E a)) → ∃ n95, wX_meetingBase_95 post fa fq aj am ao af ab ai ap' aq n95 (nI (B b)) 0) :
    ∀ (m x s n : Nat) (ap : Nat → Int32) (P : Nat → Bool), (E x).length ≤ m → m < n → s + (E x).length ≤ 10 → O x = true → B x = x → x ∈ E a → za_O ap P → P x = true → (∀ z, B z = z → z ∈ E a → P z = true ∨ z ∈ E x) → (∀ z, P z = true → B z = z ∧ z ∈ E a) →
      wX_meetingBase_38 post (nI b) fa fq n (nI x) (nI s) aj am ao af ab ai ap aq := by
  intro m
  induction m with
  | zero =>
    intro x s n ap P hl _ _ hy _ _ _ _ _ _
    obtain ⟨t, e⟩ := zs_hd H hy
    rw [e, List.length_cons] at hl
    omega
  | succ m ih =>
    intro x s n ap P hl hn hs hx hxb hxE rp hPx hz hP
    obtain ⟨n, rfl⟩ : ∃ k, n = k + 1 := ⟨n - 1, by omega⟩
    have hl1 : 1 ≤ (E x).length := by
      obtain ⟨t, e⟩ := zs_hd H hx
      rw [e, List.length_cons]; omega
    have hx10 := hS x (zs_a H hx)
    have hb10 := hS b (zs_a H hb)
    unfold wX_meetingBase_38
    rw [za_c hx10, za_c hb10, (rb b hb10).2]
    refine br_f (za_lt (by omega)) ⟨za_in hx10, ?_⟩
    by_cases hr : x = r
    · rw [za_Mf rm hx10 (by rw [hr]; exact zs_mr H)]
      refine br_t za_m1 ⟨za_in hb10, nm_e (K ap P rp (fun z => ⟨hP z, fun k => ?_⟩))⟩
      rcases hz z k.1 k.2 with q | q
      · exact q
      · rw [hr, zs_E0 H, List.mem_singleton] at q
        rw [q, ← hr]; exact hPx
    · obtain ⟨q1, q2, q3⟩ := zs_b H hx hr
      have m10 := (rm x hx10).1
      have n10 := (rb (F (M x)) q2).1
      rw [za_Mt rm hx10 q1, za_c m10, za_Ft rf m10 q2, za_c q2, (rb (F (M x)) q2).2]
      refine br_f (za_p m10) ⟨za_in hx10, za_in m10, za_in q2, nm_e ⟨za_in n10, nm_e (nm_r (nI_1 s) ?_)⟩⟩
      rw [za_c n10]
      have e3 := zs_e H q3
      have hlt := zs_nxl H hx hr
      have inE : B (F (M x)) ∈ E a := zs_tr H ha hxE (by rw [zs_E1 H hx hr]; exact List.mem_cons_of_mem _ (zs_base H q3))
      refine ih (B (F (M x))) (s + 1) n _ (fun z => P z || decide (z = B (F (M x)))) (by omega) (by omega) (by omega) e3.1 e3.2 inE (za_O1 rp (fun _ => rfl)) (by simp) (fun z z1 z2 => ?_) (fun z z1 => ?_)
      · rcases hz z z1 z2 with k | k
        · exact Or.inl (by rw [k, Bool.true_or])
        · by_cases k2 : z = x
          · exact Or.inl (by rw [k2, hPx, Bool.true_or])
          · exact Or.inr (zs_nx H hx hr k z1 k2)
      · cases k : P z
        · rw [k, Bool.false_or] at z1
          have : z = B (F (M x)) := by simpa using z1
          rw [this]; exact ⟨e3.2, inE⟩
        · exact hP z k
theorem zw_2 {x1 x2 : Int32} (K : ∀ ap' : Nat → Int32, za_O ap' (fun _ => false) → (∃ n, wX_meetingBase_2 post x1 x2 fa fq (n + 1) (nI 10) aj am ao af ab ai ap' aq)) :
    ∃ n, wX_meetingBase_2 post x1 x2 fa fq n 0 aj am ao af ab ai ap aq := by
  have : ∀ (d i : Nat) (ap : Nat → Int32), i + d = 10 → (∀ j, j < i → ap j = 0) → ∃ n, wX_meetingBase_2 post x1 x2 fa fq n (nI i) aj am ao af ab ai ap aq := by
    intro d
    induction d with
    | zero =>
      intro i ap hi h0
      obtain ⟨n, hn⟩ := K ap (fun j hj => by rw [h0 j (by omega)]; rfl)
      have : i = 10 := by omega
      exact ⟨n + 1, by rw [this]; exact hn⟩
    | succ d ih =>
      intro i ap hi h0
      obtain ⟨n, hn⟩ := ih (i + 1) (upd ap i (vp_nar .boolean 0)) (by omega) (fun j hj => by
        by_cases e : j = i
        · rw [e, pk_us]; rfl
        · rw [pk_un e]; exact h0 j (by omega))
      refine ⟨n + 1, ?_⟩
      unfold wX_meetingBase_2
      rw [za_c (by omega)]
      exact br_f (za_lt (by omega)) ⟨za_in (by omega), nm_e (nm_r (nI_1 i) hn)⟩
  exact this 10 0 ap rfl (fun j hj => absurd hj (by omega))
theorem zw_meet (hS : ∀ v, S v = true → v < 10) (H : zs_I g S M r O F B E) (rm : za_M am M) (rf : za_F af F) (rb : za_B ab B) {a b : Nat} (ha : O a = true) (hb : O b = true)
    (K : ∀ (c : Nat) (ap' : Nat → Int32), O c = true → B c = c → c ∈ E a → c ∈ E b → (∀ z, B z = z → z ∈ E a → z ∈ E b → z ∈ E c) → post (nI c) (fa, fq, aj, am, ao, af, ab, ai, ap', aq)) :
    wpX_meetingBase post (fa, fq, aj, am, ao, af, ab, ai, ap, aq) (nI a) (nI b) := by
  unfold wpX_meetingBase
  dsimp only
  refine zw_2 (fun ap1 r1 => ⟨0, ?_⟩)
  have ha10 := hS a (zs_a H ha)
  have ba := zs_e H ha
  have bb := zs_e H hb
  have ba10 := (rb a ha10).1
  unfold wX_meetingBase_2
  rw [za_c ha10, (rb a ha10).2]
  refine br_t za_ge ⟨za_in ha10, nm_e ⟨za_in ba10, nm_e ⟨11, ?_⟩⟩⟩
  rw [za_c ba10]
  have la := zs_len hS H ba.1
  refine zw_38 hS H rm rf rb ha hb (fun ap2 P rp hP => ⟨11, ?_⟩) 10 (B a) 0 11 _ (fun z => false || decide (z = B a)) la (by omega) (by omega) ba.1 ba.2 (zs_base H ha) (za_O1 r1 (fun _ => rfl)) (by simp) (fun z z1 z2 => ?_) (fun z z1 => ?_)
  · have lb := zs_len hS H bb.1
    refine zw_95 hS H rm rf rb rp ha hb hP (fun c c1 c2 c3 c4 c5 => K c ap2 c1 c2 c3 c4 c5) 10 (B b) 0 11 lb (by omega) (by omega) bb.1 bb.2 (zs_base H hb) (fun z z1 z2 z3 => ?_)
    rcases zs_gw H hb z3 with k | k
    · rw [z1] at k; rw [k]; exact zs_in H bb.1
    · exact k
  · rcases zs_gw H ha z2 with k | k
    · rw [z1] at k; exact Or.inl (by simp [k])
    · exact Or.inr k
  · have : z = B a := by simpa using z1
    rw [this]; exact ⟨ba.2, zs_base H ha⟩
end
end
section
/-! markWay -/
def zw_C (M F B : Nat → Nat) (c : Nat) : List Nat → Nat → Prop
  | [], v => v < 10 ∧ B v = c
  | x :: A, v => x = v ∧ v < 10 ∧ B v ≠ c ∧ M v ≠ v ∧ F (M v) < 10 ∧ zw_C M F B c A (F (M v))
section
variable {g : Nat → Nat → Bool} {S O : Nat → Bool} {M F B : Nat → Nat} {r : Nat} {E : Nat → List Nat}
theorem zw_Cof (hS : ∀ v, S v = true → v < 10) (H : zs_I g S M r O F B E) {c h : Nat} (hh : O h = true) (hb : B h = c) : ∀ (A : List Nat) (a : Nat), O a = true → E a = A ++ E h → (∀ x, x ∈ A → B x ≠ c) → zw_C M F B c A a := by
  intro A
  induction A with
  | nil =>
    intro a ha e _
    obtain ⟨t, et⟩ := zs_hd H ha
    obtain ⟨t', et'⟩ := zs_hd H hh
    rw [List.nil_append, et, et'] at e
    rw [(List.cons.inj e).1]
    exact ⟨hS _ (zs_a H hh), hb⟩
  | cons v A ih =>
    intro a ha e hA
    have hv : v = a := by
      obtain ⟨t', et'⟩ := zs_hd H ha
      rw [et'] at e
      exact (List.cons.inj e).1.symm
    have hr := (zb_1 H hh (v :: A) a ha e v List.mem_cons_self).1
    subst hv
    have e2 : E (F (M v)) = A ++ E h := by
      rw [zs_E1 H ha hr] at e
      exact (List.cons.inj e).2
    obtain ⟨q1, q2, q3⟩ := zs_b H ha hr
    exact ⟨rfl, hS _ (zs_a H ha), hA v List.mem_cons_self, q1, q2, ih _ q3 e2 (fun x hx => hA x (List.mem_cons_of_mem _ hx))⟩
variable {fa fq : Int32} {aj am ao af ab ai ap aq : Nat → Int32} {post : SX → Prop}
theorem zw_m9 (rm : za_M am M) (rb : za_B ab B) {c : Nat} (hc : c < 10) : ∀ (A : List Nat) (v ch s n : Nat) (Fc : Nat → Nat) (Rc : Nat → Bool) (af ai : Nat → Int32), zw_C M F B c A v → (∀ x, x ∈ A → Fc (M x) = F (M x)) → (∀ x, x ∈ A → ∀ y, y ∈ A → M x ≠ y) →
    A.length + s ≤ 10 → A.length < n → ch < 10 → za_F af Fc → za_O ai Rc →
    (∀ (af' ai' : Nat → Int32) (R' : Nat → Bool), za_F af' (zb_k M A Fc ch) → za_O ai' R' → (∀ z, R' z = true ↔ (Rc z = true ∨ ∃ x, x ∈ A ∧ (z = B x ∨ z = B (M x)))) → post (fa, fq, aj, am, ao, af', ab, ai', ap, aq)) →
    wX_markWay_9 post (nI c) fa fq n (nI v) (nI ch) (nI s) aj am ao af ab ai ap aq := by
  intro A
  induction A with
  | nil =>
    intro v ch s n Fc Rc af ai hC _ _ hs hn hch rf ri K
    obtain ⟨n, rfl⟩ : ∃ k, n = k + 1 := ⟨n - 1, by omega⟩
    have hp := K af ai Rc rf ri (fun z => ⟨Or.inl, fun k => k.elim id (fun ⟨x, hx, _⟩ => absurd hx (by simp))⟩)
    unfold wX_markWay_9
    by_cases h10 : s = 10
    · rw [h10]
      exact br_t za_ge hp
    · have hs' : s < 10 := by
        have : ([] : List Nat).length = 0 := rfl
        omega
      rw [za_c hC.1, (rb v hC.1).2, hC.2]
      exact br_f (za_lt hs') ⟨za_in hC.1, br_t rfl hp⟩
  | cons x A ih =>
    intro v ch s n Fc Rc af ai hC hF hM hs hn hch rf ri K
    obtain ⟨n, rfl⟩ : ∃ k, n = k + 1 := ⟨n - 1, by omega⟩
    obtain ⟨rfl, h10, hb, hm, hf, hC'⟩ := hC
    rw [List.length_cons] at hs hn
    have m10 := (rm x h10).1
    have b10 := (rb x h10).1
    have bm10 := (rb _ m10).1
    have fm : upd af x (nI ch) (M x) = nI (F (M x)) := by
      rw [pk_un hm, za_Ft rf m10 (by rw [hF x List.mem_cons_self]; exact hf), hF x List.mem_cons_self]
    unfold wX_markWay_9
    rw [za_c h10, za_Mt rm h10 hm, za_c m10, (rb x h10).2, za_c b10, (rb _ m10).2, za_c bm10]
    refine br_f (za_lt (by omega)) ⟨za_in h10, br_f (fun k => hb ((za_eq b10 hc).mp k)) ⟨za_in h10, za_in b10, nm_e ⟨za_in h10, za_in m10, za_in bm10, nm_e ⟨za_in h10, nm_e ⟨za_in h10, nm_e ⟨za_in h10, za_in m10, nm_r fm (nm_r (nI_1 s) ?_)⟩⟩⟩⟩⟩⟩
    refine ih (F (M x)) (M x) (s + 1) n (zu_u Fc x ch) (fun z => (Rc z || decide (z = B x)) || decide (z = B (M x))) _ _ hC' (fun y hy => ?_) (fun y hy w hw => hM y (List.mem_cons_of_mem _ hy) w (List.mem_cons_of_mem _ hw)) (by omega) (by omega) m10 (za_F1 rf hch) (za_O1 (za_O1 ri (fun _ => rfl)) (fun _ => rfl)) (fun af' ai' R' k1 k2 k3 => K af' ai' R' k1 k2 (fun z => (k3 z).trans ?_))
    · rw [zu_n _ (hM y (List.mem_cons_of_mem _ hy) x List.mem_cons_self)]
      exact hF y (List.mem_cons_of_mem _ hy)
    · constructor
      · rintro (k | ⟨y, y1, y2⟩)
        · simp at k
          rcases k with (k | k) | k
          · exact Or.inl k
          · exact Or.inr ⟨x, List.mem_cons_self, Or.inl k⟩
          · exact Or.inr ⟨x, List.mem_cons_self, Or.inr k⟩
        · exact Or.inr ⟨y, List.mem_cons_of_mem _ y1, y2⟩
      · rintro (k | ⟨y, y1, y2⟩)
        · exact Or.inl (by simp [k])
        · rw [List.mem_cons] at y1
          rcases y1 with y1 | y1
          · rw [y1] at y2
            rcases y2 with y2 | y2
            · exact Or.inl (by simp [y2])
            · exact Or.inl (by simp [y2])
          · exact Or.inr ⟨y, y1, y2⟩
theorem zw_mark (rm : za_M am M) (rb : za_B ab B) {c : Nat} (hc : c < 10) {A : List Nat} {v ch : Nat} {Fc : Nat → Nat} {Rc : Nat → Bool} (hC : zw_C M F B c A v) (hF : ∀ x, x ∈ A → Fc (M x) = F (M x)) (hM : ∀ x, x ∈ A → ∀ y, y ∈ A → M x ≠ y)
    (hl : A.length ≤ 10) (hch : ch < 10) (rf : za_F af Fc) (ri : za_O ai Rc)
    (K : ∀ (af' ai' : Nat → Int32) (R' : Nat → Bool), za_F af' (zb_k M A Fc ch) → za_O ai' R' → (∀ z, R' z = true ↔ (Rc z = true ∨ ∃ x, x ∈ A ∧ (z = B x ∨ z = B (M x)))) → post (fa, fq, aj, am, ao, af', ab, ai', ap, aq)) :
    wpX_markWay post (fa, fq, aj, am, ao, af, ab, ai, ap, aq) (nI v) (nI c) (nI ch) := by
  unfold wpX_markWay
  dsimp only
  exact ⟨11, zw_m9 rm rb hc A v ch 0 11 Fc Rc af ai hC hF hM (by omega) (by omega) hch rf ri K⟩
end
end
section
/-! drawTogether -/
section
variable {g : Nat → Nat → Bool} {S O : Nat → Bool} {M F B : Nat → Nat} {r : Nat} {E : Nat → List Nat}
variable {fa fq : Int32} {aj am ao af ab ai ap aq : Nat → Int32} {post : SX → Prop}
theorem zw_48 {R : Nat → Bool} {c : Nat} {q0 : Nat → Nat} {e0 : Nat} (hc : c < 10) (ri : za_O ai R) (hB : ∀ i, i < 10 → B i < 10) (hO : ∀ x, O x = true → x < 10)
    (K : ∀ (e' : Nat) (ao' ab' aq' : Nat → Int32) (O' : Nat → Bool) (q' : Nat → Nat), (∀ x, O' x = (O x || (decide (x < 10) && R (B x)))) → za_O ao' O' → za_B ab' (fun x => if R (B x) = true then c else B x) → za_Q aq' q' e' → zq_Q O' q' e' → e0 ≤ e' → (∀ j, j < e0 → q' j = q0 j) → post (fa, nI e', aj, am, ao', af, ab', ai, ap, aq')) :
    ∀ (d i n e : Nat) (ao ab aq : Nat → Int32) (Bi : Nat → Nat) (Oi : Nat → Bool) (qi : Nat → Nat), i + d = 10 → d < n → (∀ x, Bi x = if x < i ∧ R (B x) = true then c else B x) → (∀ x, Oi x = (O x || (decide (x < i) && R (B x)))) →
      za_B ab Bi → za_O ao Oi → za_Q aq qi e → zq_Q Oi qi e → e0 ≤ e → (∀ j, j < e0 → qi j = q0 j) → wX_drawTogether_48 post (nI c) n (nI i) fa (nI e) aj am ao af ab ai ap aq := by
  intro d
  induction d with
  | zero =>
    intro i n e ao ab aq Bi Oi qi hi hn hBi hOi rb ro rq hq he hj
    obtain ⟨n, rfl⟩ : ∃ k, n = k + 1 := ⟨n - 1, by omega⟩
    have h10 : i = 10 := by omega
    subst h10
    unfold wX_drawTogether_48
    refine br_t za_ge (K e ao ab aq Oi qi hOi ro (fun j hj => ?_) rq hq he hj)
    have a := rb j hj
    have e1 : Bi j = if R (B j) = true then c else B j := by
      rw [hBi]
      by_cases k : R (B j) = true
      · rw [if_pos ⟨hj, k⟩, if_pos k]
      · rw [if_neg (fun z => k z.2), if_neg k]
    rw [e1] at a
    exact a
  | succ d ih =>
    intro i n e ao ab aq Bi Oi qi hi hn hBi hOi rb ro rq hq he hj
    obtain ⟨n, rfl⟩ : ∃ k, n = k + 1 := ⟨n - 1, by omega⟩
    have i10 : i < 10 := by omega
    have e1 : Bi i = B i := by rw [hBi, if_neg (fun z => absurd z.1 (by omega))]
    have b10 := hB i i10
    unfold wX_drawTogether_48
    rw [za_c i10, (rb i i10).2, e1, za_c b10]
    refine br_f (za_lt i10) ⟨za_in i10, za_in b10, ?_⟩
    cases hR : R (B i)
    · refine br_t (za_Of ri b10 hR) (nm_r (nI_1 i) ?_)
      refine ih (i + 1) n e ao ab aq Bi Oi qi (by omega) (by omega) (fun x => ?_) (fun x => ?_) rb ro rq hq he hj
      · rw [hBi]
        by_cases k : x = i
        · rw [k, if_neg (fun z => absurd z.1 (by omega)), if_neg (fun z => by rw [hR] at z; exact absurd z.2 (by decide))]
        · by_cases k2 : x < i ∧ R (B x) = true
          · rw [if_pos k2, if_pos ⟨by omega, k2.2⟩]
          · rw [if_neg k2, if_neg (fun z => k2 ⟨by omega, z.2⟩)]
      · rw [hOi]
        by_cases k : x = i
        · rw [k, hR, Bool.and_false, Bool.and_false]
        · have : decide (x < i) = decide (x < i + 1) := decide_eq_decide.mpr (by omega)
          rw [this]
    · refine br_f (za_Ot ri b10 hR) ⟨za_in i10, nm_e ?_⟩
      refine zw_mo i10 (fun x k => ?_) ro rq hq (fun e' ao' aq' O' q' k1 k2 k3 k4 k5 k6 => ?_)
      · rw [hOi] at k
        cases q : O x
        · rw [q, Bool.false_or] at k
          simp at k
          omega
        · exact hO x q
      · refine nm_r (nI_1 i) ?_
        refine ih (i + 1) n e' ao' _ aq' (zu_u Bi i c) O' q' (by omega) (by omega) (fun x => ?_) (fun x => ?_) (za_B1 rb hc) k2 k3 k4 (by omega) (fun j hj' => by rw [k6 j (by omega)]; exact hj j hj')
        · by_cases k : x = i
          · rw [k, zu_s, if_pos ⟨by omega, hR⟩]
          · rw [zu_n _ k, hBi]
            by_cases k2 : x < i ∧ R (B x) = true
            · rw [if_pos k2, if_pos ⟨by omega, k2.2⟩]
            · rw [if_neg k2, if_neg (fun z => k2 ⟨by omega, z.2⟩)]
        · rw [k1, hOi]
          by_cases k : x = i
          · rw [k, hR, decide_eq_true rfl, decide_eq_true (by omega : i < i + 1)]; simp
          · have : decide (x < i) = decide (x < i + 1) := decide_eq_decide.mpr (by omega)
            rw [this, decide_eq_false k, Bool.or_false]
theorem zw_10 {x1 x2 x3 : Int32} (K : ∀ ai' : Nat → Int32, za_O ai' (fun _ => false) → (∃ n, wX_drawTogether_10 post x1 x2 x3 fa fq (n + 1) (nI 10) aj am ao af ab ai' ap aq)) :
    ∃ n, wX_drawTogether_10 post x1 x2 x3 fa fq n 0 aj am ao af ab ai ap aq := by
  have : ∀ (d i : Nat) (ai : Nat → Int32), i + d = 10 → (∀ j, j < i → ai j = 0) → ∃ n, wX_drawTogether_10 post x1 x2 x3 fa fq n (nI i) aj am ao af ab ai ap aq := by
    intro d
    induction d with
    | zero =>
      intro i ai hi h0
      obtain ⟨n, hn⟩ := K ai (fun j hj => by rw [h0 j (by omega)]; rfl)
      have : i = 10 := by omega
      exact ⟨n + 1, by rw [this]; exact hn⟩
    | succ d ih =>
      intro i ai hi h0
      obtain ⟨n, hn⟩ := ih (i + 1) (upd ai i (vp_nar .boolean 0)) (by omega) (fun j hj => by
        by_cases e : j = i
        · rw [e, pk_us]; rfl
        · rw [pk_un e]; exact h0 j (by omega))
      refine ⟨n + 1, ?_⟩
      unfold wX_drawTogether_10
      rw [za_c (by omega)]
      exact br_f (za_lt (by omega)) ⟨za_in (by omega), nm_e (nm_r (nI_1 i) hn)⟩
  exact this 10 0 ai rfl (fun j hj => absurd hj (by omega))
theorem zw_draw (hS : ∀ v, S v = true → v < 10) (hg : ∀ u v, g u v = g v u) (H : zs_I g S M r O F B E) (rm : za_M am M) (ro : za_O ao O) (rf : za_F af F) (rb : za_B ab B) {q : Nat → Nat} {e : Nat} (rq : za_Q aq q e) (hq : zq_Q O q e) {a b : Nat} (ha : O a = true) (hb : O b = true) (hab : g a b = true)
    (K : ∀ (e' : Nat) (ao' af' ab' ai' ap' aq' : Nat → Int32) (O' : Nat → Bool) (F' B' q' : Nat → Nat) (E' : Nat → List Nat), zs_I g S M r O' F' B' E' → za_O ao' O' → za_F af' F' → za_B ab' B' → za_Q aq' q' e' → zq_Q O' q' e' → e ≤ e' → (∀ j, j < e → q' j = q j) →
      (∀ x y, B x = B y → B' x = B' y) → (∀ t, F t < 10 → F' t < 10) → B' a = B' b → post (fa, nI e', aj, am, ao', af', ab', ai', ap', aq')) :
    wpX_drawTogether post (fa, nI e, aj, am, ao, af, ab, ai, ap, aq) (nI a) (nI b) := by
  unfold wpX_drawTogether
  dsimp only
  refine zw_meet hS H rm rf rb ha hb (fun c ap1 c1 c2 c3 c4 c5 => ?_)
  refine zw_10 (fun ai1 ri => ⟨0, ?_⟩)
  have c10 := hS c (zs_a H c1)
  have a10 := hS a (zs_a H ha)
  have b10 := hS b (zs_a H hb)
  obtain ⟨A, h, s1, s2, s3, s4⟩ := zs_split H ha c3 c2
  obtain ⟨A', h', s1', s2', s3', s4'⟩ := zs_split H hb c4 c2
  have X : zb_X g O B E c a h A b h' A' := ⟨hab, c2, ⟨ha, s2, s1, s3, s4⟩, ⟨hb, s2', s1', s3', s4'⟩, c5⟩
  have X' := zb_sym hg X
  have la : A.length ≤ 10 := by
    have := zs_len hS H ha
    rw [s1, List.length_append] at this
    omega
  have lb : A'.length ≤ 10 := by
    have := zs_len hS H hb
    rw [s1', List.length_append] at this
    omega
  have na : A.Nodup := by
    have := zs_nd H ha
    rw [s1, List.nodup_append] at this
    exact this.1
  have nb : A'.Nodup := by
    have := zs_nd H hb
    rw [s1', List.nodup_append] at this
    exact this.1
  unfold wX_drawTogether_10
  refine br_t za_ge ?_
  refine zw_mark rm rb c10 (zw_Cof hS H s2 s3 A a ha s1 s4) (fun x _ => rfl) (fun x hx y hy k => zb_d3 hg H X (Or.inl hx) (Or.inl (by rw [k]; exact hy))) la b10 rf ri (fun af1 ai2 R1 f1 r1 hR1 => ?_)
  refine zw_mark rm rb c10 (zw_Cof hS H s2' s3' A' b hb s1' s4') (fun x hx => zb_k_n M A F b (fun k => zb_d3 hg H X (Or.inr hx) (Or.inl k))) (fun x hx y hy k => zb_d3 hg H X (Or.inr hx) (Or.inr (by rw [k]; exact hy))) lb a10 f1 r1 (fun af2 ai3 R f2 r2 hR2 => ?_)
  have hR : ∀ z, R z = true ↔ ∃ x, (x ∈ A ∨ x ∈ A') ∧ (z = B x ∨ z = B (M x)) := fun z => by
    rw [hR2, hR1]
    constructor
    · rintro ((k | ⟨x, x1, x2⟩) | ⟨x, x1, x2⟩)
      · exact absurd k (by decide)
      · exact ⟨x, Or.inl x1, x2⟩
      · exact ⟨x, Or.inr x1, x2⟩
    · rintro ⟨x, x1 | x1, x2⟩
      · exact Or.inl (Or.inr ⟨x, x1, x2⟩)
      · exact Or.inr ⟨x, x1, x2⟩
  have hO10 : ∀ x, O x = true → x < 10 := fun x k => hS x (zs_a H k)
  have hR10 : ∀ x, R (B x) = true → x < 10 := fun x k => by
    cases ho : O x
    · obtain ⟨y, y1, y2⟩ := zr_i hg H X hR ho k
      rw [y2]; exact hS _ (zm_in (zs_ma H) (zb_d hg H X y1).2.2.2)
    · exact hO10 x ho
  refine ⟨11, zw_48 c10 r2 (fun i hi => (rb i hi).1) hO10 (fun e' ao' ab' aq' O' q' k1 k2 k3 k4 k5 k6 k7 => ?_) 10 0 11 e ao ab aq B O q rfl (by omega) (fun x => by rw [if_neg (fun z => absurd z.1 (by omega))]) (fun x => by simp) rb ro rq hq (Nat.le_refl _) (fun j _ => rfl)⟩
  have cA' : zb_c M (zb_k M A' (zb_k M A F b) a) A' a := zb_k_c M A' _ a nb
  have cA : zb_c M (zb_k M A' (zb_k M A F b) a) A b := zb_c_e A b (fun y hy => zb_k_n M A' _ a (fun k => zb_d1 H X hy (zb_a H X' k).2.2.2.2)) (zb_k_c M A F b na)
  have hF : ∀ y, ¬ (y ∈ A ∨ y ∈ A') → zb_k M A' (zb_k M A F b) a y = F y := fun y hy => by
    rw [zb_k_n M A' _ a (fun k => hy (Or.inr k)), zb_k_n M A F b (fun k => hy (Or.inl k))]
  obtain ⟨⟨E', H'⟩, ba, bb⟩ := zr_draw hS hg H X hR hF cA cA' (O' := O') (B' := fun x => if R (B x) = true then c else B x) (fun x => by
    rw [k1]
    cases ho : R (B x)
    · rw [Bool.and_false]
    · rw [decide_eq_true (hR10 x ho), Bool.true_and]) (fun x => rfl)
  refine K e' ao' af2 ab' ai3 ap1 aq' O' _ _ q' E' H' k2 f2 k3 k4 k5 k6 k7 (fun x y k => ?_) (fun t k => ?_) (ba.trans bb.symm)
  · show (if R (B x) = true then c else B x) = (if R (B y) = true then c else B y)
    rw [k]
  · by_cases k2 : t ∈ A ∨ t ∈ A'
    · rcases k2 with k2 | k2
      · exact (zr_F1 hS hg H X cA k2).2.1
      · exact (zr_F1 hS hg H X' cA' k2).2.1
    · rw [hF t k2]; exact k
end
end
section
/-! bits -/
theorem zx_b1 : ∀ i, i < 32 → bt 1 i = decide (i = 0) := by decide +kernel
theorem zx_and1 (y : Int32) : (y &&& 1) = 0 ↔ bt y 0 = false := by
  constructor
  · intro h
    have := b_and y 1 0
    rw [h, b_0, zx_b1 0 (by omega)] at this
    simpa using this.symm
  · intro h
    apply b_ext
    intro i hi
    rw [b_and, zx_b1 i hi, b_0]
    by_cases e : i = 0
    · rw [e, h]; rfl
    · rw [decide_eq_false e, Bool.and_false]
theorem zx_and1' (y : Int32) : (y &&& 1) = 1 ↔ bt y 0 = true := by
  constructor
  · intro h
    have := b_and y 1 0
    rw [h, zx_b1 0 (by omega)] at this
    simpa using this.symm
  · intro h
    apply b_ext
    intro i hi
    rw [b_and, zx_b1 i hi]
    by_cases e : i = 0
    · rw [e, h]; rfl
    · rw [decide_eq_false e, Bool.and_false]
theorem zx_u (x : Int32) {j : Nat} (hj : j < 32) : ((x.toUInt32 >>> ((nI j).toUInt32 &&& Int32.toUInt32 31)).toInt32 &&& 1) = 0 ↔ bt x j = false := by
  rw [zx_and1, b_ushr j hj x 0, Nat.add_zero]
theorem zx_s0 (x : Int32) {j : Nat} (hj : j < 32) : ((x >>> (nI j &&& 31)) &&& 1) = 0 ↔ bt x j = false := by
  rw [zx_and1, b_sshr j hj x (by omega), if_pos (by omega), Nat.add_zero]
theorem zx_s1 (x : Int32) {j : Nat} (hj : j < 32) : ((x >>> (nI j &&& 31)) &&& 1) = 1 ↔ bt x j = true := by
  rw [zx_and1', b_sshr j hj x (by omega), if_pos (by omega), Nat.add_zero]
def za_G (a : Nat → Int32) (g : Nat → Nat → Bool) : Prop := ∀ i, i < 10 → ∀ j, j < 32 → bt (a i) j = g i j
def zw_T (g : Nat → Nat → Bool) (S : Nat → Bool) (M : Nat → Nat) (r e : Nat) (O : Nat → Bool) (F B q : Nat → Nat) (E : Nat → List Nat) (ao af ab aq : Nat → Int32) : Prop :=
  zs_I g S M r O F B E ∧ za_O ao O ∧ za_F af F ∧ za_B ab B ∧ za_Q aq q e ∧ zq_Q O q e
section
variable {g : Nat → Nat → Bool} {S O : Nat → Bool} {M F B : Nat → Nat} {r : Nat} {E : Nat → List Nat}
variable {fa fq : Int32} {aj am ao af ab ai ap aq : Nat → Int32} {post : Int32 → SX → Prop}
theorem zw_line {post : Int32 → Prop} (rg : za_G aj g) {u t : Nat} (hu : u < 10) (ht : t < 10) (h1 : g u t = true → post 1) (h0 : g u t = false → post 0) : wpX_isLine post (fa, fq, aj, am, ao, af, ab, ai, ap, aq) (nI u) (nI t) := by
  unfold wpX_isLine
  dsimp only
  rw [za_c hu, zx_u _ (by omega), rg u hu t (by omega)]
  refine ⟨za_in hu, fun k => h0 k, fun k => h1 ?_⟩
  cases q : g u t
  · exact absurd q k
  · rfl
theorem zw_f60 (hS : ∀ v, S v = true → v < 10) (hg : ∀ u v, g u v = g v u) {q : Nat → Nat} {e : Nat} (rm : za_M am M) (T : zw_T g S M r e O F B q E ao af ab aq) {u t : Nat} (hu : O u = true) (ht : O t = true) (hgt : g u t = true)
    (K1 : ∀ (e' : Nat) (ao' af' ab' ai' ap' aq' : Nat → Int32) (O' : Nat → Bool) (F' B' q' : Nat → Nat) (E' : Nat → List Nat), zw_T g S M r e' O' F' B' q' E' ao' af' ab' aq' → e ≤ e' → (∀ j, j < e → q' j = q j) →
      (∀ x y, B x = B y → B' x = B' y) → (∀ t, F t < 10 → F' t < 10) → ((B' u = B' t ∨ M u = t ∨ F' t < 10) ∧ (O t = true → B' u = B' t ∨ M u = t)) → post (-1) (fa, nI e', aj, am, ao', af', ab', ai', ap', aq')) :
    wX_follow_55 post (nI u) (nI t) fa (nI e) aj am ao af ab ai ap aq := by
  obtain ⟨H, ro, rf, rb, rq, hq⟩ := T
  unfold wX_follow_55 wX_follow_60
  refine br_f (by decide) ?_
  refine zw_draw hS hg H rm ro rf rb rq hq hu ht hgt (fun e' ao' af' ab' ai' ap' aq' O' F' B' q' E' k1 k2 k3 k4 k5 k6 k7 k8 k9 k10 k11 => ?_)
  exact K1 e' ao' af' ab' ai' ap' aq' O' F' B' q' E' ⟨k1, k2, k3, k4, k5, k6⟩ k7 k8 k9 k10 ⟨Or.inl k11, fun _ => Or.inl k11⟩
theorem zw_f59 (hS : ∀ v, S v = true → v < 10) (hg : ∀ u v, g u v = g v u) {q : Nat → Nat} {e : Nat} (rm : za_M am M) (T : zw_T g S M r e O F B q E ao af ab aq) {u t : Nat} (hu : O u = true) (st : S t = true) (hgt : g u t = true) (htr : t ≠ r) (hn : M t = t ∨ ¬ F (M t) < 10)
    (K1 : ∀ (e' : Nat) (ao' af' ab' ai' ap' aq' : Nat → Int32) (O' : Nat → Bool) (F' B' q' : Nat → Nat) (E' : Nat → List Nat), zw_T g S M r e' O' F' B' q' E' ao' af' ab' aq' → e ≤ e' → (∀ j, j < e → q' j = q j) →
      (∀ x y, B x = B y → B' x = B' y) → (∀ t, F t < 10 → F' t < 10) → ((B' u = B' t ∨ M u = t ∨ F' t < 10) ∧ (O t = true → B' u = B' t ∨ M u = t)) → post (-1) (fa, nI e', aj, am, ao', af', ab', ai', ap', aq'))
    (K2 : ∀ af' : Nat → Int32, M t = t → za_F af' (zu_u F t u) → post (nI t) (fa, nI e, aj, am, ao, af', ab, ai, ap, aq)) :
    wX_follow_59 post (nI u) (nI t) fa (nI e) aj am ao af ab ai ap aq := by
  have T0 := T
  obtain ⟨H, ro, rf, rb, rq, hq⟩ := T
  have t10 := hS t st
  have u10 := hS u (zs_a H hu)
  have Ot : O t = false := by
    cases k : O t
    · rfl
    · have k2 := zs_b H k htr
      rcases hn with hn | hn
      · exact absurd hn k2.1
      · exact absurd k2.2.1 hn
  unfold wX_follow_59 wX_follow_60
  rw [za_c t10]
  refine br_t rfl ⟨za_in t10, ?_⟩
  by_cases hf : F t < 10
  · rw [za_Ft rf t10 hf]
    refine br_t (za_p' hf) ?_
    exact K1 e ao af ab ai ap aq O F B q E T0 (Nat.le_refl _) (fun _ _ => rfl) (fun _ _ => id) (fun _ => id) ⟨Or.inr (Or.inr hf), fun k => by rw [Ot] at k; exact absurd k (by decide)⟩
  · rw [za_Ff rf t10 hf]
    refine br_f za_m1' ⟨za_in t10, nm_e ⟨za_in t10, ?_⟩⟩
    by_cases hm : M t = t
    · rw [za_Mf rm t10 hm]
      exact br_f za_m1' (K2 _ hm (za_F1 rf u10))
    · have m10 := (rm t t10).1
      rw [za_Mt rm t10 hm]
      refine br_t (za_p' m10) ⟨za_in t10, ?_⟩
      refine zw_mo m10 (fun x k => hS x (zs_a H k)) ro rq hq (fun e' ao' aq' O' q' k1 k2 k3 k4 k5 k6 => ?_)
      obtain ⟨Oz, E', H'⟩ := zr_grow hS hg H hu hgt htr hm (hn.elim (fun k => absurd k hm) id) hf k1
      refine K1 e' ao' _ ab ai ap aq' O' (zu_u F t u) B q' E' ⟨H', k2, za_F1 rf u10, rb, k3, k4⟩ k5 k6 (fun _ _ => id) (fun w k => ?_) ⟨Or.inr (Or.inr (by rw [zu_s]; exact u10)), fun k => by rw [Ot] at k; exact absurd k (by decide)⟩
      by_cases kw : w = t
      · rw [kw, zu_s]; exact u10
      · rw [zu_n _ kw]; exact k
theorem zw_follow (hS : ∀ v, S v = true → v < 10) (hg : ∀ u v, g u v = g v u) {q : Nat → Nat} {e : Nat} (rm : za_M am M) (T : zw_T g S M r e O F B q E ao af ab aq) {u t : Nat} (hu : O u = true) (st : S t = true) (hgt : g u t = true)
    (K1 : ∀ (e' : Nat) (ao' af' ab' ai' ap' aq' : Nat → Int32) (O' : Nat → Bool) (F' B' q' : Nat → Nat) (E' : Nat → List Nat), zw_T g S M r e' O' F' B' q' E' ao' af' ab' aq' → e ≤ e' → (∀ j, j < e → q' j = q j) →
      (∀ x y, B x = B y → B' x = B' y) → (∀ t, F t < 10 → F' t < 10) → ((B' u = B' t ∨ M u = t ∨ F' t < 10) ∧ (O t = true → B' u = B' t ∨ M u = t)) → post (-1) (fa, nI e', aj, am, ao', af', ab', ai', ap', aq'))
    (K2 : ∀ af' : Nat → Int32, M t = t → t ≠ r → za_F af' (zu_u F t u) → post (nI t) (fa, nI e, aj, am, ao, af', ab, ai, ap, aq)) :
    wpX_follow post (fa, nI e, aj, am, ao, af, ab, ai, ap, aq) (nI u) (nI t) (nI r) := by
  have T0 := T
  obtain ⟨H, ro, rf, rb, rq, hq⟩ := T
  have t10 := hS t st
  have u10 := hS u (zs_a H hu)
  have r10 := hS r (zs_a H (zs_or H))
  have same : (B u = B t ∨ M u = t) → post (-1) (fa, nI e, aj, am, ao, af, ab, ai, ap, aq) := fun k =>
    K1 e ao af ab ai ap aq O F B q E T0 (Nat.le_refl _) (fun _ _ => rfl) (fun _ _ => id) (fun _ => id) ⟨k.elim Or.inl (fun k => Or.inr (Or.inl k)), fun _ => k⟩
  unfold wpX_follow
  dsimp only
  rw [za_c u10, za_c t10, (rb u u10).2, (rb t t10).2]
  refine ⟨za_in u10, za_in t10, br_c (fun k => same (Or.inl ((za_eq (rb u u10).1 (rb t t10).1).mp k))) (fun _ => ⟨za_in u10, br_c (fun k => same (Or.inr ?_)) (fun _ => ?_)⟩)⟩
  · by_cases hm : M u = u
    · rw [za_Mf rm u10 hm] at k
      have := za_p' t10
      rw [← k] at this
      exact absurd this za_m1'
    · rw [za_Mt rm u10 hm] at k
      exact (za_eq (rm u u10).1 t10).mp k
  · by_cases htr : t = r
    · rw [htr]
      refine br_t rfl ?_
      exact zw_f60 hS hg rm T0 hu (zs_or H) (by rw [← htr]; exact hgt) (fun e' ao' af' ab' ai' ap' aq' O' F' B' q' E' k1 k2 k3 k4 k5 k6 => K1 e' ao' af' ab' ai' ap' aq' O' F' B' q' E' k1 k2 k3 k4 k5 (by rw [htr]; exact k6))
    · refine br_f (fun k => htr ((za_eq t10 r10).mp k)) ⟨za_in t10, ?_⟩
      by_cases hm : M t = t
      · rw [za_Mf rm t10 hm]
        exact br_t za_m1 (zw_f59 hS hg rm T0 hu st hgt htr (Or.inl hm) K1 (fun af' k1 k2 => K2 af' k1 htr k2))
      · have m10 := (rm t t10).1
        rw [za_Mt rm t10 hm, za_c m10]
        refine br_f (za_p m10) ⟨za_in t10, za_in m10, ?_⟩
        by_cases hf : F (M t) < 10
        · rw [za_Ft rf m10 hf]
          have Ot := (zs_c H hf).2.2.2
          rw [zm_inv (zs_ma H)] at Ot
          exact br_f (za_p hf) (zw_f60 hS hg rm T0 hu Ot hgt K1)
        · rw [za_Ff rf m10 hf]
          exact br_t za_m1 (zw_f59 hS hg rm T0 hu st hgt htr (Or.inr hf) K1 (fun af' k1 k2 => K2 af' k1 htr k2))
end
end
section
/-! search -/
section
variable {g : Nat → Nat → Bool} {S : Nat → Bool} {M : Nat → Nat} {r : Nat}
variable {fa : Int32} {aj am : Nat → Int32} {post : Int32 → SX → Prop}
/-- what a search finds -/
def zf_K (g : Nat → Nat → Bool) (S : Nat → Bool) (M : Nat → Nat) (r : Nat) (fa : Int32) (aj am : Nat → Int32) (post : Int32 → SX → Prop) : Prop :=
  ∀ (fq : Int32) (ao af ab ai ap aq : Nat → Int32) (O : Nat → Bool) (F B : Nat → Nat) (E : Nat → List Nat) (u t : Nat), zs_I g S M r O F B E → O u = true → S t = true → g u t = true → M t = t → t ≠ r → za_F af (zu_u F t u) → post (nI t) (fa, fq, aj, am, ao, af, ab, ai, ap, aq)
theorem zw_63 (hS : ∀ v, S v = true → v < 10) (hSa : ∀ v, v < 10 → S v = !bt fa v) (hg : ∀ u v, g u v = g v u) (rg : za_G aj g) (rm : za_M am M) (KF : zf_K g S M r fa aj am post) {k : Nat} (hk : k < 10) {J : Int32 → Int32 → Int32 → (Nat → Int32) → (Nat → Int32) → (Nat → Int32) → (Nat → Int32) → (Nat → Int32) → (Nat → Int32) → (Nat → Int32) → (Nat → Int32) → Prop}
    (KE : ∀ (e : Nat) (ao af ab ai ap aq : Nat → Int32) (O : Nat → Bool) (F B q : Nat → Nat) (E : Nat → List Nat), zw_T g S M r e O F B q E ao af ab aq → k < e → zp_D g S M B F q k 10 → J (nI (k + 1)) fa (nI e) aj am ao af ab ai ap aq) :
    ∀ (d t n e : Nat) (ao af ab ai ap aq : Nat → Int32) (O : Nat → Bool) (F B q : Nat → Nat) (E : Nat → List Nat), t + d = 10 → d < n → zw_T g S M r e O F B q E ao af ab aq → k < e → zp_D g S M B F q k t → wX_search_63 post J (nI r) (nI k) n (nI t) fa (nI e) aj am ao af ab ai ap aq := by
  intro d
  induction d with
  | zero =>
    intro t n e ao af ab ai ap aq O F B q E ht hn T ke D
    obtain ⟨n, rfl⟩ : ∃ k, n = k + 1 := ⟨n - 1, by omega⟩
    have : t = 10 := by omega
    subst this
    unfold wX_search_63
    exact br_t za_ge (nm_r (nI_1 k) (KE e ao af ab ai ap aq O F B q E T ke D))
  | succ d ih =>
    intro t n e ao af ab ai ap aq O F B q E ht hn T ke D
    obtain ⟨n, rfl⟩ : ∃ k, n = k + 1 := ⟨n - 1, by omega⟩
    have t10 : t < 10 := by omega
    have H := T.1
    have rq := T.2.2.2.2.1
    have hq := T.2.2.2.2.2
    have hu := hq.2.1 k ke
    have u10 := (rq k ke).1
    -- a line that is not followed
    have skip : (S t = true → g (q k) t = true → False) → wX_search_63 post J (nI r) (nI k) n (nI (t + 1)) fa (nI e) aj am ao af ab ai ap aq := fun hno =>
      ih (t + 1) n e ao af ab ai ap aq O F B q E (by omega) (by omega) T ke (zp_next D (fun k1 k2 => (hno k1 k2).elim))
    have h98 : (S t = true → g (q k) t = true → False) → wX_search_98 post J (wX_search_63 post J (nI r) (nI k) n) (nI r) (nI k) (nI t) fa (nI e) aj am ao af ab ai ap aq := fun hno => by
      unfold wX_search_98 wX_search_99
      refine br_t rfl ?_
      unfold wX_search_122
      exact br_t za_m1 (nm_r (nI_1 t) (skip hno))
    unfold wX_search_63
    rw [za_c hk, (rq k ke).2]
    refine br_f (za_lt t10) ⟨za_in hk, ?_⟩
    refine zw_line rg u10 t10 (fun hgt => br_f (by decide) ?_) (fun hgt => br_t rfl (h98 (fun _ k2 => by rw [hgt] at k2; exact absurd k2 (by decide))))
    rw [zx_u fa (by omega)]
    cases hb : bt fa t
    · refine br_t rfl ?_
      have st : S t = true := by rw [hSa t t10, hb]; rfl
      unfold wX_search_99
      rw [za_c hk, (rq k ke).2]
      refine br_f (by decide) ⟨za_in hk, ?_⟩
      refine zw_follow hS hg rm T hu st hgt (fun e' ao' af' ab' ai' ap' aq' O' F' B' q' E' k1 k2 k3 k4 k5 k6 => ?_) (fun af' k1 k2 k3 => ?_)
      · unfold wX_search_122
        refine br_t za_m1 (nm_r (nI_1 t) ?_)
        have qk : q' k = q k := k3 k ke
        refine ih (t + 1) n e' ao' af' ab' ai' ap' aq' O' F' B' q' E' (by omega) (by omega) k1 (by omega) (zp_next (zp_up D k4 k5 (fun j hj => k3 j (by omega))) (fun _ _ => ?_))
        rw [qk]
        refine ⟨k6.1, fun j hj hjt => k6.2 ?_⟩
        rw [← hjt, k3 j (by omega)]
        exact hq.2.1 j (by omega)
      · unfold wX_search_122
        exact br_f (za_p t10) (KF _ ao af' ab ai ap aq O F B E (q k) t H hu st hgt k1 k2 k3)
    · refine br_f (by decide) (h98 (fun k1 _ => ?_))
      rw [hSa t t10, hb] at k1
      exact absurd k1 (by decide)
/-- what a failed search leaves -/
def zf_N (g : Nat → Nat → Bool) (S : Nat → Bool) (M : Nat → Nat) (r : Nat) (fa : Int32) (aj am : Nat → Int32) (post : Int32 → SX → Prop) : Prop :=
  ∀ (fq : Int32) (ao af ab ai ap aq : Nat → Int32) (O : Nat → Bool), za_O ao O → zk_K g S M r O → (∀ x, O x = true → S x = true ∧ ∃ N, zm_M g S N ∧ zm_z N = zm_z M ∧ N x = x) → post (-1) (fa, fq, aj, am, ao, af, ab, ai, ap, aq)
theorem zw_47 (hS : ∀ v, S v = true → v < 10) (hSa : ∀ v, v < 10 → S v = !bt fa v) (hg : ∀ u v, g u v = g v u) (rg : za_G aj g) (rm : za_M am M) (KF : zf_K g S M r fa aj am post) (KN : zf_N g S M r fa aj am post) :
    ∀ (d k n e : Nat) (ao af ab ai ap aq : Nat → Int32) (O : Nat → Bool) (F B q : Nat → Nat) (E : Nat → List Nat), k + d = 10 → d < n → zw_T g S M r e O F B q E ao af ab aq → k ≤ e → zp_D g S M B F q k 0 → wX_search_47 post (nI r) n (nI k) fa (nI e) aj am ao af ab ai ap aq := by
  intro d
  induction d with
  | zero =>
    intro k n e ao af ab ai ap aq O F B q E hk hn T ke D
    obtain ⟨n, rfl⟩ : ∃ k, n = k + 1 := ⟨n - 1, by omega⟩
    have e10 := T.2.2.2.2.2.1
    have : k = e := by omega
    subst this
    unfold wX_search_47
    refine br_t (nI_le (Nat.le_refl _) (by omega)) ?_
    exact KN _ ao af ab ai ap aq O T.2.1 (zp_end hS hg T.1 T.2.2.2.2.2 D) (fun x hx => ⟨zs_a T.1 hx, zt_free hS T.1 hg hx⟩)
  | succ d ih =>
    intro k n e ao af ab ai ap aq O F B q E hk hn T ke D
    obtain ⟨n, rfl⟩ : ∃ k, n = k + 1 := ⟨n - 1, by omega⟩
    have e10 := T.2.2.2.2.2.1
    unfold wX_search_47
    by_cases h : e = k
    · subst h
      refine br_t (nI_le (Nat.le_refl _) (by omega)) ?_
      exact KN _ ao af ab ai ap aq O T.2.1 (zp_end hS hg T.1 T.2.2.2.2.2 D) (fun x hx => ⟨zs_a T.1 hx, zt_free hS T.1 hg hx⟩)
    · refine br_f (nI_ge (by omega) (by omega)) (br_f (za_lt (by omega)) ⟨11, ?_⟩)
      exact zw_63 hS hSa hg rg rm KF (by omega) (fun e ao af ab ai ap aq O F B q E T ke D => ih (k + 1) n e ao af ab ai ap aq O F B q E (by omega) (by omega) T (by omega) (zp_row hS D)) 10 0 11 e ao af ab ai ap aq O F B q E rfl (by omega) T (by omega) D
theorem zw_s2 {fq x1 : Int32} {ai ap aq : Nat → Int32} (K : ∀ ao af ab : Nat → Int32, za_O ao (fun _ => false) → za_F af (fun _ => 10) → za_B ab (fun x => x) → (∃ n, wX_search_2 post x1 fa fq (n + 1) (nI 10) aj am ao af ab ai ap aq)) {ao af ab : Nat → Int32} :
    ∃ n, wX_search_2 post x1 fa fq n 0 aj am ao af ab ai ap aq := by
  have : ∀ (d i : Nat) (ao af ab : Nat → Int32), i + d = 10 → (∀ j, j < i → ao j = 0 ∧ af j = -1 ∧ ab j = nI j) → ∃ n, wX_search_2 post x1 fa fq n (nI i) aj am ao af ab ai ap aq := by
    intro d
    induction d with
    | zero =>
      intro i ao af ab hi h0
      obtain ⟨n, hn⟩ := K ao af ab (fun j hj => by rw [(h0 j (by omega)).1]; rfl) (fun j hj => by rw [(h0 j (by omega)).2.1]; rfl) (fun j hj => ⟨hj, (h0 j (by omega)).2.2⟩)
      have : i = 10 := by omega
      exact ⟨n + 1, by rw [this]; exact hn⟩
    | succ d ih =>
      intro i ao af ab hi h0
      obtain ⟨n, hn⟩ := ih (i + 1) (upd ao i (vp_nar .boolean 0)) (upd af i (-1)) (upd ab i (nI i)) (by omega) (fun j hj => by
        by_cases e : j = i
        · rw [e, pk_us, pk_us, pk_us]; exact ⟨rfl, rfl, rfl⟩
        · rw [pk_un e, pk_un e, pk_un e]; exact h0 j (by omega))
      refine ⟨n + 1, ?_⟩
      unfold wX_search_2
      rw [za_c (by omega)]
      exact br_f (za_lt (by omega)) ⟨za_in (by omega), nm_e ⟨za_in (by omega), nm_e ⟨za_in (by omega), nm_e (nm_r (nI_1 i) hn)⟩⟩⟩
  exact this 10 0 ao af ab rfl (fun j hj => absurd hj (by omega))
theorem zw_search (hS : ∀ v, S v = true → v < 10) (hSa : ∀ v, v < 10 → S v = !bt fa v) (hg : ∀ u v, g u v = g v u) (rg : za_G aj g) (hM : zm_M g S M) (rm : za_M am M) (sr : S r = true) (mr : M r = r) (KF : zf_K g S M r fa aj am post) (KN : zf_N g S M r fa aj am post) {fq : Int32} {ao af ab ai ap aq : Nat → Int32} :
    wpX_search post (fa, fq, aj, am, ao, af, ab, ai, ap, aq) (nI r) := by
  unfold wpX_search
  dsimp only
  refine zw_s2 (fun ao1 af1 ab1 r1 r2 r3 => ⟨0, ?_⟩)
  unfold wX_search_2
  refine br_t za_ge ?_
  refine zw_mo (e := 0) (q := fun _ => 0) (hS r sr) (fun x k => absurd k (by decide)) r1 (fun j hj => absurd hj (by omega)) ⟨by omega, fun j hj => absurd hj (by omega), fun x k => absurd (show false = true from k) (by decide), fun i j hi => absurd hi (by omega)⟩ (fun e' ao' aq' O' q' k1 k2 k3 k4 k5 k6 => ?_)
  refine ⟨11, ?_⟩
  have H : zs_I g S M r O' (fun _ => 10) (fun x => x) (fun _ => [r]) := zs_0 hM sr mr (fun x => by rw [k1, Bool.false_or]) (fun x => by omega) (fun x => rfl)
  exact zw_47 hS hSa hg rg rm KF KN 10 0 11 e' ao' af1 ab1 ai ap aq' O' _ _ q' _ rfl (by omega) ⟨H, k2, r2, r3, k3, k4⟩ (by omega) (fun k' t ht => absurd ht (by omega))
end
/-! turn -/
section
variable {g : Nat → Nat → Bool} {S O : Nat → Bool} {M F B : Nat → Nat} {r : Nat} {E : Nat → List Nat}
variable {fa fq : Int32} {aj am ao af ab ai ap aq : Nat → Int32} {post : SX → Prop}
theorem zw_t4 (hS : ∀ v, S v = true → v < 10) (hg : ∀ u v, g u v = g v u) (H : zs_I g S M r O F B E) {x : Nat} (hx : O x = true) : ∀ {N : Nat → Nat} {v s n : Nat} {am : Nat → Int32}, zm_M g S N → N v = v → v ∉ E x → S v = true → g x v = true → (∀ y, y ∈ E x → N y = M y) →
    (∀ i, i < 10 → i ≠ v → am i = if N i = i then -1 else nI (N i)) → af v = nI x → (∀ y, y ∈ E x → y ≠ r → af (M y) = nI (F (M y))) → s + (E x).length ≤ 10 → (E x).length < n →
    (∀ am' N', zm_M g S N' → (∀ i, N' i ≠ i ↔ (N i ≠ i ∨ i = v ∨ i = r)) → (∀ i, i < 10 → am' i = if N' i = i then -1 else nI (N' i)) → post (fa, fq, aj, am', ao, af, ab, ai, ap, aq)) →
    wX_turn_4 post fa fq n (nI v) (nI s) aj am ao af ab ai ap aq := by
  refine zs_ind H (P := fun x => ∀ {N : Nat → Nat} {v s n : Nat} {am : Nat → Int32}, zm_M g S N → N v = v → v ∉ E x → S v = true → g x v = true → (∀ y, y ∈ E x → N y = M y) →
    (∀ i, i < 10 → i ≠ v → am i = if N i = i then -1 else nI (N i)) → af v = nI x → (∀ y, y ∈ E x → y ≠ r → af (M y) = nI (F (M y))) → s + (E x).length ≤ 10 → (E x).length < n →
    (∀ am' N', zm_M g S N' → (∀ i, N' i ≠ i ↔ (N i ≠ i ∨ i = v ∨ i = r)) → (∀ i, i < 10 → am' i = if N' i = i then -1 else nI (N' i)) → post (fa, fq, aj, am', ao, af, ab, ai, ap, aq)) →
    wX_turn_4 post fa fq n (nI v) (nI s) aj am ao af ab ai ap aq) ?_ ?_ hx
  · intro N v s n am hN hv hvx sv gv ha rm av rf hs hn K
    have hl : (E r).length = 1 := by rw [zs_E0 H]; rfl
    obtain ⟨n, rfl⟩ : ∃ k, n = k + 2 := ⟨n - 2, by omega⟩
    obtain ⟨k1, k2⟩ := zt_e H hg hN hv hvx sv gv ha
    have v10 := hS v sv
    have r10 := hS r (zs_a H (zs_or H))
    have vr : v ≠ r := fun k => hvx (by rw [k]; exact zs_in H (zs_or H))
    have hNr : N r = r := by rw [ha r (zs_in H (zs_or H)), zs_mr H]
    unfold wX_turn_4
    rw [za_c v10]
    refine br_f (za_lt (by omega)) (br_f (za_p v10) ⟨za_in v10, nm_r av ⟨za_in r10, ?_⟩⟩)
    rw [za_c r10]
    refine nm_r (e' := -1) (by rw [rm r r10 (fun k => vr k.symm), if_pos hNr]) ⟨za_in v10, nm_e ⟨za_in r10, nm_e (nm_r (nI_1 s) ?_)⟩⟩
    have done := K (upd (upd am v (nI r)) r (nI v)) (zt_1 M N v r) k1 k2 (fun i hi => by
      by_cases e1 : i = r
      · rw [e1, pk_us]
        have : zt_1 M N v r r = v := by unfold zt_1; rw [if_neg (fun k => vr k.symm), if_pos rfl]
        rw [this, if_neg vr]
      · rw [pk_un e1]
        by_cases e2 : i = v
        · rw [e2, pk_us]
          have : zt_1 M N v r v = r := by unfold zt_1; rw [if_pos rfl]
          rw [this, if_neg (fun k => vr k.symm)]
        · rw [pk_un e2]
          have : zt_1 M N v r i = N i := by unfold zt_1; rw [if_neg e2, if_neg e1, if_neg (by rw [zs_mr H]; exact e1)]
          rw [this]; exact rm i hi e2)
    unfold wX_turn_4
    by_cases h10 : s + 1 = 10
    · rw [h10]; exact br_t za_ge done
    · exact br_f (za_lt (by omega)) (br_t za_m1 done)
  · intro x hx hr _ ih N v s n am hN hv hvx sv gv ha rm av rf hs hn K
    have hl : (E x).length = (E (F (M x))).length + 1 := by rw [zs_E1 H hx hr]; rfl
    obtain ⟨n, rfl⟩ : ∃ k, n = k + 1 := ⟨n - 1, by omega⟩
    obtain ⟨k1, k2, k3, k4, k5, k6, k7, k8⟩ := zt_s H hg hx hr hN hv hvx sv gv ha
    obtain ⟨q1, q2, q3⟩ := zs_b H hx hr
    have v10 := hS v sv
    have x10 := hS x (zs_a H hx)
    have vx : v ≠ x := fun k => hvx (by rw [k]; exact zs_in H hx)
    have hNx : N x = M x := ha x (zs_in H hx)
    have e := zs_E1 H hx hr
    have sub : ∀ z, z ∈ E (F (M x)) → z ∈ E x := fun z hz => by rw [e]; exact List.mem_cons_of_mem _ hz
    unfold wX_turn_4
    rw [za_c v10]
    refine br_f (za_lt (by omega)) (br_f (za_p v10) ⟨za_in v10, nm_r av ⟨za_in x10, ?_⟩⟩)
    rw [za_c x10]
    refine nm_r (e' := nI (M x)) (by rw [rm x x10 (fun k => vx k.symm), hNx, if_neg q1]) ⟨za_in v10, nm_e ⟨za_in x10, nm_e (nm_r (nI_1 s) ?_)⟩⟩
    refine ih k1 k2 k3 k4 k5 k6 (fun i hi hne => ?_) (rf x (zs_in H hx) hr) (fun y hy => rf y (sub y hy)) (by omega) (by omega) (fun am' N' j1 j2 j3 => K am' N' j1 (fun i => (j2 i).trans (k8 i)) j3)
    by_cases e1 : i = x
    · rw [e1, pk_us]
      have : zt_1 M N v x x = v := by unfold zt_1; rw [if_neg (fun k => vx k.symm), if_pos rfl]
      rw [this, if_neg vx]
    · rw [pk_un e1]
      by_cases e2 : i = v
      · rw [e2, pk_us]
        have : zt_1 M N v x v = x := by unfold zt_1; rw [if_pos rfl]
        rw [this, if_neg (fun k => vx k.symm)]
      · rw [pk_un e2]
        have : zt_1 M N v x i = N i := by unfold zt_1; rw [if_neg e2, if_neg e1, if_neg hne]
        rw [this]; exact rm i hi e2
theorem zw_turn (hS : ∀ v, S v = true → v < 10) (hg : ∀ u v, g u v = g v u) (H : zs_I g S M r O F B E) (rm : za_M am M) {u t : Nat} (hu : O u = true) (st : S t = true) (hgt : g u t = true) (mt : M t = t) (tr : t ≠ r) (rf : za_F af (zu_u F t u))
    (K : ∀ am' N', zm_M g S N' → (∀ i, N' i ≠ i ↔ (M i ≠ i ∨ i = t ∨ i = r)) → za_M am' N' → post (fa, fq, aj, am', ao, af, ab, ai, ap, aq)) :
    wpX_turn post (fa, fq, aj, am, ao, af, ab, ai, ap, aq) (nI t) := by
  unfold wpX_turn
  dsimp only
  have t10 := hS t st
  have u10 := hS u (zs_a H hu)
  have Ot : ∀ y, O y = true → M y ≠ t := fun y k e => by
    have := zm_eq (zs_ma H) e
    rw [mt] at this
    rw [this] at tr
    by_cases q : y = r
    · exact tr q
    · have := (zs_b H k q).1
      rw [e] at this
      exact this (by rw [← zm_eq (zs_ma H) e, mt])
  have tE : t ∉ E u := fun k => by
    have k2 := zs_out H hu k
    exact Ot t k2 mt
  have lu := zs_len hS H hu
  refine ⟨11, zw_t4 hS hg H hu (s := 0) (zs_ma H) mt tE st hgt (fun y _ => rfl) (fun i hi _ => (rm i hi).2) ?_ (fun y hy hyr => ?_) (by omega) (by omega) (fun am' N' j1 j2 j3 => K am' N' j1 j2 (fun i hi => ⟨?_, j3 i hi⟩))⟩
  · rw [za_Ft rf t10 (by rw [zu_s]; exact u10), zu_s]
  · have Oy := zs_out H hu hy
    have q := zs_b H Oy hyr
    have m10 := (rm y (hS y (zs_a H Oy))).1
    have e : zu_u F t u (M y) = F (M y) := zu_n _ (Ot y Oy)
    rw [za_Ft rf m10 (by rw [e]; exact q.2.1), e]
  · by_cases q : N' i = i
    · rw [q]; exact hi
    · exact hS _ (zm_in j1 q)
end
end
section
/-! pairWithout -/
def zS (x : Int32) : Nat → Bool := fun v => decide (v < 10) && !bt x v
theorem zS_lt (x : Int32) : ∀ v, zS x v = true → v < 10 := fun v h => by
  unfold zS at h
  simp at h
  exact h.1
theorem zS_in (x : Int32) : ∀ v, v < 10 → zS x v = !bt x v := fun v h => by
  unfold zS
  rw [decide_eq_true h, Bool.true_and]
section
variable {g : Nat → Nat → Bool}
variable {fa fq : Int32} {aj am ao af ab ai ap aq : Nat → Int32} {post : Int32 → SX → Prop}
/-- what pairWithout leaves -/
def zf_P (g : Nat → Nat → Bool) (fa : Int32) (aj : Nat → Int32) (post : Int32 → SX → Prop) : Prop :=
  ∀ (l : Nat) (fq : Int32) (am ao af ab ai ap aq : Nat → Int32) (M : Nat → Nat), zm_M g (zS fa) M → za_M am M → zm_z M = 2 * l → zd_P g (zS fa) l → post (nI l) (fa, fq, aj, am, ao, af, ab, ai, ap, aq)
theorem zw_30 (hg : ∀ u v, g u v = g v u) (rg : za_G aj g) (K : zf_P g fa aj post) :
    ∀ (d p n l : Nat) (fq : Int32) (am ao af ab ai ap aq : Nat → Int32) (M : Nat → Nat), p + d = 10 → d < n → zm_M g (zS fa) M → za_M am M → zm_z M = 2 * l → (∀ f, f < p → zS fa f = true → M f = f → ∃ O, zk_K g (zS fa) M f O) →
      wX_pairWithout_30 post n (nI l) (nI p) fa fq aj am ao af ab ai ap aq := by
  intro d
  induction d with
  | zero =>
    intro p n l fq am ao af ab ai ap aq M hp hn hM rm hz hK
    obtain ⟨n, rfl⟩ : ∃ k, n = k + 1 := ⟨n - 1, by omega⟩
    have : p = 10 := by omega
    subst this
    unfold wX_pairWithout_30
    refine br_t za_ge (K l fq am ao af ab ai ap aq M hM rm hz ⟨fun N hN => ?_, M, hM, hz⟩)
    obtain ⟨OO, hOO⟩ := Classical.skolem.mp (fun f => by
      by_cases q : zS fa f = true ∧ M f = f
      · obtain ⟨O, hO⟩ := hK f (zS_lt fa f q.1) q.1 q.2
        exact ⟨O, fun _ _ => hO⟩
      · exact ⟨fun _ => false, fun z1 z2 => absurd ⟨z1, z2⟩ q⟩ : ∀ f, ∃ O, zS fa f = true → M f = f → zk_K g (zS fa) M f O)
    have := (zk_fin (zS_lt fa) hOO hN).1
    omega
  | succ d ih =>
    intro p n l fq am ao af ab ai ap aq M hp hn hM rm hz hK
    obtain ⟨n, rfl⟩ : ∃ k, n = k + 1 := ⟨n - 1, by omega⟩
    have p10 : p < 10 := by omega
    have skip : (zS fa p = true → M p = p → False) → wX_pairWithout_30 post n (nI l) (nI (p + 1)) fa fq aj am ao af ab ai ap aq := fun hno =>
      ih (p + 1) n l fq am ao af ab ai ap aq M (by omega) (by omega) hM rm hz (fun f hf k1 k2 => by
        by_cases e : f = p
        · rw [e] at k1 k2; exact (hno k1 k2).elim
        · exact hK f (by omega) k1 k2)
    unfold wX_pairWithout_30
    rw [za_c p10]
    refine br_f (za_lt p10) ⟨za_in p10, ?_⟩
    by_cases hm : M p = p
    · rw [za_Mf rm p10 hm, zx_u fa (by omega)]
      refine br_f za_m1' ?_
      cases hb : bt fa p
      · have sp : zS fa p = true := by rw [zS_in fa p p10, hb]; rfl
        refine br_t rfl ?_
        refine zw_search (zS_lt fa) (zS_in fa) hg rg hM rm sp hm ?_ ?_
        · intro fq ao af ab ai ap aq O F B E u t H hu st hgt mt tr rf
          refine br_f (za_p (zS_lt fa t st)) ?_
          refine zw_turn (zS_lt fa) hg H rm hu st hgt mt tr rf (fun am' N' j1 j2 j3 => ?_)
          refine nm_r (nI_1 l) (nm_r (nI_1 p) ?_)
          have z2 := zm_z2 tr mt hm (zS_lt fa t st) p10 j2
          refine ih (p + 1) n (l + 1) _ am' ao af ab ai ap aq N' (by omega) (by omega) j1 j3 (by omega) (fun f hf k1 k2 => ?_)
          have nf : M f = f := by
            apply Classical.byContradiction
            intro q
            exact (j2 f).mpr (Or.inl q) k2
          have fp : f ≠ p := fun q => (j2 f).mpr (Or.inr (Or.inr q)) k2
          obtain ⟨O, hO⟩ := hK f (by omega) k1 nf
          exact ⟨O, zk_up hO (fun v hv => (j2 v).mpr (Or.inl hv))⟩
        · intro fq ao af ab ai ap aq O ro hO _
          refine br_t za_m1 (nm_r (nI_1 p) ?_)
          refine ih (p + 1) n l _ am ao af ab ai ap aq M (by omega) (by omega) hM rm hz (fun f hf k1 k2 => ?_)
          by_cases e : f = p
          · rw [e]; exact ⟨O, hO⟩
          · exact hK f (by omega) k1 k2
      · refine br_f (by decide) (nm_r (nI_1 p) (skip (fun k1 _ => ?_)))
        rw [zS_in fa p p10, hb] at k1
        exact absurd k1 (by decide)
    · rw [za_Mt rm p10 hm]
      exact br_t (za_p' (rm p p10).1) (nm_r (nI_1 p) (skip (fun _ k => hm k)))
theorem zw_7 (K : ∀ am' : Nat → Int32, za_M am' (fun v => v) → (∃ n, wX_pairWithout_7 post fa fq (n + 1) (nI 10) aj am' ao af ab ai ap aq)) :
    ∃ n, wX_pairWithout_7 post fa fq n 0 aj am ao af ab ai ap aq := by
  have : ∀ (d i : Nat) (am : Nat → Int32), i + d = 10 → (∀ j, j < i → am j = -1) → ∃ n, wX_pairWithout_7 post fa fq n (nI i) aj am ao af ab ai ap aq := by
    intro d
    induction d with
    | zero =>
      intro i am hi h0
      obtain ⟨n, hn⟩ := K am (fun j hj => ⟨hj, by rw [h0 j (by omega), if_pos rfl]⟩)
      have : i = 10 := by omega
      exact ⟨n + 1, by rw [this]; exact hn⟩
    | succ d ih =>
      intro i am hi h0
      obtain ⟨n, hn⟩ := ih (i + 1) (upd am i (-1)) (by omega) (fun j hj => by
        by_cases e : j = i
        · rw [e, pk_us]
        · rw [pk_un e]; exact h0 j (by omega))
      refine ⟨n + 1, ?_⟩
      unfold wX_pairWithout_7
      rw [za_c (by omega)]
      exact br_f (za_lt (by omega)) ⟨za_in (by omega), nm_e (nm_r (nI_1 i) hn)⟩
  exact this 10 0 am rfl (fun j hj => absurd hj (by omega))
theorem zw_pw (hg : ∀ u v, g u v = g v u) (rg : za_G aj g) {p0 : Int32} (K : zf_P g p0 aj post) : wpX_pairWithout post (fa, fq, aj, am, ao, af, ab, ai, ap, aq) p0 := by
  unfold wpX_pairWithout
  dsimp only
  refine zw_7 (fun am1 r1 => ⟨0, ?_⟩)
  unfold wX_pairWithout_7
  refine br_t za_ge ⟨11, ?_⟩
  exact zw_30 hg rg K 10 0 11 0 fq am1 ao af ab ai ap aq (fun v => v) rfl (by omega) zm_id r1 zm_z_id (fun f hf => absurd hf (by omega))
/-! spares -/
theorem zx_shl {q i : Nat} (hq : q < 32) (hi : i < 32) : bt ((1 : Int32) <<< (nI q &&& 31)) i = decide (i = q) := by
  rw [b_shl q hq 1 hi, zx_b1 (i - q) (by omega)]
  by_cases e : i = q
  · rw [e]; simp
  · rw [decide_eq_false e]
    by_cases k : q ≤ i
    · rw [decide_eq_false (by omega : ¬ i - q = 0), Bool.and_false]
    · rw [decide_eq_false k, Bool.false_and]
theorem zw_27 {O : Nat → Bool} {x0 : Int32} {x2 : Int32} {J : Int32 → Int32 → Int32 → Int32 → (Nat → Int32) → (Nat → Int32) → (Nat → Int32) → (Nat → Int32) → (Nat → Int32) → (Nat → Int32) → (Nat → Int32) → (Nat → Int32) → Prop} (ro : za_O ao O)
    (K : ∀ x, (∀ j, j < 32 → bt x j = (bt x0 j || (decide (j < 10) && O j))) → J x (x2 + 1) fa fq aj am ao af ab ai ap aq) :
    ∀ (d i n : Nat) (x : Int32), i + d = 10 → d < n → (∀ j, j < 32 → bt x j = (bt x0 j || (decide (j < i) && O j))) → wX_spares_27 post J x2 fa fq aj am ao af ab ai ap aq n x (nI i) := by
  intro d
  induction d with
  | zero =>
    intro i n x hi hn hx
    obtain ⟨n, rfl⟩ : ∃ k, n = k + 1 := ⟨n - 1, by omega⟩
    have : i = 10 := by omega
    subst this
    unfold wX_spares_27
    exact br_t za_ge (nm_e (K x hx))
  | succ d ih =>
    intro i n x hi hn hx
    obtain ⟨n, rfl⟩ : ∃ k, n = k + 1 := ⟨n - 1, by omega⟩
    have i10 : i < 10 := by omega
    unfold wX_spares_27
    rw [za_c i10]
    refine br_f (za_lt i10) ⟨za_in i10, ?_⟩
    have key : ∀ j, j ≠ i → decide (j < i) = decide (j < i + 1) := fun j hj => decide_eq_decide.mpr (by omega)
    cases ho : O i
    · refine br_t (za_Of ro i10 ho) (nm_e (nm_r (nI_1 i) (ih (i + 1) n _ (by omega) (by omega) (fun j hj => ?_))))
      rw [b_or, b_0, Bool.or_false, hx j hj]
      by_cases e : j = i
      · rw [e, ho, Bool.and_false, Bool.and_false]
      · rw [key j e]
    · refine br_f (za_Ot ro i10 ho) (nm_e (nm_r (nI_1 i) (ih (i + 1) n _ (by omega) (by omega) (fun j hj => ?_))))
      rw [b_or, zx_shl (by omega) hj, hx j hj]
      by_cases e : j = i
      · rw [e, ho, decide_eq_true rfl, decide_eq_true (by omega : i < i + 1)]; simp
      · rw [decide_eq_false e, Bool.or_false, key j e]
def zf_A (g : Nat → Nat → Bool) (S : Nat → Bool) (l a : Nat) : Prop := ∃ N, zm_M g S N ∧ zm_z N = 2 * l ∧ N a = a
/-- what spares leaves -/
def zf_S (g : Nat → Nat → Bool) (fa : Int32) (l : Nat) (aj : Nat → Int32) (post : Int32 → SX → Prop) : Prop :=
  ∀ (x fq : Int32) (am ao af ab ai ap aq : Nat → Int32), (∀ j, j < 10 → (bt x j = true ↔ zS fa j = true ∧ zf_A g (zS fa) l j)) → (∀ j, 10 ≤ j → j < 32 → bt x j = false) → post x (fa, fq, aj, am, ao, af, ab, ai, ap, aq)
theorem zw_s4 (hg : ∀ u v, g u v = g v u) (rg : za_G aj g) {l : Nat} (K : zf_S g fa l aj post) (hfa : ∀ j, j < 10 → bt fa j = false) {M : Nat → Nat} (hM : zm_M g (zS fa) M) (rm : za_M am M) (hz : zm_z M = 2 * l) (hd : zd_P g (zS fa) l) :
    ∀ (d p n : Nat) (x fq : Int32) (ao af ab ai ap aq : Nat → Int32) (OO : Nat → Nat → Bool), p + d = 10 → d < n → (∀ f, f < p → M f = f → zk_K g (zS fa) M f (OO f) ∧ ∀ y, OO f y = true → zS fa y = true ∧ ∃ N, zm_M g (zS fa) N ∧ zm_z N = zm_z M ∧ N y = y) →
      (∀ j, j < 32 → (bt x j = true ↔ ∃ f, f < p ∧ M f = f ∧ OO f j = true)) → wX_spares_4 post n x (nI p) fa fq aj am ao af ab ai ap aq := by
  intro d
  induction d with
  | zero =>
    intro p n x fq ao af ab ai ap aq OO hp hn hK hx
    obtain ⟨n, rfl⟩ : ∃ k, n = k + 1 := ⟨n - 1, by omega⟩
    have : p = 10 := by omega
    subst this
    unfold wX_spares_4
    refine br_t za_ge (K x fq am ao af ab ai ap aq (fun j hj => ?_) (fun j hj hj2 => ?_))
    · rw [hx j (by omega)]
      constructor
      · rintro ⟨f, f1, f2, f3⟩
        obtain ⟨k1, N, k2, k3, k4⟩ := (hK f f1 f2).2 j f3
        exact ⟨k1, N, k2, by rw [k3, hz], k4⟩
      · rintro ⟨k1, N, k2, k3, k4⟩
        apply Classical.byContradiction
        intro hno
        have := (zk_fin (zS_lt fa) (fun f f1 f2 => (hK f (zS_lt fa f f1) f2).1) k2).2 j k1 (fun f f1 f2 => by
          cases q : OO f j
          · rfl
          · exact absurd ⟨f, zS_lt fa f f1, f2, q⟩ hno) k4
        omega
    · cases q : bt x j
      · rfl
      · obtain ⟨f, f1, f2, f3⟩ := (hx j hj2).mp q
        have := zS_lt fa _ ((hK f f1 f2).2 j f3).1
        omega
  | succ d ih =>
    intro p n x fq ao af ab ai ap aq OO hp hn hK hx
    obtain ⟨n, rfl⟩ : ∃ k, n = k + 1 := ⟨n - 1, by omega⟩
    have p10 : p < 10 := by omega
    unfold wX_spares_4
    rw [za_c p10]
    refine br_f (za_lt p10) ⟨za_in p10, ?_⟩
    by_cases hm : M p = p
    · rw [za_Mf rm p10 hm]
      refine br_f za_m1' ?_
      have sp : zS fa p = true := by rw [zS_in fa p p10, hfa p p10]; rfl
      refine zw_search (zS_lt fa) (zS_in fa) hg rg hM rm sp hm ?_ ?_
      · intro fq ao af ab ai ap aq O F B E u t H hu st hgt mt tr rf
        exfalso
        have tE : t ∉ E u := fun k => by
          have k2 := zs_out H hu k
          exact (zs_b H k2 tr).1 mt
        obtain ⟨j1, j2⟩ := zt_M H hg hu hM mt tE st hgt (fun y _ => rfl)
        have z2 := zm_z2 tr mt hm (zS_lt fa t st) p10 j2
        have := hd.1 _ j1
        omega
      · intro fq ao af ab ai ap aq O ro hO hfr
        refine ⟨11, zw_27 (x0 := x) ro (fun x' hx' => ?_) 10 0 11 x rfl (by omega) (fun j hj => by simp)⟩
        rw [nI_1]
        refine ih (p + 1) n x' fq ao af ab ai ap aq (fun f => if f = p then O else OO f) (by omega) (by omega) (fun f hf k => ?_) (fun j hj => ?_)
        · by_cases e : f = p
          · rw [if_pos e, e]; exact ⟨hO, hfr⟩
          · rw [if_neg e]; exact hK f (by omega) k
        · rw [hx' j hj]
          constructor
          · intro k
            cases q : bt x j
            · rw [q, Bool.false_or] at k
              simp at k
              exact ⟨p, by omega, hm, by rw [if_pos rfl]; exact k.2⟩
            · obtain ⟨f, f1, f2, f3⟩ := (hx j hj).mp q
              exact ⟨f, by omega, f2, by rw [if_neg (by omega)]; exact f3⟩
          · rintro ⟨f, f1, f2, f3⟩
            by_cases e : f = p
            · rw [if_pos e] at f3
              rw [f3, decide_eq_true (zS_lt fa j (hfr j f3).1)]; simp
            · rw [if_neg e] at f3
              rw [(hx j hj).mpr ⟨f, by omega, f2, f3⟩, Bool.true_or]
    · rw [za_Mt rm p10 hm]
      refine br_t (za_p' (rm p p10).1) (nm_r (nI_1 p) (ih (p + 1) n x fq ao af ab ai ap aq OO (by omega) (by omega) (fun f hf k => ?_) (fun j hj => ?_)))
      · by_cases e : f = p
        · rw [e] at k; exact absurd k hm
        · exact hK f (by omega) k
      · rw [hx j hj]
        constructor
        · rintro ⟨f, f1, f2, f3⟩
          exact ⟨f, by omega, f2, f3⟩
        · rintro ⟨f, f1, f2, f3⟩
          have e : f ≠ p := fun e => hm (by rw [← e]; exact f2)
          exact ⟨f, by omega, f2, f3⟩
theorem zw_sp (hg : ∀ u v, g u v = g v u) (rg : za_G aj g) {l : Nat} (K : zf_S g fa l aj post) (hfa : ∀ j, j < 10 → bt fa j = false) {M : Nat → Nat} (hM : zm_M g (zS fa) M) (rm : za_M am M) (hz : zm_z M = 2 * l) (hd : zd_P g (zS fa) l) :
    wpX_spares post (fa, fq, aj, am, ao, af, ab, ai, ap, aq) := by
  unfold wpX_spares
  dsimp only
  refine ⟨11, zw_s4 hg rg K hfa hM rm hz hd 10 0 11 0 fq ao af ab ai ap aq (fun _ _ => false) rfl (by omega) (fun f hf => absurd hf (by omega)) (fun j hj => ?_)⟩
  rw [b_0]
  exact ⟨fun k => absurd k (by decide), fun ⟨f, f1, _⟩ => absurd f1 (by omega)⟩
end
end
section
/-! arguments, lines put and taken -/
def zv_2 (v1 v2 : Int32) : Prop := ∃ a b, a < 10 ∧ b < 10 ∧ a ≠ b ∧ v1 = nI a ∧ v2 = nI b
def zv_1 (v1 : Int32) : Prop := ∃ a, a < 10 ∧ v1 = nI a
theorem zv_9 : (9 : Int32).toInt = (9 : Nat) := by decide
theorem zv_le {a : Nat} (h : a < 10) : nI a ≤ (9 : Int32) := nI_le (b := 9) (by omega) (by decide)
theorem zv_nlt {a : Nat} (h : a < 10) : ¬ (9 : Int32) < nI a := Int32.not_lt.mpr (zv_le h)
theorem zv_of {x : Int32} (h0 : ¬ x < 0) (h9 : x ≤ 9) : ∃ a, a < 10 ∧ x = nI a := by
  obtain ⟨j, hj, e⟩ := nI_of2 zv_9 h0 h9
  exact ⟨j, by omega, e⟩
theorem zv_X1 {post : Int32 → Prop} {a b : Nat} (ha : a < 10) (hb : b < 10) (hab : a ≠ b) (h : post 1) : wpX_isPair post (nI a) (nI b) := by
  unfold wpX_isPair
  exact br_f (za_p ha) (br_f (zv_nlt ha) (br_f (za_p hb) (br_f (zv_nlt hb) (br_f (fun k => hab ((za_eq ha hb).mp k)) h))))
theorem zv_X0 {post : Int32 → Prop} {v1 v2 : Int32} (hn : ¬ zv_2 v1 v2) (h : post 0) : wpX_isPair post v1 v2 := by
  unfold wpX_isPair
  refine br_c (fun _ => h) (fun k1 => br_c (fun _ => h) (fun k2 => br_c (fun _ => h) (fun k3 => br_c (fun _ => h) (fun k4 => br_c (fun _ => h) (fun k5 => ?_)))))
  obtain ⟨a, ha, ea⟩ := zv_of k1 (Int32.not_lt.mp k2)
  obtain ⟨b, hb, eb⟩ := zv_of k3 (Int32.not_lt.mp k4)
  exact absurd ⟨a, b, ha, hb, fun e => k5 (by rw [ea, eb, e]), ea, eb⟩ hn
theorem zv_bad0 {post : Int32 → Prop} {a : Nat} (ha : a < 10) (h : post 0) : wpY_bad post (nI a) := by
  unfold wpY_bad
  exact br_f (za_p ha) (br_t (zv_le ha) h)
theorem zv_bad1 {post : Int32 → Prop} {v1 : Int32} (hn : ¬ zv_1 v1) (h : post 1) : wpY_bad post v1 := by
  unfold wpY_bad
  refine br_c (fun _ => h) (fun k1 => br_c (fun k2 => ?_) (fun _ => h))
  exact absurd (zv_of k1 k2) hn
theorem zv_Y0 {post : Int32 → Prop} {a b : Nat} (ha : a < 10) (hb : b < 10) (hab : a ≠ b) (h : post 0) : wpY_refused post (nI a) (nI b) := by
  unfold wpY_refused
  exact zv_bad0 ha (br_t rfl (zv_bad0 hb (br_t rfl (br_f (fun k => hab ((za_eq ha hb).mp k)) h))))
theorem zv_Y1 {post : Int32 → Prop} {v1 v2 : Int32} (hn : ¬ zv_2 v1 v2) (h : post 1) : wpY_refused post v1 v2 := by
  unfold wpY_refused
  by_cases q1 : zv_1 v1
  · obtain ⟨a, ha, ea⟩ := q1
    rw [ea]
    refine zv_bad0 ha (br_t rfl ?_)
    by_cases q2 : zv_1 v2
    · obtain ⟨b, hb, eb⟩ := q2
      rw [eb]
      refine zv_bad0 hb (br_t rfl (br_c (fun _ => h) (fun k => ?_)))
      exact absurd ⟨a, b, ha, hb, fun e => k (by rw [e]), ea, eb⟩ hn
    · exact zv_bad1 q2 (br_f (by decide) h)
  · exact zv_bad1 q1 (br_f (by decide) h)
/-! the graph with a line put or taken -/
def zg_s (g : Nat → Nat → Bool) (a b : Nat) (on : Bool) : Nat → Nat → Bool := fun i j => if (i = a ∧ j = b) ∨ (i = b ∧ j = a) then on else g i j
def zg_G (g : Nat → Nat → Bool) : Prop := (∀ u v, g u v = g v u) ∧ (∀ u, g u u = false) ∧ (∀ u v, g u v = true → u < 10 ∧ v < 10)
theorem zg_s_G {g : Nat → Nat → Bool} (h : zg_G g) {a b : Nat} {on : Bool} (ha : a < 10) (hb : b < 10) (hab : a ≠ b) : zg_G (zg_s g a b on) := by
  refine ⟨fun u v => ?_, fun u => ?_, fun u v => ?_⟩
  · unfold zg_s
    by_cases k : (u = a ∧ v = b) ∨ (u = b ∧ v = a)
    · rw [if_pos k, if_pos (k.symm.imp And.symm And.symm)]
    · rw [if_neg k, if_neg (fun z => k (z.symm.imp And.symm And.symm)), h.1]
  · unfold zg_s
    rw [if_neg (fun z => z.elim (fun z => hab (z.1.symm.trans z.2)) (fun z => hab (z.2.symm.trans z.1))), h.2.1]
  · unfold zg_s
    by_cases k : (u = a ∧ v = b) ∨ (u = b ∧ v = a)
    · intro _; rcases k with k | k
      · rw [k.1, k.2]; exact ⟨ha, hb⟩
      · rw [k.1, k.2]; exact ⟨hb, ha⟩
    · rw [if_neg k]; exact h.2.2 u v
theorem zx_nshl {q i : Nat} (hq : q < 32) (hi : i < 32) : bt (((1 : Int32) <<< (nI q &&& 31)) ^^^ (-1)) i = decide (i ≠ q) := by
  rw [b_xor, zx_shl hq hi, b_m1 i hi]
  by_cases e : i = q
  · simp [e]
  · simp [e]
/-- a store of a bit on both sides -/
theorem zg_st {g : Nat → Nat → Bool} {aj : Nat → Int32} {a b : Nat} {on : Bool} {x y : Int32} (rg : za_G aj g) (hab : a ≠ b) (hx : ∀ j, j < 32 → bt x j = if j = b then on else g a j) (hy : ∀ j, j < 32 → bt y j = if j = a then on else g b j) : za_G (upd (upd aj a x) b y) (zg_s g a b on) := by
  intro i hi j hj
  unfold zg_s
  by_cases e1 : i = b
  · have ne : ¬ i = a := fun k => hab (k.symm.trans e1)
    rw [e1, pk_us, hy j hj]
    by_cases e2 : j = a
    · rw [if_pos e2, if_pos (Or.inr ⟨rfl, e2⟩)]
    · rw [if_neg e2, if_neg (fun z => z.elim (fun z => hab z.1.symm) (fun z => e2 z.2))]
  · rw [pk_un e1]
    by_cases e3 : i = a
    · rw [e3, pk_us, hx j hj]
      by_cases e2 : j = b
      · rw [if_pos e2, if_pos (Or.inl ⟨rfl, e2⟩)]
      · rw [if_neg e2, if_neg (fun z => z.elim (fun z => e2 z.2) (fun z => hab z.1))]
    · rw [pk_un e3, rg i hi j hj, if_neg (fun z => z.elim (fun z => e3 z.1) (fun z => e1 z.1))]
section
variable {g : Nat → Nat → Bool}
variable {fa fq : Int32} {aj am ao af ab ai ap aq : Nat → Int32} {post : Int32 → SX → Prop}
theorem zj_join {a b : Nat} (ha : a < 10) (hb : b < 10) (hab : a ≠ b) (rg : za_G aj g) (K : ∀ aj', za_G aj' (zg_s g a b true) → post (if g a b = true then 0 else 1) (fa, fq, aj', am, ao, af, ab, ai, ap, aq)) :
    wpX_join post (fa, fq, aj, am, ao, af, ab, ai, ap, aq) (nI a) (nI b) := by
  have key : ∀ z, (∀ aj', za_G aj' (zg_s g a b true) → post z (fa, fq, aj', am, ao, af, ab, ai, ap, aq)) → wX_join_24 post (nI a) (nI b) z fa fq aj am ao af ab ai ap aq := fun z Kz => by
    unfold wX_join_24
    rw [za_c ha, za_c hb]
    refine ⟨za_in ha, za_in ha, nm_e ⟨za_in hb, za_in hb, nm_e (Kz _ (zg_st rg hab (fun j hj => ?_) (fun j hj => ?_)))⟩⟩
    · rw [b_or, rg a ha j hj, zx_shl (by omega) hj]
      by_cases e : j = b
      · simp [e]
      · simp [e]
    · rw [pk_un (fun e => hab e.symm), b_or, rg b hb j hj, zx_shl (by omega) hj]
      by_cases e : j = a
      · simp [e]
      · simp [e]
  unfold wpX_join
  dsimp only
  refine zv_X1 ha hb hab (br_f (by decide) ?_)
  refine zw_line rg ha hb (fun k => br_f (by decide) (key 0 (fun aj' h => ?_))) (fun k => br_t rfl (key 1 (fun aj' h => ?_)))
  · have := K aj' h
    rw [if_pos k] at this
    exact this
  · have := K aj' h
    rw [if_neg (by rw [k]; decide)] at this
    exact this
theorem zj_part {a b : Nat} (ha : a < 10) (hb : b < 10) (hab : a ≠ b) (rg : za_G aj g) (K : ∀ aj', za_G aj' (zg_s g a b false) → post (if g a b = true then 1 else 0) (fa, fq, aj', am, ao, af, ab, ai, ap, aq)) :
    wpX_part post (fa, fq, aj, am, ao, af, ab, ai, ap, aq) (nI a) (nI b) := by
  have key : ∀ z, (∀ aj', za_G aj' (zg_s g a b false) → post z (fa, fq, aj', am, ao, af, ab, ai, ap, aq)) → wX_part_24 post (nI a) (nI b) z fa fq aj am ao af ab ai ap aq := fun z Kz => by
    unfold wX_part_24
    rw [za_c ha, za_c hb]
    refine ⟨za_in ha, za_in ha, nm_e ⟨za_in hb, za_in hb, nm_e (Kz _ (zg_st rg hab (fun j hj => ?_) (fun j hj => ?_)))⟩⟩
    · rw [b_and, rg a ha j hj, zx_nshl (by omega) hj]
      by_cases e : j = b
      · simp [e]
      · simp [e]
    · rw [pk_un (fun e => hab e.symm), b_and, rg b hb j hj, zx_nshl (by omega) hj]
      by_cases e : j = a
      · simp [e]
      · simp [e]
  unfold wpX_part
  dsimp only
  refine zv_X1 ha hb hab (br_f (by decide) ?_)
  refine zw_line rg ha hb (fun k => br_f (by decide) (key 1 (fun aj' h => ?_))) (fun k => br_t rfl (key 0 (fun aj' h => ?_)))
  · have := K aj' h
    rw [if_pos k] at this
    exact this
  · have := K aj' h
    rw [if_neg (by rw [k]; decide)] at this
    exact this
end
/-! the reference's lines -/
def za_L (al : Nat → Int32) (g : Nat → Nat → Bool) : Prop := ∀ i, i < 10 → ∀ j, j < 10 → al (10 * i + j) = if g i j = true then 1 else 0
theorem zl_ix (a b : Nat) : (10 : Int32) * nI a + nI b = nI (10 * a + b) := by
  show nI 10 * nI a + nI b = nI (10 * a + b)
  rw [pk_mul, nI_add]
theorem zl_c {a b : Nat} (ha : a < 10) (hb : b < 10) : (nI (10 * a + b)).toNatClampNeg = 10 * a + b := nI_clamp (by omega)
theorem zl_in {a b : Nat} (ha : a < 10) (hb : b < 10) : vp_in (nI (10 * a + b)) 100 := vp_in_nI (by omega) (by decide)
theorem zl_st {g : Nat → Nat → Bool} {al : Nat → Int32} {a b : Nat} {on : Bool} {x : Int32} (rl : za_L al g) (ha : a < 10) (hb : b < 10) (hx : x = if on = true then 1 else 0) : za_L (upd (upd al (10 * a + b) x) (10 * b + a) x) (zg_s g a b on) := by
  intro i hi j hj
  unfold zg_s
  by_cases e1 : i = b ∧ j = a
  · rw [e1.1, e1.2, pk_us, if_pos (Or.inr ⟨rfl, rfl⟩)]; exact hx
  · rw [pk_un (fun k => e1 (by omega))]
    by_cases e2 : i = a ∧ j = b
    · rw [e2.1, e2.2, pk_us, if_pos (Or.inl ⟨rfl, rfl⟩)]; exact hx
    · rw [pk_un (fun k => e2 (by omega)), if_neg (c := (i = a ∧ j = b) ∨ (i = b ∧ j = a)) (fun z => z.elim e2 e1)]
      exact rl i hi j hj
theorem zl_set {g : Nat → Nat → Bool} {al ae : Nat → Int32} {post : Int32 → SY → Prop} {a b : Nat} (ha : a < 10) (hb : b < 10) (rl : za_L al g) (on : Bool) (K : ∀ al', za_L al' (zg_s g a b on) → post (if g a b = on then 0 else 1) (al', ae)) :
    wpY_set post (al, ae) (nI a) (nI b) (if on = true then 1 else 0) := by
  unfold wpY_set
  dsimp only
  rw [zl_ix, zl_ix, zl_c ha hb, zl_c hb ha]
  refine ⟨zl_in ha hb, nm_r (rl a ha b hb) ⟨zl_in ha hb, nm_e ⟨zl_in hb ha, nm_e ?_⟩⟩⟩
  have h := K _ (zl_st (on := on) (x := vp_nar .boolean (if on = true then 1 else 0)) rl ha hb (by cases on <;> rfl))
  by_cases k : g a b = on
  · rw [if_pos k] at h
    exact br_t (by rw [k]) h
  · rw [if_neg k] at h
    refine br_f ?_ h
    cases q1 : g a b <;> cases q2 : on <;> simp [q1, q2] at k ⊢
theorem zl_join {g : Nat → Nat → Bool} {al ae : Nat → Int32} {post : Int32 → SY → Prop} {a b : Nat} (ha : a < 10) (hb : b < 10) (hab : a ≠ b) (rl : za_L al g) (K : ∀ al', za_L al' (zg_s g a b true) → post (if g a b = true then 0 else 1) (al', ae)) : wpY_join post (al, ae) (nI a) (nI b) := by
  unfold wpY_join
  dsimp only
  exact zv_Y0 ha hb hab (br_t rfl (zl_set ha hb rl true K))
theorem zl_part {g : Nat → Nat → Bool} {al ae : Nat → Int32} {post : Int32 → SY → Prop} {a b : Nat} (ha : a < 10) (hb : b < 10) (hab : a ≠ b) (rl : za_L al g) (K : ∀ al', za_L al' (zg_s g a b false) → post (if g a b = true then 1 else 0) (al', ae)) : wpY_part post (al, ae) (nI a) (nI b) := by
  unfold wpY_part
  dsimp only
  refine zv_Y0 ha hb hab (br_t rfl (zl_set ha hb rl false (fun al' h => ?_)))
  have := K al' h
  cases q : g a b <;> simp [q] at this ⊢ <;> exact this
end
section
/-! the reference's table -/
theorem zn_bt {m j : Nat} (hj : j < 32) : bt (nI m) j = m.testBit j := by
  unfold bt
  show (BitVec.ofNat 32 m).getLsbD j = m.testBit j
  rw [BitVec.getLsbD_ofNat, decide_eq_true hj, Bool.true_and]
theorem zn_hi {m i : Nat} (hm : m < 1024) (hi : 10 ≤ i) : m.testBit i = false :=
  Nat.testBit_lt_two_pow (Nat.lt_of_lt_of_le hm (by
    have : 2 ^ 10 ≤ 2 ^ i := Nat.pow_le_pow_right (by omega) hi
    omega))
theorem zn_of {x : Int32} (h : ∀ i, 10 ≤ i → i < 32 → bt x i = false) : ∃ m, m < 1024 ∧ x = nI m ∧ ∀ i, m.testBit i = (decide (i < 10) && bt x i) := by
  have e : x = nI x.toBitVec.toNat := by
    apply Int32.toBitVec_inj.mp
    show x.toBitVec = BitVec.ofNat 32 x.toBitVec.toNat
    rw [BitVec.ofNat_toNat, BitVec.setWidth_eq]
  have tb : ∀ i, x.toBitVec.toNat.testBit i = (decide (i < 10) && bt x i) := fun i => by
    show bt x i = _
    by_cases k : i < 10
    · rw [decide_eq_true k, Bool.true_and]
    · rw [decide_eq_false k, Bool.false_and]
      by_cases k2 : i < 32
      · exact h i (by omega) k2
      · exact b_big (by omega)
  refine ⟨x.toBitVec.toNat, ?_, e, tb⟩
  exact Nat.lt_pow_two_of_testBit (n := 10) _ (fun i hi => by rw [tb i, decide_eq_false (by omega), Bool.false_and])
theorem zn_clr {m j : Nat} (hm : m < 1024) (hj : j < 10) : ∃ m', m' < 1024 ∧ nI m &&& (((1 : Int32) <<< (nI j &&& 31)) ^^^ (-1)) = nI m' ∧ ∀ i, m'.testBit i = (m.testBit i && decide (i ≠ j)) := by
  have hb : ∀ i, i < 32 → bt (nI m &&& (((1 : Int32) <<< (nI j &&& 31)) ^^^ (-1))) i = (m.testBit i && decide (i ≠ j)) := fun i hi => by
    rw [b_and, zn_bt hi, zx_nshl (by omega) hi]
  obtain ⟨m', h1, h2, h3⟩ := zn_of (x := nI m &&& (((1 : Int32) <<< (nI j &&& 31)) ^^^ (-1))) (fun i h1 h2 => by rw [hb i h2, zn_hi hm h1, Bool.false_and])
  refine ⟨m', h1, h2, fun i => ?_⟩
  rw [h3]
  by_cases k : i < 10
  · rw [decide_eq_true k, Bool.true_and, hb i (by omega)]
  · rw [decide_eq_false k, zn_hi hm (by omega), Bool.false_and, Bool.false_and]
theorem zn_sub {m s j : Nat} (h : ∀ i, m.testBit i = true → s.testBit i = true) (h1 : m.testBit j = false) (h2 : s.testBit j = true) : m < s := by
  have e : m &&& s = m := Nat.eq_of_testBit_eq (fun i => by
    rw [Nat.testBit_and]
    cases q : m.testBit i
    · rfl
    · rw [h i q]; rfl)
  have le : m ≤ s := by
    have := Nat.and_le_right (n := m) (m := s)
    omega
  have ne : m ≠ s := fun k => by
    rw [k, h2] at h1
    exact absurd h1 (by decide)
  omega
theorem zn_lt10 {m : Nat} (hm : m < 1024) : ∀ v, m.testBit v = true → v < 10 := fun v h => by
  apply Classical.byContradiction
  intro k
  rw [zn_hi hm (by omega)] at h
  exact absurd h (by decide)
theorem zd_5 {g : Nat → Nat → Bool} {S : Nat → Bool} {k : Nat} (h : zd_P g S k) : k ≤ 5 := by
  obtain ⟨N, _, e⟩ := h.2
  have : zm_z N ≤ 10 := zc_bd _ _
  omega
def zy_T (g : Nat → Nat → Bool) (ae : Nat → Int32) (s : Nat) : Prop := ∀ m, m < s → ∃ k, zd_P g (fun v => m.testBit v) k ∧ ae m = nI k
section
variable {g : Nat → Nat → Bool} {al ae : Nat → Int32}
theorem zy_c {m : Nat} (h : m < 1024) : (nI m).toNatClampNeg = m := nI_clamp (by omega)
theorem zy_in {m : Nat} (h : m < 1024) : vp_in (nI m) 1024 := vp_in_nI h (by decide)
theorem zy_41 {post : Int32 → Prop} (rl : za_L al g) {low rest k0 : Nat} {kp : Nat → Nat} (hl : low < 10) (hr : rest < 1024) (h05 : k0 ≤ 5)
    (hkp : ∀ p, p < 10 → rest.testBit p = true → g low p = true → kp p ≤ 5 ∧ ∀ m', m' < 1024 → (∀ i, m'.testBit i = (rest.testBit i && decide (i ≠ p))) → ae m' = nI (kp p))
    (K : ∀ k, k0 ≤ k → (∀ p, p < 10 → rest.testBit p = true → g low p = true → kp p + 1 ≤ k) → (k = k0 ∨ ∃ p, p < 10 ∧ rest.testBit p = true ∧ g low p = true ∧ k = kp p + 1) → post (nI k)) :
    ∀ (d i n k : Nat), i + d = 10 → d < n → k0 ≤ k → (∀ p, p < i → rest.testBit p = true → g low p = true → kp p + 1 ≤ k) → (k = k0 ∨ ∃ p, p < 10 ∧ rest.testBit p = true ∧ g low p = true ∧ k = kp p + 1) →
      wY_pair_41 post (nI low) (nI rest) al ae n (nI k) (nI i) := by
  intro d
  induction d with
  | zero =>
    intro i n k hi hn h0 h1 h2
    obtain ⟨n, rfl⟩ : ∃ k, n = k + 1 := ⟨n - 1, by omega⟩
    have : i = 10 := by omega
    subst this
    unfold wY_pair_41
    exact br_t za_ge (K k h0 h1 h2)
  | succ d ih =>
    intro i n k hi hn h0 h1 h2
    obtain ⟨n, rfl⟩ : ∃ k, n = k + 1 := ⟨n - 1, by omega⟩
    have i10 : i < 10 := by omega
    have k6 : k ≤ 6 := by
      rcases h2 with h2 | ⟨p, p1, p2, p3, p4⟩
      · omega
      · have := (hkp p p1 p2 p3).1
        omega
    obtain ⟨m', m1, m2, m3⟩ := zn_clr hr i10
    unfold wY_pair_41
    rw [m2, zx_s1 _ (by omega), zn_bt (by omega), zl_ix, zl_c hl i10, zy_c m1]
    refine br_f (za_lt i10) ?_
    have skip : (rest.testBit i = true → g low i = true → kp i + 1 ≤ k) → wY_pair_41 post (nI low) (nI rest) al ae n (nI k) (nI (i + 1)) := fun hs =>
      ih (i + 1) n k (by omega) (by omega) h0 (fun p hp q1 q2 => by
        by_cases e : p = i
        · rw [e] at q1 q2 ⊢; exact hs q1 q2
        · exact h1 p (by omega) q1 q2) h2
    cases hb : rest.testBit i
    · exact br_f (by decide) (nm_r (nI_1 i) (skip (fun q => by rw [hb] at q; exact absurd q (by decide))))
    · refine br_t rfl ⟨zl_in hl i10, ?_⟩
      rw [rl low hl i i10]
      cases hgl : g low i
      · exact br_t rfl (nm_r (nI_1 i) (skip (fun _ q => by rw [hgl] at q; exact absurd q (by decide))))
      · have hk := hkp i i10 hb hgl
        rw [hk.2 m' m1 m3, nI_1 (kp i)]
        refine br_f (by decide) ⟨zy_in m1, ?_⟩
        by_cases c : kp i + 1 ≤ k
        · exact br_t (nI_le c (by omega)) (nm_r (nI_1 i) (skip (fun _ _ => c)))
        · refine br_f (nI_ge (by omega) (by omega)) ⟨zy_in m1, nm_e (nm_r (nI_1 i) ?_)⟩
          refine ih (i + 1) n (kp i + 1) (by omega) (by omega) (by omega) (fun p hp q1 q2 => ?_) (Or.inr ⟨i, i10, hb, hgl, rfl⟩)
          by_cases e : p = i
          · rw [e]; omega
          · have := h1 p (by omega) q1 q2
            omega
theorem zy_22 {post : Int32 → Prop} (hg : zg_G g) (rl : za_L al g) {s low : Nat} (hs : s < 1024) (hl : low < 10) (hb : s.testBit low = true) (T : zy_T g ae s) (K : ∀ k, zd_P g (fun v => s.testBit v) k → post (nI k)) : wY_pair_22 post (nI s) (nI low) al ae := by
  obtain ⟨rest, r1, r2, r3⟩ := zn_clr hs hl
  have rs : rest < s := zn_sub (j := low) (fun i hi => by
    rw [r3 i] at hi
    simp at hi
    exact hi.1) (by rw [r3]; simp) hb
  obtain ⟨k0, z0, e0⟩ := T rest rs
  obtain ⟨kp, hkp⟩ := Classical.skolem.mp (fun p => by
    by_cases q : p < 10 ∧ rest.testBit p = true
    · obtain ⟨m, m1, _, m3⟩ := zn_clr r1 q.1
      have ms : m < rest := zn_sub (j := p) (fun i hi => by
        rw [m3 i] at hi
        simp at hi
        exact hi.1) (by rw [m3]; simp) q.2
      obtain ⟨k, zk, ek⟩ := T m (by omega)
      refine ⟨k, fun _ _ => ⟨zd_ext zk (fun v => m3 v) (fun _ _ _ _ => rfl), fun m' hm' => ?_⟩⟩
      have : m' = m := Nat.eq_of_testBit_eq (fun i => by rw [hm', m3])
      rw [this]; exact ek
    · exact ⟨0, fun z1 z2 => absurd ⟨z1, z2⟩ q⟩ : ∀ p, ∃ k, p < 10 → rest.testBit p = true → zd_P g (fun v => rest.testBit v && decide (v ≠ p)) k ∧ ∀ m', (∀ i, m'.testBit i = (rest.testBit i && decide (i ≠ p))) → ae m' = nI k)
  have rS : ∀ p, s.testBit p = true → p ≠ low → p < 10 ∧ rest.testBit p = true := fun p k1 k2 => ⟨zn_lt10 hs p k1, by rw [r3, k1, decide_eq_true k2]; rfl⟩
  have rR : ∀ p, rest.testBit p = true → s.testBit p = true ∧ p ≠ low := fun p k => by
    rw [r3] at k
    simpa using k
  unfold wY_pair_22
  refine nm_r r2 ⟨zy_in r1, ?_⟩
  rw [zy_c r1]
  refine nm_r e0 ⟨11, ?_⟩
  refine zy_41 rl hl r1 (zd_5 z0) (fun p p1 p2 p3 => ⟨zd_5 (hkp p p1 p2).1, fun m' _ hm' => (hkp p p1 p2).2 m' hm'⟩) (fun k b0 b1 b2 => K k ?_) 10 0 11 k0 rfl (by omega) (Nat.le_refl _) (fun p hp => absurd hp (by omega)) (Or.inl rfl)
  refine zd_step hg.1 (zn_lt10 hs) (kp := kp) hb (hg.2.1 low) (zd_ext z0 (fun v => r3 v) (fun _ _ _ _ => rfl)) (fun p p1 p2 p3 => ?_) b0 (fun p p1 p2 p3 => ?_) ?_
  · have q := rS p p1 p2
    exact zd_ext (hkp p q.1 q.2).1 (fun v => by show (rest.testBit v && decide (v ≠ p)) = _; rw [r3]) (fun _ _ _ _ => rfl)
  · have q := rS p p1 p2
    exact b1 p q.1 q.2 p3
  · rcases b2 with e | ⟨p, p1, p2, p3, p4⟩
    · exact Or.inl e
    · have q := rR p p2
      exact Or.inr ⟨p, q.1, q.2, p3, p4⟩
theorem zy_pair {post : Int32 → Prop} (hg : zg_G g) (rl : za_L al g) {s : Nat} (hs : s < 1024) (hs0 : s ≠ 0) (T : zy_T g ae s) (K : ∀ k, zd_P g (fun v => s.testBit v) k → post (nI k)) : wpY_pair post (al, ae) (nI s) := by
  unfold wpY_pair
  dsimp only
  have : ∀ (d i n : Nat), i + d = 10 → d < n → (∀ j, j < i → s.testBit j = false) → wY_pair_2 post (nI s) al ae n (nI i) := by
    intro d
    induction d with
    | zero =>
      intro i n hi hn h0
      exfalso
      apply hs0
      apply Nat.eq_of_testBit_eq
      intro j
      rw [Nat.zero_testBit]
      by_cases k : j < 10
      · exact h0 j (by omega)
      · exact zn_hi hs (by omega)
    | succ d ih =>
      intro i n hi hn h0
      obtain ⟨n, rfl⟩ : ∃ k, n = k + 1 := ⟨n - 1, by omega⟩
      have i10 : i < 10 := by omega
      unfold wY_pair_2
      rw [zx_s0 _ (by omega), zn_bt (by omega)]
      refine br_f (za_lt i10) ?_
      cases hb : s.testBit i
      · refine br_t rfl (nm_r (nI_1 i) (ih (i + 1) n (by omega) (by omega) (fun j hj => ?_)))
        by_cases e : j = i
        · rw [e]; exact hb
        · exact h0 j (by omega)
      · exact br_f (by decide) (zy_22 hg rl hs i10 hb T K)
  exact ⟨11, this 10 0 11 rfl (by omega) (fun j hj => absurd hj (by omega))⟩
theorem zy_work {post : SY → Prop} (hg : zg_G g) (rl : za_L al g) (h0 : ae 0 = 0) (K : ∀ ae', ae' 0 = 0 → zy_T g ae' 1024 → post (al, ae')) : wpY_work post (al, ae) := by
  unfold wpY_work
  dsimp only
  have : ∀ (d s n : Nat) (ae : Nat → Int32), s + d = 1024 → d < n → 1 ≤ s → ae 0 = 0 → zy_T g ae s → wY_work_2 post n (nI s) al ae := by
    intro d
    induction d with
    | zero =>
      intro s n ae hs hn h1 h0 T
      obtain ⟨n, rfl⟩ : ∃ k, n = k + 1 := ⟨n - 1, by omega⟩
      have : s = 1024 := by omega
      subst this
      unfold wY_work_2
      exact br_t (nI_le (a := 1024) (b := 1024) (by omega) (by omega)) (K ae h0 T)
    | succ d ih =>
      intro s n ae hs hn h1 h0 T
      obtain ⟨n, rfl⟩ : ∃ k, n = k + 1 := ⟨n - 1, by omega⟩
      have s10 : s < 1024 := by omega
      unfold wY_work_2
      refine br_f (nI_ge (b := 1024) s10 (by omega)) ?_
      refine zy_pair hg rl s10 (by omega) T (fun k zk => ⟨zy_in s10, nm_e (nm_r (nI_1 s) ?_)⟩)
      rw [zy_c s10]
      refine ih (s + 1) n _ (by omega) (by omega) (by omega) (by rw [pk_un (by omega)]; exact h0) (fun m hm => ?_)
      by_cases e : m = s
      · rw [e, pk_us]; exact ⟨k, zk, rfl⟩
      · rw [pk_un e]; exact T m (by omega)
  exact ⟨1024, this 1023 1 1024 ae rfl (by omega) (by omega) h0 (fun m hm => by
    have : m = 0 := by omega
    rw [this]
    exact ⟨0, zd_0 (fun v => Nat.zero_testBit v), h0⟩)⟩
/-- a look into the table -/
theorem zy_look (T : zy_T g ae 1024) {x : Int32} {S : Nat → Bool} (hx : ∀ i, 10 ≤ i → i < 32 → bt x i = false) (hS : ∀ i, S i = (decide (i < 10) && bt x i)) : vp_in x 1024 ∧ ∃ k, zd_P g S k ∧ ae x.toNatClampNeg = nI k := by
  obtain ⟨m, h1, h2, h3⟩ := zn_of hx
  obtain ⟨k, zk, ek⟩ := T m h1
  rw [h2, zy_c h1]
  exact ⟨zy_in h1, k, zd_ext zk (fun v => by rw [hS]; exact h3 v) (fun _ _ _ _ => rfl), ek⟩
end
end
section
/-! spare points and guards -/
def zV : Nat → Bool := fun v => decide (v < 10)
theorem zV_S : zS 0 = zV := by
  funext v
  unfold zS zV
  rw [b_0, Bool.not_false, Bool.and_true]
def zf_sp (g : Nat → Nat → Bool) (j : Nat) : Prop := ∃ l, zd_P g zV l ∧ zf_A g zV l j
theorem zf_spI {g : Nat → Nat → Bool} {l j : Nat} (h : zd_P g zV l) : zf_sp g j ↔ zf_A g zV l j := by
  constructor
  · rintro ⟨l', h1, h2⟩
    rw [zd_uniq h h1]; exact h2
  · intro k; exact ⟨l, h, k⟩
theorem zd_sp {g : Nat → Nat → Bool} {S : Nat → Bool} {l k a : Nat} (h : zd_P g S l) (hk : zd_P g (fun v => S v && decide (v ≠ a)) k) : k = l ↔ zf_A g S l a := by
  constructor
  · intro e
    obtain ⟨N, n1, n2⟩ := hk.2
    refine ⟨N, zm_mono n1 (fun v hv => ?_), by rw [n2, e], ?_⟩
    · have := (n1.2 v hv).1
      simp at this
      exact this.1
    · apply Classical.byContradiction
      intro q
      have := (n1.2 a q).1
      simp at this
  · rintro ⟨N, n1, n2, n3⟩
    have a1 := hk.1 N (zm_mono n1 (fun v hv => by
      have e : v ≠ a := fun q => hv (by rw [q]; exact n3)
      simp [(n1.2 v hv).1, e]))
    obtain ⟨N', m1, m2⟩ := hk.2
    have a2 := h.1 N' (zm_mono m1 (fun v hv => by
      have := (m1.2 v hv).1
      simp at this
      exact this.1))
    omega
theorem zx_1023 : ∀ i, i < 32 → bt 1023 i = decide (i < 10) := by decide +kernel
theorem zy_1023 {g : Nat → Nat → Bool} {ae : Nat → Int32} (T : zy_T g ae 1024) : ∃ k, zd_P g zV k ∧ ae 1023 = nI k := by
  obtain ⟨k, zk, ek⟩ := T 1023 (by omega)
  exact ⟨k, zd_ext zk (fun v => Nat.testBit_two_pow_sub_one 10 v) (fun _ _ _ _ => rfl), ek⟩
theorem zy_wo {g : Nat → Nat → Bool} {ae : Nat → Int32} (T : zy_T g ae 1024) {a : Nat} (ha : a < 10) : vp_in (1023 &&& (((1 : Int32) <<< (nI a &&& 31)) ^^^ (-1))) 1024 ∧ ∃ k, zd_P g (fun v => zV v && decide (v ≠ a)) k ∧ ae (1023 &&& (((1 : Int32) <<< (nI a &&& 31)) ^^^ (-1))).toNatClampNeg = nI k := by
  have hb : ∀ i, i < 32 → bt (1023 &&& (((1 : Int32) <<< (nI a &&& 31)) ^^^ (-1))) i = (decide (i < 10) && decide (i ≠ a)) := fun i hi => by
    rw [b_and, zx_1023 i hi, zx_nshl (by omega) hi]
  refine zy_look T (fun i h1 h2 => by rw [hb i h2, decide_eq_false (by omega), Bool.false_and]) (fun i => ?_)
  unfold zV
  by_cases k : i < 10
  · rw [hb i (by omega), decide_eq_true k]; rfl
  · rw [decide_eq_false k]; rfl
/-- the reference's test of a spare point -/
theorem zy_sp {g : Nat → Nat → Bool} {ae : Nat → Int32} (T : zy_T g ae 1024) {a : Nat} (ha : a < 10) : vp_in (1023 &&& (((1 : Int32) <<< (nI a &&& 31)) ^^^ (-1))) 1024 ∧ (ae (1023 &&& (((1 : Int32) <<< (nI a &&& 31)) ^^^ (-1))).toNatClampNeg = ae 1023 ↔ zf_sp g a) := by
  obtain ⟨l, zl, el⟩ := zy_1023 T
  obtain ⟨h1, k, zk, ek⟩ := zy_wo T ha
  refine ⟨h1, ?_⟩
  have l5 := zd_5 zl
  have k5 := zd_5 zk
  rw [ek, el, nI_eq (by omega) (by omega), zf_spI zl]
  exact zd_sp zl zk
def zG_f (g : Nat → Nat → Bool) (f : Int32) : Prop := (∀ j, j < 10 → (bt f j = true ↔ zf_sp g j)) ∧ (∀ j, 10 ≤ j → j < 32 → bt f j = false)
def zG_x (g : Nat → Nat → Bool) (f x : Int32) : Prop := ∀ j, j < 32 → (bt x j = true ↔ (∃ p, p < 10 ∧ bt f p = true ∧ g p j = true) ∧ bt f j = false)
theorem zG_b {x y : Int32} (h : ∀ j, j < 32 → (bt x j = true ↔ bt y j = true)) : x = y := b_ext (fun i hi => by
  have := h i hi
  cases q1 : bt x i <;> cases q2 : bt y i <;> simp [q1, q2] at this ⊢)
theorem zG_fu {g : Nat → Nat → Bool} {f f' : Int32} (h : zG_f g f) (h' : zG_f g f') : f = f' := zG_b (fun j hj => by
  by_cases k : j < 10
  · rw [h.1 j k, h'.1 j k]
  · rw [h.2 j (by omega) hj, h'.2 j (by omega) hj])
theorem zG_xu {g : Nat → Nat → Bool} {f x x' : Int32} (h : zG_x g f x) (h' : zG_x g f x') : x = x' := zG_b (fun j hj => by rw [h j hj, h' j hj])
section
variable {g : Nat → Nat → Bool}
variable {fa fq : Int32} {aj am ao af ab ai ap aq : Nat → Int32} {post : Int32 → SX → Prop}
/-- pairWithout(0), then spares -/
theorem zx_free (hg : zg_G g) (rg : za_G aj g) {post2 : Int32 → Int32 → SX → Prop}
    (K : ∀ (r f fa fq : Int32) (am ao af ab ai ap aq : Nat → Int32), zG_f g f → post2 r f (fa, fq, aj, am, ao, af, ab, ai, ap, aq)) :
    wpX_pairWithout (fun r u => wpX_spares (fun f u => post2 r f u) u) (fa, fq, aj, am, ao, af, ab, ai, ap, aq) 0 := by
  refine zw_pw hg.1 rg (fun l fq am ao af ab ai ap aq M hM rm hz hd => ?_)
  refine zw_sp hg.1 rg (fun x fq am ao af ab ai ap aq h1 h2 => ?_) (fun j _ => b_0 j) hM rm hz hd
  refine K _ x 0 fq am ao af ab ai ap aq ⟨fun j hj => ?_, h2⟩
  rw [zV_S] at h1 hd
  rw [h1 j hj, zf_spI hd]
  exact ⟨fun k => k.2, fun k => ⟨decide_eq_true hj, k⟩⟩
theorem zx_15 {f : Int32} (rg : za_G aj g) (K : ∀ x, zG_x g f x → post x (fa, fq, aj, am, ao, af, ab, ai, ap, aq)) :
    ∀ (d i n : Nat) (x : Int32), i + d = 10 → d < n → (∀ j, j < 32 → (bt x j = true ↔ ∃ p, p < i ∧ bt f p = true ∧ g p j = true)) → wX_guards_15 post f fa fq aj am ao af ab ai ap aq n x (nI i) := by
  intro d
  induction d with
  | zero =>
    intro i n x hi hn hx
    obtain ⟨n, rfl⟩ : ∃ k, n = k + 1 := ⟨n - 1, by omega⟩
    have : i = 10 := by omega
    subst this
    unfold wX_guards_15
    refine br_t za_ge (K _ (fun j hj => ?_))
    rw [b_and, b_xor, b_m1 j hj, Bool.xor_true]
    have := hx j hj
    rw [← this]
    cases bt x j <;> cases bt f j <;> simp
  | succ d ih =>
    intro i n x hi hn hx
    obtain ⟨n, rfl⟩ : ∃ k, n = k + 1 := ⟨n - 1, by omega⟩
    have i10 : i < 10 := by omega
    unfold wX_guards_15
    rw [za_c i10, zx_u f (by omega)]
    refine br_f (za_lt i10) ?_
    cases hb : bt f i
    · refine br_t rfl (nm_e (nm_r (nI_1 i) (ih (i + 1) n _ (by omega) (by omega) (fun j hj => ?_))))
      rw [b_or, b_0, Bool.or_false, hx j hj]
      constructor
      · rintro ⟨p, p1, p2, p3⟩
        exact ⟨p, by omega, p2, p3⟩
      · rintro ⟨p, p1, p2, p3⟩
        have : p ≠ i := fun e => by rw [e, hb] at p2; exact absurd p2 (by decide)
        exact ⟨p, by omega, p2, p3⟩
    · refine br_f (by decide) ⟨za_in i10, nm_e (nm_r (nI_1 i) (ih (i + 1) n _ (by omega) (by omega) (fun j hj => ?_)))⟩
      rw [b_or, rg i i10 j hj, Bool.or_eq_true, hx j hj]
      constructor
      · rintro (⟨p, p1, p2, p3⟩ | k)
        · exact ⟨p, by omega, p2, p3⟩
        · exact ⟨i, by omega, hb, k⟩
      · rintro ⟨p, p1, p2, p3⟩
        by_cases e : p = i
        · rw [e] at p3; exact Or.inr p3
        · exact Or.inl ⟨p, by omega, p2, p3⟩
theorem zx_guards (hg : zg_G g) (rg : za_G aj g) (K : ∀ (f x fa fq : Int32) (am ao af ab ai ap aq : Nat → Int32), zG_f g f → zG_x g f x → post x (fa, fq, aj, am, ao, af, ab, ai, ap, aq)) : wpX_guards post (fa, fq, aj, am, ao, af, ab, ai, ap, aq) := by
  unfold wpX_guards
  dsimp only
  refine zx_free (post2 := fun _ f u => match u with | (fa, fq, aj, am, ao, af, ab, ai, ap, aq) => ∃ n15 : Nat, wX_guards_15 post f fa fq aj am ao af ab ai ap aq n15 0 0) hg rg (fun r f fa fq am ao af ab ai ap aq hf => ?_)
  refine ⟨11, zx_15 rg (fun x hx => K f x fa fq am ao af ab ai ap aq hf hx) 10 0 11 0 rfl (by omega) (fun j hj => ?_)⟩
  rw [b_0]
  exact ⟨fun k => absurd k (by decide), fun ⟨p, p1, _⟩ => absurd p1 (by omega)⟩
end
section
variable {g : Nat → Nat → Bool} {al ae : Nat → Int32} {post : Int32 → SY → Prop}
theorem zl_div {i : Nat} (h : i < 2 ^ 31) : nI i / (10 : Int32) = nI (i / 10) := by
  show nI i / nI 10 = nI (i / 10)
  exact pk_div h (by omega) (by omega)
theorem zl_rem {i : Nat} (h : i < 2 ^ 31) : nI i - nI i / (10 : Int32) * 10 = nI (i % 10) := by
  show nI i - nI i / nI 10 * nI 10 = nI (i % 10)
  exact pk_rem h (by omega) (by omega)
theorem zl_10 : ¬ (10 : Int32) = 0 := by decide
theorem zy_55 {f : Int32} (hg : zg_G g) (rl : za_L al g) (K : ∀ x, zG_x g f x → post x (al, ae)) :
    ∀ (d i n : Nat) (x : Int32), i + d = 100 → d < n → (∀ j, j < 32 → (bt x j = true ↔ ∃ q, q < i ∧ g (q / 10) (q % 10) = true ∧ bt f (q / 10) = true ∧ j = q % 10)) → wY_guards_55 post f al ae n x (nI i) := by
  intro d
  induction d with
  | zero =>
    intro i n x hi hn hx
    obtain ⟨n, rfl⟩ : ∃ k, n = k + 1 := ⟨n - 1, by omega⟩
    have : i = 100 := by omega
    subst this
    unfold wY_guards_55
    refine br_t (nI_le (a := 100) (b := 100) (by omega) (by omega)) (K _ (fun j hj => ?_))
    rw [b_and, b_xor, b_m1 j hj, Bool.xor_true]
    have h1 : bt x j = true ↔ ∃ p, p < 10 ∧ bt f p = true ∧ g p j = true := by
      rw [hx j hj]
      constructor
      · rintro ⟨q, q1, q2, q3, q4⟩
        exact ⟨q / 10, by omega, q3, by rw [q4]; exact q2⟩
      · rintro ⟨p, p1, p2, p3⟩
        have j10 := (hg.2.2 p j p3).2
        refine ⟨10 * p + j, by omega, ?_, ?_, by omega⟩
        · rw [show (10 * p + j) / 10 = p by omega, show (10 * p + j) % 10 = j by omega]; exact p3
        · rw [show (10 * p + j) / 10 = p by omega]; exact p2
    rw [← h1]
    cases bt x j <;> cases bt f j <;> simp
  | succ d ih =>
    intro i n x hi hn hx
    obtain ⟨n, rfl⟩ : ∃ k, n = k + 1 := ⟨n - 1, by omega⟩
    have i100 : i < 100 := by omega
    have e : i = 10 * (i / 10) + i % 10 := by omega
    have al_i : al i = if g (i / 10) (i % 10) = true then 1 else 0 := by
      have := rl (i / 10) (by omega) (i % 10) (by omega)
      rw [← e] at this
      exact this
    have ext : (g (i / 10) (i % 10) = true → bt f (i / 10) = true → False) → ∀ j, j < 32 → (bt x j = true ↔ ∃ q, q < i + 1 ∧ g (q / 10) (q % 10) = true ∧ bt f (q / 10) = true ∧ j = q % 10) := fun hno j hj => by
      rw [hx j hj]
      constructor
      · rintro ⟨q, q1, q2, q3, q4⟩
        exact ⟨q, by omega, q2, q3, q4⟩
      · rintro ⟨q, q1, q2, q3, q4⟩
        have : q ≠ i := fun k => by rw [k] at q2 q3; exact hno q2 q3
        exact ⟨q, by omega, q2, q3, q4⟩
    unfold wY_guards_55
    rw [nI_clamp (by omega), al_i, zl_rem (by omega), zl_div (by omega), zx_s1 f (by omega)]
    refine br_f (nI_ge (b := 100) i100 (by omega)) ⟨vp_in_nI i100 (by omega), ?_⟩
    cases hgl : g (i / 10) (i % 10)
    · exact br_t rfl (nm_r (nI_1 i) (ih (i + 1) n x (by omega) (by omega) (ext (fun k _ => by rw [hgl] at k; exact absurd k (by decide)))))
    · refine br_f (by decide) ⟨zl_10, ?_⟩
      cases hb : bt f (i / 10)
      · exact br_f (by decide) (nm_r (nI_1 i) (ih (i + 1) n x (by omega) (by omega) (ext (fun _ k => by rw [hb] at k; exact absurd k (by decide)))))
      · refine br_t rfl ⟨zl_10, nm_e (nm_r (nI_1 i) (ih (i + 1) n _ (by omega) (by omega) (fun j hj => ?_)))⟩
        rw [b_or, zx_shl (by omega) hj, Bool.or_eq_true, hx j hj]
        constructor
        · rintro (⟨q, q1, q2, q3, q4⟩ | k)
          · exact ⟨q, by omega, q2, q3, q4⟩
          · exact ⟨i, by omega, hgl, hb, by simpa using k⟩
        · rintro ⟨q, q1, q2, q3, q4⟩
          by_cases e : q = i
          · rw [e] at q4; exact Or.inr (by simpa using q4)
          · exact Or.inl ⟨q, by omega, q2, q3, q4⟩
theorem zy_10 (T : zy_T g ae 1024) (K : ∀ f, zG_f g f → ∃ n55, wY_guards_55 post f al ae n55 0 0) :
    ∀ (d i n : Nat) (x : Int32), i + d = 10 → d < n → (∀ j, j < 32 → (bt x j = true ↔ j < i ∧ zf_sp g j)) → wY_guards_10 post 0 al ae n x (nI i) := by
  intro d
  induction d with
  | zero =>
    intro i n x hi hn hx
    obtain ⟨n, rfl⟩ : ∃ k, n = k + 1 := ⟨n - 1, by omega⟩
    have : i = 10 := by omega
    subst this
    unfold wY_guards_10
    refine br_t za_ge (K x ⟨fun j hj => ?_, fun j h1 h2 => ?_⟩)
    · rw [hx j (by omega)]; exact ⟨fun k => k.2, fun k => ⟨hj, k⟩⟩
    · cases q : bt x j
      · rfl
      · have := ((hx j h2).mp q).1
        omega
  | succ d ih =>
    intro i n x hi hn hx
    obtain ⟨n, rfl⟩ : ∃ k, n = k + 1 := ⟨n - 1, by omega⟩
    have i10 : i < 10 := by omega
    obtain ⟨h1, h2⟩ := zy_sp T i10
    unfold wY_guards_10
    refine br_f (za_lt i10) ⟨h1, br_c (fun k => ?_) (fun k => ?_)⟩
    · refine nm_e (nm_r (nI_1 i) (ih (i + 1) n _ (by omega) (by omega) (fun j hj => ?_)))
      rw [b_or, zx_shl (by omega) hj, Bool.or_eq_true, hx j hj]
      constructor
      · rintro (⟨q1, q2⟩ | q)
        · exact ⟨by omega, q2⟩
        · have : j = i := by simpa using q
          rw [this]; exact ⟨by omega, h2.mp k⟩
      · rintro ⟨q1, q2⟩
        by_cases e : j = i
        · exact Or.inr (by simpa using e)
        · exact Or.inl ⟨by omega, q2⟩
    · refine nm_r (nI_1 i) (ih (i + 1) n _ (by omega) (by omega) (fun j hj => ?_))
      rw [hx j hj]
      constructor
      · rintro ⟨q1, q2⟩
        exact ⟨by omega, q2⟩
      · rintro ⟨q1, q2⟩
        have : j ≠ i := fun e => k (h2.mpr (by rw [← e]; exact q2))
        exact ⟨by omega, q2⟩
theorem zy_guards (hg : zg_G g) (rl : za_L al g) (h0 : ae 0 = 0) (K : ∀ (f x : Int32) (ae' : Nat → Int32), zG_f g f → zG_x g f x → ae' 0 = 0 → post x (al, ae')) : wpY_guards post (al, ae) := by
  unfold wpY_guards
  dsimp only
  refine zy_work hg rl h0 (fun ae' e0 T => ?_)
  refine ⟨11, zy_10 T (fun f hf => ⟨101, ?_⟩) 10 0 11 0 rfl (by omega) (fun j hj => ?_)⟩
  · refine zy_55 hg rl (fun x hx => K f x ae' hf hx e0) 100 0 101 0 rfl (by omega) (fun j hj => ?_)
    rw [b_0]
    exact ⟨fun k => absurd k (by decide), fun ⟨p, p1, _⟩ => absurd p1 (by omega)⟩
  · rw [b_0]
    exact ⟨fun k => absurd k (by decide), fun ⟨p1, _⟩ => absurd p1 (by omega)⟩
end
end
section
/-! parts: both sides draw the same sets -/
def zP_Z (g : Nat → Nat → Bool) (L Z0 : Nat → Bool) : Nat → Nat → Bool
  | 0 => Z0
  | k + 1 => fun j => zP_Z g L Z0 k j || (zP_Z g L Z0 k (k % 10) && g (k % 10) j && L j)
theorem zP_s (g : Nat → Nat → Bool) (L Z0 : Nat → Bool) (k j : Nat) : zP_Z g L Z0 (k + 1) j = (zP_Z g L Z0 k j || (zP_Z g L Z0 k (k % 10) && g (k % 10) j && L j)) := rfl
section
variable {g : Nat → Nat → Bool} {L Z0 : Nat → Bool}
variable {fa fq : Int32} {aj am ao af ab ai ap aq : Nat → Int32}
theorem zx_17 {post : Int32 → Prop} {left x4 : Int32} {J : Int32 → Int32 → Prop} {rd : Nat} (rg : za_G aj g) (hL : ∀ j, j < 32 → bt left j = L j) (K : ∀ x, (∀ j, j < 32 → bt x j = zP_Z g L Z0 (10 * rd + 10) j) → J x (x4 + 1)) :
    ∀ (d i n : Nat) (x : Int32), i + d = 10 → d < n → (∀ j, j < 32 → bt x j = zP_Z g L Z0 (10 * rd + i) j) → wX_partOf_17 post J left x4 fa fq aj am ao af ab ai ap aq n x (nI i) := by
  intro d
  induction d with
  | zero =>
    intro i n x hi hn hx
    obtain ⟨n, rfl⟩ : ∃ k, n = k + 1 := ⟨n - 1, by omega⟩
    have : i = 10 := by omega
    subst this
    unfold wX_partOf_17
    exact br_t za_ge (nm_e (K x hx))
  | succ d ih =>
    intro i n x hi hn hx
    obtain ⟨n, rfl⟩ : ∃ k, n = k + 1 := ⟨n - 1, by omega⟩
    have i10 : i < 10 := by omega
    have md : (10 * rd + i) % 10 = i := by omega
    have hs := zP_s g L Z0 (10 * rd + i)
    rw [md] at hs
    unfold wX_partOf_17
    rw [za_c i10, zx_u x (by omega)]
    refine br_f (za_lt i10) ?_
    have xi := hx i (by omega)
    cases hb : bt x i
    · rw [hb] at xi
      refine br_t rfl (nm_e (nm_r (nI_1 i) (ih (i + 1) n _ (by omega) (by omega) (fun j hj => ?_))))
      show _ = zP_Z g L Z0 (10 * rd + i + 1) j
      rw [b_or, b_0, Bool.or_false, hs j, ← xi, hx j hj]
      simp
    · rw [hb] at xi
      refine br_f (by decide) ⟨za_in i10, nm_e (nm_r (nI_1 i) (ih (i + 1) n _ (by omega) (by omega) (fun j hj => ?_)))⟩
      show _ = zP_Z g L Z0 (10 * rd + i + 1) j
      rw [b_or, b_and, rg i i10 j hj, hL j hj, hs j, ← xi, hx j hj]
      simp
theorem zx_7 {post : Int32 → Prop} {left : Int32} (rg : za_G aj g) (hL : ∀ j, j < 32 → bt left j = L j) (K : ∀ x, (∀ j, j < 32 → bt x j = zP_Z g L Z0 100 j) → post x) :
    ∀ (d i n : Nat) (x : Int32), i + d = 10 → d < n → (∀ j, j < 32 → bt x j = zP_Z g L Z0 (10 * i) j) → wX_partOf_7 post left fa fq aj am ao af ab ai ap aq n x (nI i) := by
  intro d
  induction d with
  | zero =>
    intro i n x hi hn hx
    obtain ⟨n, rfl⟩ : ∃ k, n = k + 1 := ⟨n - 1, by omega⟩
    have : i = 10 := by omega
    subst this
    unfold wX_partOf_7
    exact br_t za_ge (K x hx)
  | succ d ih =>
    intro i n x hi hn hx
    obtain ⟨n, rfl⟩ : ∃ k, n = k + 1 := ⟨n - 1, by omega⟩
    unfold wX_partOf_7
    refine br_f (za_lt (by omega)) ⟨11, ?_⟩
    refine zx_17 (L := L) (Z0 := Z0) (rd := i) rg hL (fun x' hx' => ?_) 10 0 11 x rfl (by omega) hx
    rw [nI_1]
    exact ih (i + 1) n x' (by omega) (by omega) (fun j hj => by rw [hx' j hj, show 10 * i + 10 = 10 * (i + 1) by omega])
theorem zx_partOf {post : Int32 → Prop} {left : Int32} {p : Nat} (hp : p < 10) (rg : za_G aj g) (hL : ∀ j, j < 32 → bt left j = L j) (K : ∀ x, (∀ j, j < 32 → bt x j = zP_Z g L (fun j => decide (j = p)) 100 j) → post x) :
    wpX_partOf post (fa, fq, aj, am, ao, af, ab, ai, ap, aq) (nI p) left := by
  unfold wpX_partOf
  dsimp only
  exact nm_e ⟨11, zx_7 rg hL K 10 0 11 _ rfl (by omega) (fun j hj => zx_shl (by omega) hj)⟩
/-! the reference -/
def zP_Y (g : Nat → Nat → Bool) (L Z0 : Nat → Bool) (i j : Nat) : Bool := zP_Z g L Z0 (i / 10) j || (zP_Z g L Z0 (i / 10) (i / 10 % 10) && g (i / 10 % 10) j && L j && decide (j < i % 10))
theorem zP_0 (g : Nat → Nat → Bool) (L Z0 : Nat → Bool) (k j : Nat) : zP_Y g L Z0 (10 * k) j = zP_Z g L Z0 k j := by
  unfold zP_Y
  rw [show 10 * k / 10 = k by omega, show 10 * k % 10 = 0 by omega, decide_eq_false (by omega : ¬ j < 0), Bool.and_false, Bool.or_false]
theorem zP_a (hg : zg_G g) (i : Nat) : zP_Y g L Z0 i (i / 10 % 10) = zP_Z g L Z0 (i / 10) (i / 10 % 10) := by
  unfold zP_Y
  rw [hg.2.1]
  simp
theorem zP_st (hg : zg_G g) (i j : Nat) : zP_Y g L Z0 (i + 1) j = (zP_Y g L Z0 i j || (decide (j = i % 10) && (g (i / 10 % 10) (i % 10) && zP_Y g L Z0 i (i / 10 % 10) && L (i % 10)))) := by
  rw [zP_a hg]
  by_cases h9 : i % 10 = 9
  · rw [show i + 1 = 10 * (i / 10 + 1) by omega, zP_0, zP_s]
    unfold zP_Y
    rw [h9]
    by_cases e : j = 9
    · rw [e]
      cases zP_Z g L Z0 (i / 10) 9 <;> cases zP_Z g L Z0 (i / 10) (i / 10 % 10) <;> cases g (i / 10 % 10) 9 <;> cases L 9 <;> rfl
    · rw [decide_eq_false e, Bool.false_and, Bool.or_false]
      by_cases l : j < 9
      · rw [decide_eq_true l, Bool.and_true]
      · have : g (i / 10 % 10) j = false := by
          cases q : g (i / 10 % 10) j
          · rfl
          · have := (hg.2.2 _ _ q).2
            omega
        rw [this]
        simp
  · unfold zP_Y
    rw [show (i + 1) / 10 = i / 10 by omega, show (i + 1) % 10 = i % 10 + 1 by omega]
    by_cases e : j = i % 10
    · rw [← e, decide_eq_true (by omega : j < j + 1), decide_eq_false (by omega : ¬ j < j), decide_eq_true rfl]
      cases zP_Z g L Z0 (i / 10) j <;> cases zP_Z g L Z0 (i / 10) (i / 10 % 10) <;> cases g (i / 10 % 10) j <;> cases L j <;> rfl
    · rw [decide_eq_false e, Bool.false_and, Bool.or_false]
      have : decide (j < i % 10 + 1) = decide (j < i % 10) := decide_eq_decide.mpr (by omega)
      rw [this]
theorem zy_25 {al ae : Nat → Int32} {post : Int32 → SY → Prop} {left x2 : Int32} {J : Int32 → Int32 → Prop} (hg : zg_G g) (rl : za_L al g) (hL : ∀ j, j < 32 → bt left j = L j) (K : ∀ x, (∀ j, j < 32 → bt x j = zP_Z g L Z0 100 j) → J (left &&& (x ^^^ (-1))) (x2 + 1)) :
    ∀ (d i n : Nat) (x : Int32), i + d = 1000 → d < n → (∀ j, j < 32 → bt x j = zP_Y g L Z0 i j) → wY_parts_25 post J left x2 al ae n x (nI i) := by
  intro d
  induction d with
  | zero =>
    intro i n x hi hn hx
    obtain ⟨n, rfl⟩ : ∃ k, n = k + 1 := ⟨n - 1, by omega⟩
    have : i = 1000 := by omega
    subst this
    unfold wY_parts_25
    exact br_t (nI_le (a := 1000) (b := 1000) (by omega) (by omega)) (nm_e (nm_e (K x (fun j hj => by rw [hx j hj, ← zP_0]))))
  | succ d ih =>
    intro i n x hi hn hx
    obtain ⟨n, rfl⟩ : ∃ k, n = k + 1 := ⟨n - 1, by omega⟩
    have a10 : i / 10 % 10 < 10 := by omega
    have b10 : i % 10 < 10 := by omega
    have skip : (g (i / 10 % 10) (i % 10) && zP_Y g L Z0 i (i / 10 % 10) && L (i % 10)) = false → wY_parts_25 post J left x2 al ae n x (nI (i + 1)) := fun hno =>
      ih (i + 1) n x (by omega) (by omega) (fun j hj => by rw [zP_st hg, hno, Bool.and_false, Bool.or_false]; exact hx j hj)
    have e1 : nI i / (10 : Int32) - nI i / (10 : Int32) / 10 * 10 = nI (i / 10 % 10) := by
      rw [zl_div (by omega), zl_rem (by omega)]
    unfold wY_parts_25
    refine br_f (nI_ge (b := 1000) (by omega) (by omega)) ⟨zl_10, zl_10, nm_r e1 ⟨zl_10, nm_r (zl_rem (by omega)) ?_⟩⟩
    rw [zl_ix, zl_c a10 b10, rl _ a10 _ b10, zx_s1 x (by omega), zx_s1 left (by omega), hx _ (by omega), hL _ (by omega)]
    refine ⟨zl_in a10 b10, ?_⟩
    cases hgl : g (i / 10 % 10) (i % 10)
    · exact br_t rfl (nm_r (nI_1 i) (skip (by rw [hgl]; rfl)))
    · refine br_f (by decide) ?_
      cases ha : zP_Y g L Z0 i (i / 10 % 10)
      · exact br_f (by decide) (nm_r (nI_1 i) (skip (by rw [ha, hgl]; rfl)))
      · refine br_t rfl ?_
        cases hl : L (i % 10)
        · exact br_f (by decide) (nm_r (nI_1 i) (skip (by rw [ha, hgl, hl]; rfl)))
        · refine br_t rfl (nm_e (nm_r (nI_1 i) (ih (i + 1) n _ (by omega) (by omega) (fun j hj => ?_))))
          rw [b_or, zx_shl (by omega) hj, zP_st hg, ha, hgl, hl, hx j hj]
          simp
end
theorem zx_of (f : Nat → Bool) : ∃ c : Int32, ∀ j, j < 32 → bt c j = f j := by
  have : ∀ n, n ≤ 32 → ∃ c : Int32, ∀ j, j < 32 → bt c j = (decide (j < n) && f j) := by
    intro n
    induction n with
    | zero => intro _; exact ⟨0, fun j _ => by rw [b_0, decide_eq_false (by omega), Bool.false_and]⟩
    | succ n ih =>
      intro hn
      obtain ⟨c, hc⟩ := ih (by omega)
      have key : ∀ j, j ≠ n → decide (j < n) = decide (j < n + 1) := fun j hj => decide_eq_decide.mpr (by omega)
      cases q : f n
      · refine ⟨c, fun j hj => ?_⟩
        rw [hc j hj]
        by_cases e : j = n
        · rw [e, q, Bool.and_false, Bool.and_false]
        · rw [key j e]
      · refine ⟨c ||| ((1 : Int32) <<< (nI n &&& 31)), fun j hj => ?_⟩
        rw [b_or, zx_shl (by omega) hj, hc j hj]
        by_cases e : j = n
        · rw [e, q, decide_eq_true rfl, decide_eq_true (by omega : n < n + 1)]; simp
        · rw [decide_eq_false e, Bool.or_false, key j e]
  obtain ⟨c, hc⟩ := this 32 (Nat.le_refl _)
  exact ⟨c, fun j hj => by rw [hc j hj, decide_eq_true hj, Bool.true_and]⟩
theorem zx_low : ∀ m, m < 1024 → ∀ p, p < 10 → (m.testBit p && (List.range p).all (fun j => !m.testBit j)) = true → nI m &&& (-(nI m)) = (1 : Int32) <<< (nI p &&& 31) := by
  have h : ((List.range 1024).all (fun m => (List.range 10).all (fun p => !(m.testBit p && (List.range p).all (fun j => !m.testBit j)) || decide (nI m &&& (-(nI m)) = (1 : Int32) <<< (nI p &&& 31))))) = true := by decide +kernel
  intro m hm p hp hc
  rw [List.all_eq_true] at h
  have h1 := h m (List.mem_range.mpr hm)
  rw [List.all_eq_true] at h1
  have h2 := h1 p (List.mem_range.mpr hp)
  rw [hc] at h2
  simpa using h2
section
variable {g : Nat → Nat → Bool}
variable {fa fq : Int32} {aj am ao af ab ai ap aq : Nat → Int32} {al : Nat → Int32}
theorem zz_parts (hg : zg_G g) (rg : za_G aj g) (rl : za_L al g) : ∀ (d p : Nat) (left cnt : Int32), p + d = 10 → (∀ j, j < p → bt left j = false) → (∀ j, 10 ≤ j → j < 32 → bt left j = false) →
    ∃ r : Int32, (∀ (n : Nat) (post : Int32 → SX → Prop), d < n → post r (fa, fq, aj, am, ao, af, ab, ai, ap, aq) → wX_parts_15 post fa fq aj am ao af ab ai ap aq n left cnt (nI p)) ∧
      (∀ (ae : Nat → Int32) (n : Nat) (post : Int32 → SY → Prop), d < n → post r (al, ae) → wY_parts_13 post al ae n left cnt) := by
  intro d
  induction d with
  | zero =>
    intro p left cnt hp h1 h2
    have e : p = 10 := by omega
    subst e
    have l0 : left = 0 := b_ext (fun i hi => by
      rw [b_0]
      by_cases k : i < 10
      · exact h1 i k
      · exact h2 i (by omega) hi)
    refine ⟨cnt, fun n post hn hpost => ?_, fun ae n post hn hpost => ?_⟩
    · obtain ⟨n, rfl⟩ : ∃ k, n = k + 1 := ⟨n - 1, by omega⟩
      unfold wX_parts_15
      exact br_t za_ge hpost
    · obtain ⟨n, rfl⟩ : ∃ k, n = k + 1 := ⟨n - 1, by omega⟩
      unfold wY_parts_13
      exact br_t l0 hpost
  | succ d ih =>
    intro p left cnt hp h1 h2
    have p10 : p < 10 := by omega
    cases hb : bt left p
    · obtain ⟨r, hX, hY⟩ := ih (p + 1) left cnt (by omega) (fun j hj => by
        by_cases e : j = p
        · rw [e]; exact hb
        · exact h1 j (by omega)) h2
      refine ⟨r, fun n post hn hpost => ?_, fun ae n post hn hpost => hY ae n post (by omega) hpost⟩
      obtain ⟨n, rfl⟩ : ∃ k, n = k + 1 := ⟨n - 1, by omega⟩
      unfold wX_parts_15
      rw [zx_u left (by omega)]
      exact br_f (za_lt p10) (br_t hb (nm_r (nI_1 p) (hX n post (by omega) hpost)))
    · -- the set that is drawn
      have hZ : ∀ k j, (j = p → zP_Z g (fun j => bt left j) (fun j => decide (j = p)) k j = true) := fun k j e => by
        induction k with
        | zero => exact decide_eq_true e
        | succ k ihk => rw [zP_s, ihk]; rfl
      obtain ⟨m, m1, m2, m3⟩ := zn_of h2
      have lw : left &&& (-left) = (1 : Int32) <<< (nI p &&& 31) := by
        rw [m2]
        refine zx_low m m1 p p10 ?_
        rw [Bool.and_eq_true]
        refine ⟨by rw [m3, decide_eq_true p10, hb]; rfl, List.all_eq_true.mpr (fun j hj => ?_)⟩
        have hj := List.mem_range.mp hj
        rw [m3, h1 j hj, Bool.and_false]; rfl
      obtain ⟨c, hc⟩ := zx_of (fun j => zP_Z g (fun j => bt left j) (fun j => decide (j = p)) 100 j)
      have cp : bt c p = true := by rw [hc p (by omega)]; exact hZ 100 p rfl
      have hb' : ∀ j, j < 32 → bt (left &&& (c ^^^ (-1))) j = (bt left j && !bt c j) := fun j hj => by
        rw [b_and, b_xor, b_m1 j hj, Bool.xor_true]
      obtain ⟨r, hX, hY⟩ := ih (p + 1) (left &&& (c ^^^ (-1))) (cnt + 1) (by omega) (fun j hj => by
        rw [hb' j (by omega)]
        by_cases e : j = p
        · rw [e, cp]; simp
        · rw [h1 j (by omega), Bool.false_and]) (fun j k1 k2 => by rw [hb' j k2, h2 j k1 k2, Bool.false_and])
      refine ⟨r, fun n post hn hpost => ?_, fun ae n post hn hpost => ?_⟩
      · obtain ⟨n, rfl⟩ : ∃ k, n = k + 1 := ⟨n - 1, by omega⟩
        unfold wX_parts_15
        rw [zx_u left (by omega)]
        refine br_f (za_lt p10) (br_f (by rw [hb]; decide) (nm_e ?_))
        refine zx_partOf (L := fun j => bt left j) p10 rg (fun j _ => rfl) (fun x hx => ?_)
        have : x = c := b_ext (fun j hj => by rw [hx j hj, hc j hj])
        rw [this]
        exact nm_e (nm_r (nI_1 p) (hX n post (by omega) hpost))
      · obtain ⟨n, rfl⟩ : ∃ k, n = k + 1 := ⟨n - 1, by omega⟩
        unfold wY_parts_13
        refine br_f (fun e => by rw [e, b_0] at hb; exact absurd hb (by decide)) (nm_r lw ⟨1001, ?_⟩)
        refine zy_25 (L := fun j => bt left j) (Z0 := fun j => decide (j = p)) hg rl (fun j _ => rfl) (fun x hx => ?_) 1000 0 1001 _ rfl (by omega) (fun j hj => ?_)
        · have : x = c := b_ext (fun j hj => by rw [hx j hj, hc j hj])
          rw [this]
          exact hY ae n post (by omega) hpost
        · rw [zx_shl (by omega) hj]
          exact (zP_0 g (fun j => bt left j) (fun j => decide (j = p)) 0 j).symm
end
end
section
/-! what is owed -/
/-- both objects hold the same lines -/
def i_Rel (k : Nat) (u : SX) (v : SY) : Prop := ∃ g, zg_G g ∧ za_G u.2.2.1 g ∧ za_L v.1 g ∧ v.2 0 = 0
theorem i_up {k : Nat} {u : SX} {v : SY} (h : i_Rel k u v) : i_Rel (k + 3) u v := h
theorem i_vc0 : wpX_init (fun u => wpY_init (fun v => i_Rel 0 u v)) := by
  unfold wpX_init wpY_init
  refine ⟨fun _ _ => false, ⟨fun _ _ => rfl, fun _ => rfl, fun _ _ k => absurd (show false = true from k) (by decide)⟩, fun i hi j hj => b_0 j, fun i hi j hj => rfl, rfl⟩
theorem i_vc_join {k : Nat} {u : SX} {v : SY} (I : i_Rel k u v) (hk : k + 3 ≤ 1536) (v1 : Int32) (v2 : Int32) : wpX_join (fun r u' => wpY_join (fun r' v' => r' = r ∧ i_Rel (k + 3) u' v') v v1 v2) u v1 v2 := by
  obtain ⟨g, hg, rg, rl, h0⟩ := I
  obtain ⟨fa, fq, aj, am, ao, af, ab, ai, ap, aq⟩ := u
  obtain ⟨al, ae⟩ := v
  have rg : za_G aj g := rg
  have rl : za_L al g := rl
  have h0 : ae 0 = 0 := h0
  by_cases h : zv_2 v1 v2
  · obtain ⟨a, b, ha, hb, hab, rfl, rfl⟩ := h
    exact zj_join ha hb hab rg (fun aj' h1 => zl_join ha hb hab rl (fun al' h2 => ⟨rfl, zg_s g a b true, zg_s_G hg ha hb hab, h1, h2, h0⟩))
  · unfold wpX_join
    dsimp only
    refine zv_X0 h (br_t rfl ?_)
    unfold wpY_join
    dsimp only
    exact zv_Y1 h (br_f (by decide) ⟨rfl, g, hg, rg, rl, h0⟩)
theorem i_vc_part {k : Nat} {u : SX} {v : SY} (I : i_Rel k u v) (hk : k + 3 ≤ 1536) (v1 : Int32) (v2 : Int32) : wpX_part (fun r u' => wpY_part (fun r' v' => r' = r ∧ i_Rel (k + 3) u' v') v v1 v2) u v1 v2 := by
  obtain ⟨g, hg, rg, rl, h0⟩ := I
  obtain ⟨fa, fq, aj, am, ao, af, ab, ai, ap, aq⟩ := u
  obtain ⟨al, ae⟩ := v
  have rg : za_G aj g := rg
  have rl : za_L al g := rl
  have h0 : ae 0 = 0 := h0
  by_cases h : zv_2 v1 v2
  · obtain ⟨a, b, ha, hb, hab, rfl, rfl⟩ := h
    exact zj_part ha hb hab rg (fun aj' h1 => zl_part ha hb hab rl (fun al' h2 => ⟨rfl, zg_s g a b false, zg_s_G hg ha hb hab, h1, h2, h0⟩))
  · unfold wpX_part
    dsimp only
    refine zv_X0 h (br_t rfl ?_)
    unfold wpY_part
    dsimp only
    exact zv_Y1 h (br_f (by decide) ⟨rfl, g, hg, rg, rl, h0⟩)
theorem zo_V {x : Int32} {g : Nat → Nat → Bool} {l k : Nat} {S : Nat → Bool} (h : zd_P g (zS x) l) (h' : zd_P g S k) (e : ∀ v, v < 10 → S v = !bt x v) (e' : ∀ v, 10 ≤ v → S v = false) : l = k := by
  refine zd_uniq h (zd_ext h' (fun v => ?_) (fun _ _ _ _ => rfl))
  unfold zS
  by_cases q : v < 10
  · rw [e v q, decide_eq_true q, Bool.true_and]
  · rw [e' v (by omega), decide_eq_false q, Bool.false_and]
theorem zo_most {post : Int32 → SY → Prop} {g : Nat → Nat → Bool} {al ae : Nat → Int32} (hg : zg_G g) (rl : za_L al g) (h0 : ae 0 = 0) {l : Nat} (hl : zd_P g zV l) (K : ∀ ae', ae' 0 = 0 → post (nI l) (al, ae')) : wpY_most post (al, ae) := by
  unfold wpY_most
  dsimp only
  refine zy_work hg rl h0 (fun ae' e0 T => ?_)
  obtain ⟨k, zk, ek⟩ := zy_1023 T
  show post (ae' 1023) (al, ae')
  rw [ek, ← zd_uniq hl zk]
  exact K ae' e0
theorem i_vc_most {k : Nat} {u : SX} {v : SY} (I : i_Rel k u v) (hk : k + 3 ≤ 1536) : wpX_most (fun r u' => wpY_most (fun r' v' => r' = r ∧ i_Rel (k + 3) u' v') v) u := by
  obtain ⟨g, hg, rg, rl, h0⟩ := I
  obtain ⟨fa, fq, aj, am, ao, af, ab, ai, ap, aq⟩ := u
  obtain ⟨al, ae⟩ := v
  have rg : za_G aj g := rg
  have rl : za_L al g := rl
  have h0 : ae 0 = 0 := h0
  unfold wpX_most
  dsimp only
  refine zw_pw hg.1 rg (fun l fq am ao af ab ai ap aq M hM rm hz hd => ?_)
  rw [zV_S] at hd
  exact zo_most hg rl h0 hd (fun ae' e0 => ⟨rfl, g, hg, rg, rl, e0⟩)
theorem i_vc_spare {k : Nat} {u : SX} {v : SY} (I : i_Rel k u v) (hk : k + 3 ≤ 1536) (v1 : Int32) : wpX_spare (fun r u' => wpY_spare (fun r' v' => r' = r ∧ i_Rel (k + 3) u' v') v v1) u v1 := by
  obtain ⟨g, hg, rg, rl, h0⟩ := I
  obtain ⟨fa, fq, aj, am, ao, af, ab, ai, ap, aq⟩ := u
  obtain ⟨al, ae⟩ := v
  have rg : za_G aj g := rg
  have rl : za_L al g := rl
  have h0 : ae 0 = 0 := h0
  by_cases h : zv_1 v1
  · obtain ⟨a, ha, rfl⟩ := h
    unfold wpX_spare
    dsimp only
    refine br_f (za_p ha) (br_t (zv_le ha) ?_)
    refine zx_free (post2 := fun _ f u => match u with | (fa, fq, aj, am, ao, af, ab, ai, ap, aq) => wpY_spare (fun r' v' => r' = (((f.toUInt32 >>> ((nI a).toUInt32 &&& Int32.toUInt32 31)).toInt32) &&& 1) ∧ i_Rel (k + 3) (fa, fq, aj, am, ao, af, ab, ai, ap, aq) v') (al, ae) (nI a)) hg rg (fun r f fa fq am ao af ab ai ap aq hf => ?_)
    show wpY_spare _ _ _
    unfold wpY_spare
    dsimp only
    refine zv_bad0 ha (br_t rfl (zy_work hg rl h0 (fun ae' e0 T => ?_)))
    obtain ⟨h1, h2⟩ := zy_sp T ha
    have fu := zx_u f (j := a) (by omega)
    refine ⟨h1, br_c (fun q => ⟨?_, g, hg, rg, rl, e0⟩) (fun q => ⟨?_, g, hg, rg, rl, e0⟩)⟩
    · have q2 := (hf.1 a ha).mpr (h2.mp q)
      have : bt ((f.toUInt32 >>> ((nI a).toUInt32 &&& Int32.toUInt32 31)).toInt32) 0 = true := by rw [b_ushr a (by omega) f 0]; exact q2
      exact ((zx_and1' _).mpr this).symm
    · refine (fu.mpr ?_).symm
      cases q3 : bt f a
      · rfl
      · exact absurd (h2.mpr ((hf.1 a ha).mp q3)) q
  · unfold wpX_spare
    dsimp only
    have key : wpY_spare (fun r' v' => r' = -1 ∧ i_Rel (k + 3) (fa, fq, aj, am, ao, af, ab, ai, ap, aq) v') (al, ae) v1 := by
      unfold wpY_spare
      dsimp only
      exact zv_bad1 h (br_f (by decide) ⟨rfl, g, hg, rg, rl, h0⟩)
    exact br_c (fun _ => key) (fun q1 => br_c (fun q2 => absurd (zv_of q1 q2) h) (fun _ => key))
theorem i_vc_usable {k : Nat} {u : SX} {v : SY} (I : i_Rel k u v) (hk : k + 3 ≤ 1536) (v1 : Int32) (v2 : Int32) : wpX_usable (fun r u' => wpY_usable (fun r' v' => r' = r ∧ i_Rel (k + 3) u' v') v v1 v2) u v1 v2 := by
  obtain ⟨g, hg, rg, rl, h0⟩ := I
  obtain ⟨fa, fq, aj, am, ao, af, ab, ai, ap, aq⟩ := u
  obtain ⟨al, ae⟩ := v
  have rg : za_G aj g := rg
  have rl : za_L al g := rl
  have h0 : ae 0 = 0 := h0
  by_cases h : zv_2 v1 v2
  · obtain ⟨a, b, ha, hb, hab, rfl, rfl⟩ := h
    unfold wpX_usable
    dsimp only
    refine zv_X1 ha hb hab (br_f (by decide) ?_)
    refine zw_pw hg.1 rg (fun l fq am ao af ab ai ap aq M hM rm hz hd => ?_)
    rw [zV_S] at hd
    refine zw_pw hg.1 rg (fun l2 fq am ao af ab ai ap aq M hM rm hz hd2 => ?_)
    -- the reference
    have hb2 : ∀ i, i < 32 → bt (1023 &&& ((((1 : Int32) <<< (nI a &&& 31)) ||| ((1 : Int32) <<< (nI b &&& 31))) ^^^ (-1))) i = (decide (i < 10) && !bt (((1 : Int32) <<< (nI a &&& 31)) ||| ((1 : Int32) <<< (nI b &&& 31))) i) := fun i hi => by
      rw [b_and, zx_1023 i hi, b_xor, b_m1 i hi, Bool.xor_true]
    have yy : ∀ (ans : Int32) (fq : Int32) (am ao af ab ai ap aq : Nat → Int32), ans = (if g a b = true ∧ l2 + 1 = l then 1 else 0) → wpY_usable (fun r' v' => r' = ans ∧ i_Rel (k + 3) (((1 : Int32) <<< (nI a &&& 31)) ||| ((1 : Int32) <<< (nI b &&& 31)), fq, aj, am, ao, af, ab, ai, ap, aq) v') (al, ae) (nI a) (nI b) := fun ans fq am ao af ab ai ap aq hans => by
      unfold wpY_usable
      dsimp only
      refine zv_Y0 ha hb hab (br_t rfl (zy_work hg rl h0 (fun ae' e0 T => ?_)))
      obtain ⟨k1, z1, e1⟩ := zy_1023 T
      obtain ⟨i2, k2, z2, e2⟩ := zy_look T (x := 1023 &&& ((((1 : Int32) <<< (nI a &&& 31)) ||| ((1 : Int32) <<< (nI b &&& 31))) ^^^ (-1))) (S := zS (((1 : Int32) <<< (nI a &&& 31)) ||| ((1 : Int32) <<< (nI b &&& 31)))) (fun i q1 q2 => by rw [hb2 i q2, decide_eq_false (by omega), Bool.false_and]) (fun i => by
        unfold zS
        by_cases q : i < 10
        · rw [hb2 i (by omega), decide_eq_true q]; rfl
        · rw [decide_eq_false q]; rfl)
      have E1 := zd_uniq hd z1
      have E2 := zd_uniq hd2 z2
      have l5 := zd_5 z1
      have l25 := zd_5 z2
      dsimp only
      rw [zl_ix, zl_c ha hb, rl a ha b hb]
      refine ⟨zl_in ha hb, ?_⟩
      cases hgl : g a b
      · refine br_t rfl ⟨?_, g, hg, rg, rl, e0⟩
        rw [hans, if_neg (fun z => by rw [hgl] at z; exact absurd z.1 (by decide))]
      · refine br_f (by decide) ⟨i2, ?_⟩
        rw [e1, e2, nI_1 k2, nI_eq (by omega) (by omega)]
        refine br_c (fun q => ⟨?_, g, hg, rg, rl, e0⟩) (fun q => ⟨?_, g, hg, rg, rl, e0⟩)
        · rw [hans, if_pos ⟨hgl, by omega⟩]
        · rw [hans, if_neg (fun z => q (by omega))]
    have l5 := zd_5 hd
    have l25 := zd_5 hd2
    refine zw_line rg ha hb (fun q => br_f (by decide) (br_c (fun q2 => ?_) (fun q2 => ?_))) (fun q => br_t rfl ?_)
    · have e : l2 + 1 = l := by
        have : nI (l2 + 1) = nI l := by rw [← nI_1, q2, Int32.sub_add_cancel]
        exact (nI_eq (by omega) (by omega)).mp this
      exact yy 1 _ _ _ _ _ _ _ _ (by rw [if_pos ⟨q, e⟩])
    · have e : ¬ l2 + 1 = l := fun z => q2 (by rw [← z, ← nI_1, Int32.add_sub_cancel])
      exact yy 0 _ _ _ _ _ _ _ _ (by rw [if_neg (fun z => e z.2)])
    · exact yy 0 _ _ _ _ _ _ _ _ (by rw [if_neg (fun z => by rw [q] at z; exact absurd z.1 (by decide))])
  · unfold wpX_usable
    dsimp only
    refine zv_X0 h (br_t rfl ?_)
    unfold wpY_usable
    dsimp only
    exact zv_Y1 h (br_f (by decide) ⟨rfl, g, hg, rg, rl, h0⟩)
theorem i_vc_needed {k : Nat} {u : SX} {v : SY} (I : i_Rel k u v) (hk : k + 3 ≤ 1536) (v1 : Int32) (v2 : Int32) : wpX_needed (fun r u' => wpY_needed (fun r' v' => r' = r ∧ i_Rel (k + 3) u' v') v v1 v2) u v1 v2 := by
  obtain ⟨g, hg, rg, rl, h0⟩ := I
  obtain ⟨fa, fq, aj, am, ao, af, ab, ai, ap, aq⟩ := u
  obtain ⟨al, ae⟩ := v
  have rg : za_G aj g := rg
  have rl : za_L al g := rl
  have h0 : ae 0 = 0 := h0
  by_cases h : zv_2 v1 v2
  · obtain ⟨a, b, ha, hb, hab, rfl, rfl⟩ := h
    unfold wpX_needed
    dsimp only
    refine zv_X1 ha hb hab (br_f (by decide) ?_)
    refine zw_pw hg.1 rg (fun l fq am ao af ab ai ap aq M hM rm hz hd => ?_)
    rw [zV_S] at hd
    refine zj_part ha hb hab rg (fun aj1 rg1 => ?_)
    have hg1 : zg_G (zg_s g a b false) := zg_s_G hg ha hb hab
    refine zw_pw hg1.1 rg1 (fun l2 fq am ao af ab ai ap aq M hM rm hz hd2 => ?_)
    rw [zV_S] at hd2
    have l5 := zd_5 hd
    have l25 := zd_5 hd2
    -- the reference
    have yy : ∀ (ans : Int32) (fa fq : Int32) (aj am ao af ab ai ap aq : Nat → Int32), (g a b = true → za_G aj (zg_s (zg_s g a b false) a b true)) → (g a b = false → za_G aj (zg_s g a b false)) → ans = (if l ≤ l2 then 0 else 1) →
        wpY_needed (fun r' v' => r' = ans ∧ i_Rel (k + 3) (fa, fq, aj, am, ao, af, ab, ai, ap, aq) v') (al, ae) (nI a) (nI b) := fun ans fa fq aj am ao af ab ai ap aq r1 r2 hans => by
      have fin : ∀ (al' ae' : Nat → Int32), ae' 0 = 0 → (∃ g', zg_G g' ∧ za_G aj g' ∧ za_L al' g') → wY_needed_44 (fun r' v' => r' = ans ∧ i_Rel (k + 3) (fa, fq, aj, am, ao, af, ab, ai, ap, aq) v') (nI l) (nI l2) al' ae' := fun al' ae' e0 ⟨g', q1, q2, q3⟩ => by
        unfold wY_needed_44
        rw [nI_leI (by omega) (by omega)]
        refine br_c (fun q => ⟨?_, g', q1, q2, q3, e0⟩) (fun q => ⟨?_, g', q1, q2, q3, e0⟩)
        · rw [hans, if_pos q]
        · rw [hans, if_neg q]
      unfold wpY_needed
      dsimp only
      refine zv_Y0 ha hb hab (br_t rfl ?_)
      refine zo_most hg rl h0 hd (fun ae1 e1 => ?_)
      refine zl_set ha hb rl false (fun al1 rl1 => ?_)
      refine zo_most hg1 rl1 e1 hd2 (fun ae2 e2 => ?_)
      cases hgl : g a b
      · rw [if_pos rfl]
        exact br_f (by decide) (fin al1 ae2 e2 ⟨_, hg1, r2 hgl, rl1⟩)
      · rw [if_neg (by decide)]
        refine br_t rfl (zl_set ha hb rl1 true (fun al2 rl2 => ?_))
        exact fin al2 ae2 e2 ⟨_, zg_s_G hg1 ha hb hab, r1 hgl, rl2⟩
    have fin : ∀ (fa fq : Int32) (aj am ao af ab ai ap aq : Nat → Int32), (g a b = true → za_G aj (zg_s (zg_s g a b false) a b true)) → (g a b = false → za_G aj (zg_s g a b false)) →
        wX_needed_44 (fun r u' => wpY_needed (fun r' v' => r' = r ∧ i_Rel (k + 3) u' v') (al, ae) (nI a) (nI b)) (nI l) (nI l2) fa fq aj am ao af ab ai ap aq := fun fa fq aj am ao af ab ai ap aq r1 r2 => by
      unfold wX_needed_44
      rw [nI_leI (by omega) (by omega)]
      refine br_c (fun q => yy 0 _ _ _ _ _ _ _ _ _ _ r1 r2 ?_) (fun q => yy 1 _ _ _ _ _ _ _ _ _ _ r1 r2 ?_)
      · rw [if_pos q]
      · rw [if_neg q]
    cases hgl : g a b
    · rw [if_neg (by decide)]
      exact br_f (by decide) (fin _ _ _ _ _ _ _ _ _ _ (fun q => by rw [hgl] at q; exact absurd q (by decide)) (fun _ => rg1))
    · rw [if_pos rfl]
      refine br_t rfl (zj_join ha hb hab rg1 (fun aj2 rg2 => ?_))
      exact fin _ _ _ _ _ _ _ _ _ _ (fun _ => rg2) (fun q => by rw [hgl] at q; exact absurd q (by decide))
  · unfold wpX_needed
    dsimp only
    refine zv_X0 h (br_t rfl ?_)
    unfold wpY_needed
    dsimp only
    exact zv_Y1 h (br_f (by decide) ⟨rfl, g, hg, rg, rl, h0⟩)
theorem i_vc_guards {k : Nat} {u : SX} {v : SY} (I : i_Rel k u v) (hk : k + 3 ≤ 1536) : wpX_guards (fun r u' => wpY_guards (fun r' v' => r' = r ∧ i_Rel (k + 3) u' v') v) u := by
  obtain ⟨g, hg, rg, rl, h0⟩ := I
  obtain ⟨fa, fq, aj, am, ao, af, ab, ai, ap, aq⟩ := u
  obtain ⟨al, ae⟩ := v
  have rg : za_G aj g := rg
  have rl : za_L al g := rl
  have h0 : ae 0 = 0 := h0
  refine zx_guards hg rg (fun f x fa fq am ao af ab ai ap aq hf hx => ?_)
  refine zy_guards hg rl h0 (fun f' x' ae' hf' hx' e0 => ⟨?_, g, hg, rg, rl, e0⟩)
  rw [zG_fu hf' hf] at hx'
  exact zG_xu hx' hx
theorem i_vc_mostWithout {k : Nat} {u : SX} {v : SY} (I : i_Rel k u v) (hk : k + 3 ≤ 1536) (v1 : Int32) : wpX_mostWithout (fun r u' => wpY_mostWithout (fun r' v' => r' = r ∧ i_Rel (k + 3) u' v') v v1) u v1 := by
  obtain ⟨g, hg, rg, rl, h0⟩ := I
  obtain ⟨fa, fq, aj, am, ao, af, ab, ai, ap, aq⟩ := u
  obtain ⟨al, ae⟩ := v
  have rg : za_G aj g := rg
  have rl : za_L al g := rl
  have h0 : ae 0 = 0 := h0
  unfold wpX_mostWithout
  dsimp only
  refine zw_pw hg.1 rg (fun l fq am ao af ab ai ap aq M hM rm hz hd => ?_)
  show wpY_mostWithout _ _ _
  unfold wpY_mostWithout
  dsimp only
  refine zy_work hg rl h0 (fun ae' e0 T => ?_)
  have hb2 : ∀ i, i < 32 → bt (1023 &&& (v1 ^^^ (-1))) i = (decide (i < 10) && !bt v1 i) := fun i hi => by
    rw [b_and, zx_1023 i hi, b_xor, b_m1 i hi, Bool.xor_true]
  obtain ⟨i2, k2, z2, e2⟩ := zy_look T (x := 1023 &&& (v1 ^^^ (-1))) (S := zS (v1 &&& 1023)) (fun i q1 q2 => by rw [hb2 i q2, decide_eq_false (by omega), Bool.false_and]) (fun i => by
    unfold zS
    by_cases q : i < 10
    · rw [hb2 i (by omega), decide_eq_true q, b_and, zx_1023 i (by omega), decide_eq_true q, Bool.and_true]; rfl
    · rw [decide_eq_false q]; rfl)
  refine ⟨i2, ?_, g, hg, rg, rl, e0⟩
  dsimp only
  rw [e2, zd_uniq hd z2]
theorem i_vc_parts {k : Nat} {u : SX} {v : SY} (I : i_Rel k u v) (hk : k + 3 ≤ 1536) : wpX_parts (fun r u' => wpY_parts (fun r' v' => r' = r ∧ i_Rel (k + 3) u' v') v) u := by
  obtain ⟨g, hg, rg, rl, h0⟩ := I
  obtain ⟨fa, fq, aj, am, ao, af, ab, ai, ap, aq⟩ := u
  obtain ⟨al, ae⟩ := v
  have rg : za_G aj g := rg
  have rl : za_L al g := rl
  have h0 : ae 0 = 0 := h0
  unfold wpX_parts
  dsimp only
  refine zx_guards hg rg (fun f x fa fq am ao af ab ai ap aq hf hx => ?_)
  refine nm_e ⟨11, ?_⟩
  have hb2 : ∀ i, i < 32 → bt (1023 &&& (x ^^^ (-1))) i = (decide (i < 10) && !bt x i) := fun i hi => by
    rw [b_and, zx_1023 i hi, b_xor, b_m1 i hi, Bool.xor_true]
  obtain ⟨r, hX, hY⟩ := zz_parts (fa := fa) (fq := fq) (am := am) (ao := ao) (af := af) (ab := ab) (ai := ai) (ap := ap) (aq := aq) hg rg rl 10 0 (1023 &&& (x ^^^ (-1))) 0 rfl (fun j hj => absurd hj (by omega)) (fun j q1 q2 => by rw [hb2 j q2, decide_eq_false (by omega), Bool.false_and])
  refine hX 11 _ (by omega) ?_
  show wpY_parts _ _
  unfold wpY_parts
  dsimp only
  refine zy_guards hg rl h0 (fun f' x' ae' hf' hx' e0 => ?_)
  rw [zG_fu hf' hf] at hx'
  rw [zG_xu hx' hx]
  exact nm_e ⟨11, hY ae' 11 _ (by omega) ⟨rfl, g, hg, rg, rl, e0⟩⟩
end
